section
/-! ===== pure theory: sums ===== -/
def ed_sum (f : Nat → Nat) : Nat → Nat
  | 0 => 0
  | n + 1 => ed_sum f n + f n
theorem ed_sum_le {f g : Nat → Nat} {n : Nat} (h : ∀ i, i < n → f i ≤ g i) : ed_sum f n ≤ ed_sum g n := by
  induction n with
  | zero => exact Nat.le_refl 0
  | succ n ih =>
    have h1 := ih (fun i hi => h i (by omega))
    have h2 := h n (by omega)
    show ed_sum f n + f n ≤ ed_sum g n + g n
    omega
theorem ed_sum_eq {f g : Nat → Nat} {n : Nat} (h : ∀ i, i < n → f i = g i) : ed_sum f n = ed_sum g n :=
  Nat.le_antisymm (ed_sum_le (fun i hi => Nat.le_of_eq (h i hi))) (ed_sum_le (fun i hi => Nat.le_of_eq (h i hi).symm))
theorem ed_sum_0 {f : Nat → Nat} {n : Nat} (h : ∀ i, i < n → f i = 0) : ed_sum f n = 0 := by
  induction n with
  | zero => rfl
  | succ n ih =>
    show ed_sum f n + f n = 0
    rw [ih (fun i hi => h i (by omega)), h n (by omega)]
theorem ed_sum_one {f : Nat → Nat} {n b : Nat} (hb : b < n) : f b ≤ ed_sum f n := by
  induction n with
  | zero => omega
  | succ n ih =>
    show f b ≤ ed_sum f n + f n
    by_cases e : b = n
    · subst e; omega
    · have := ih (by omega)
      omega
theorem ed_sum_dec {f g : Nat → Nat} {n b x : Nat} (hb : b < n) (hx : g b + x = f b) (h : ∀ i, i < n → i ≠ b → g i = f i) : ed_sum g n + x = ed_sum f n := by
  induction n with
  | zero => omega
  | succ n ih =>
    show ed_sum g n + g n + x = ed_sum f n + f n
    by_cases e : b = n
    · subst e
      have := ed_sum_eq (f := g) (g := f) (n := b) (fun i hi => h i (by omega) (by omega))
      omega
    · have h1 := ih (by omega) (fun i hi hn => h i (by omega) hn)
      have h2 := h n (by omega) (fun z => e z.symm)
      omega
theorem ed_sum_bd {f : Nat → Nat} {n M : Nat} (h : ∀ i, i < n → f i ≤ M) : ed_sum f n ≤ n * M := by
  induction n with
  | zero => exact Nat.zero_le _
  | succ n ih =>
    have h1 := ih (fun i hi => h i (by omega))
    have h2 := h n (by omega)
    show ed_sum f n + f n ≤ (n + 1) * M
    rw [Nat.succ_mul]
    omega
/-! ===== demand ===== -/
def ed_df (p c d t : Nat) : Nat := if d ≤ t then ((t - d) / p + 1) * c else 0
def ed_di (on : Nat → Bool) (p c d : Nat → Nat) (t i : Nat) : Nat := if on i = true then ed_df (p i) (c i) (d i) t else 0
def ed_dem (on : Nat → Bool) (p c d : Nat → Nat) (t n : Nat) : Nat := ed_sum (ed_di on p c d t) n
def ed_Good (on : Nat → Bool) (p c d : Nat → Nat) : Prop := ∀ i, i < 26 → on i = true → 1 ≤ c i ∧ c i ≤ d i ∧ d i ≤ p i ∧ p i ∣ 60
def ed_Feas (on : Nat → Bool) (p c d : Nat → Nat) : Prop := ∀ s, s ≤ 60 → ed_dem on p c d s 26 ≤ s
def ed_ld (on : Nat → Bool) (p c : Nat → Nat) (i : Nat) : Nat := if on i = true then c i * (60 / p i) else 0
theorem ed_df_mono (p c d : Nat) {t t' : Nat} (h : t ≤ t') : ed_df p c d t ≤ ed_df p c d t' := by
  unfold ed_df
  by_cases h1 : d ≤ t
  · rw [if_pos h1, if_pos (show d ≤ t' by omega)]
    apply Nat.mul_le_mul_right
    have := Nat.div_le_div_right (c := p) (show t - d ≤ t' - d by omega)
    omega
  · rw [if_neg h1]
    exact Nat.zero_le _
theorem ed_dem_mono (on : Nat → Bool) (p c d : Nat → Nat) {t t' : Nat} (h : t ≤ t') (n : Nat) : ed_dem on p c d t n ≤ ed_dem on p c d t' n := by
  refine ed_sum_le (fun i _ => ?_)
  unfold ed_di
  by_cases o : on i = true
  · rw [if_pos o, if_pos o]
    exact ed_df_mono _ _ _ h
  · rw [if_neg o, if_neg o]
    exact Nat.le_refl 0
theorem ed_p60 {p : Nat} (h : p ∣ 60) : p ≤ 60 := Nat.le_of_dvd (by omega) h
theorem ed_dem_bd {on : Nat → Bool} {p c d : Nat → Nat} (hG : ed_Good on p c d) {t : Nat} (ht : t ≤ 60) : ed_dem on p c d t 26 ≤ 100000 := by
  have h : ed_dem on p c d t 26 ≤ 26 * 3660 := by
    refine ed_sum_bd (fun i hi => ?_)
    unfold ed_di
    by_cases o : on i = true
    · rw [if_pos o]
      obtain ⟨h1, h2, h3, h4⟩ := hG i hi o
      have h5 := ed_p60 h4
      unfold ed_df
      by_cases hd : d i ≤ t
      · rw [if_pos hd]
        have h6 : (t - d i) / p i ≤ t - d i := Nat.div_le_self _ _
        have h7 : ((t - d i) / p i + 1) * c i ≤ 61 * 60 := Nat.mul_le_mul (by omega) (by omega)
        omega
      · rw [if_neg hd]
        exact Nat.zero_le _
    · rw [if_neg o]
      exact Nat.zero_le _
  omega
/-! ===== the backwards test is sound ===== -/
def ed_Inv (on : Nat → Bool) (p c d : Nat → Nat) (t : Nat) : Prop := ed_dem on p c d t 26 ≤ t → ∀ s, t ≤ s → s ≤ 60 → ed_dem on p c d s 26 ≤ s
theorem ed_q0 (on : Nat → Bool) (p c d : Nat → Nat) : ed_Inv on p c d 60 := by
  intro h s h1 h2
  have : s = 60 := by omega
  subst this
  exact h
theorem ed_qa {on : Nat → Bool} {p c d : Nat → Nat} {t : Nat} (hI : ed_Inv on p c d t) (h : ed_dem on p c d t 26 ≤ t) : ed_Inv on p c d (ed_dem on p c d t 26) := by
  intro _ s h1 h2
  by_cases hs : s ≤ t
  · exact Nat.le_trans (ed_dem_mono on p c d hs 26) h1
  · exact hI h s (by omega) h2
theorem ed_qb {on : Nat → Bool} {p c d : Nat → Nat} {t t' : Nat} (hG : ed_Good on p c d) (hI : ed_Inv on p c d t) (h : ed_dem on p c d t 26 ≤ t)
    (hb : ∀ i, i < 26 → on i = true → d i < t → d i + (t - 1 - d i) / p i * p i ≤ t') : ed_Inv on p c d t' := by
  intro h' s h1 h2
  by_cases hs : t ≤ s
  · exact hI h s hs h2
  · refine Nat.le_trans ?_ (Nat.le_trans h' h1)
    refine ed_sum_le (fun i hi => ?_)
    unfold ed_di
    by_cases o : on i = true
    · rw [if_pos o, if_pos o]
      obtain ⟨g1, g2, g3, g4⟩ := hG i hi o
      unfold ed_df
      by_cases hd : d i ≤ s
      · have k1 := hb i hi o (by omega)
        have k2 : (s - d i) / p i ≤ (t - 1 - d i) / p i := Nat.div_le_div_right (by omega)
        have k3 : (t - 1 - d i) / p i ≤ (t' - d i) / p i := (Nat.le_div_iff_mul_le (by omega)).mpr (by omega)
        rw [if_pos hd, if_pos (show d i ≤ t' by omega)]
        exact Nat.mul_le_mul_right _ (by omega)
      · rw [if_neg hd]
        exact Nat.zero_le _
    · rw [if_neg o, if_neg o]
      exact Nat.le_refl 0
theorem ed_qe {on : Nat → Bool} {p c d : Nat → Nat} {t m : Nat} (hI : ed_Inv on p c d t) (h : ed_dem on p c d t 26 ≤ t) (hm : ed_dem on p c d t 26 ≤ m)
    (hl : ∀ i, i < 26 → on i = true → m ≤ d i) : ed_Feas on p c d := by
  intro s h2
  by_cases hs : t ≤ s
  · exact hI h s hs h2
  · by_cases hsm : m ≤ s
    · exact Nat.le_trans (ed_dem_mono on p c d (show s ≤ t by omega) 26) (by omega)
    · have : ed_dem on p c d s 26 = 0 := by
        refine ed_sum_0 (fun i hi => ?_)
        unfold ed_di
        by_cases o : on i = true
        · rw [if_pos o]
          have := hl i hi o
          unfold ed_df
          rw [if_neg (by omega)]
        · rw [if_neg o]
      omega
/-! ===== load = demand at 60 ===== -/
theorem ed_ld1 {p c d : Nat} (h1 : 1 ≤ d) (h2 : d ≤ p) (h3 : p ∣ 60) : c * (60 / p) = ed_df p c d 60 := by
  obtain ⟨m, hm⟩ := h3
  have hp : 0 < p := by omega
  have e1 : 60 / p = m := by rw [hm]; exact Nat.mul_div_cancel_left m hp
  cases m with
  | zero => omega
  | succ m =>
    have hle : p ≤ 60 := by
      have : p * 1 ≤ p * (m + 1) := Nat.mul_le_mul_left p (by omega)
      omega
    have e2 : (60 - d) / p = m := by
      have e3 : 60 - d = (p - d) + p * m := by
        rw [Nat.mul_succ] at hm
        omega
      rw [e3, Nat.add_mul_div_left _ _ hp, Nat.div_eq_of_lt (by omega)]
      omega
    unfold ed_df
    rw [if_pos (by omega), e1, e2, Nat.mul_comm]
theorem ed_load {on : Nat → Bool} {p c d : Nat → Nat} (hG : ed_Good on p c d) : ed_sum (ed_ld on p c) 26 = ed_dem on p c d 60 26 := by
  refine ed_sum_eq (fun i hi => ?_)
  unfold ed_ld ed_di
  by_cases o : on i = true
  · obtain ⟨g1, g2, g3, g4⟩ := hG i hi o
    rw [if_pos o, if_pos o]
    exact ed_ld1 (by omega) g3 g4
  · rw [if_neg o, if_neg o]
/-! ===== less parts, less demand ===== -/
theorem ed_feas_mono {on on' : Nat → Bool} {p c d p' c' d' : Nat → Nat} (h : ∀ i, i < 26 → on' i = true → on i = true ∧ p' i = p i ∧ c' i = c i ∧ d' i = d i) (hF : ed_Feas on p c d) : ed_Feas on' p' c' d' := by
  intro s hs
  refine Nat.le_trans (ed_sum_le (fun i hi => ?_)) (hF s hs)
  unfold ed_di
  by_cases o : on' i = true
  · obtain ⟨g1, g2, g3, g4⟩ := h i hi o
    rw [if_pos o, if_pos g1, g2, g3, g4]
    exact Nat.le_refl _
  · rw [if_neg o]
    exact Nat.zero_le _
end
section
/-! ===== earliest deadline first: the work that is left ===== -/
def ed_rm (p c d l r D : Nat) : Nat := if r + d ≤ D then l + (D - r - d) / p * c else 0
def ed_ri (on : Nat → Bool) (p c d l r : Nat → Nat) (D i : Nat) : Nat := if on i = true then ed_rm (p i) (c i) (d i) (l i) (r i) D else 0
def ed_R (on : Nat → Bool) (p c d l r : Nat → Nat) (D : Nat) : Nat := ed_sum (ed_ri on p c d l r D) 26
/-- one part's job: released at r, l of c slots still to run, the slowest response so far w -/
def ed_Job (p c d l r w now : Nat) : Prop := p ∣ r ∧ r ≤ 60 ∧ (r < 60 → 1 ≤ l ∧ l ≤ c ∧ c ≤ l + (now - r)) ∧ (60 ≤ r → l = 0) ∧ w ≤ d ∧ (0 < r → c ≤ w)
def ed_Run (on : Nat → Bool) (p c d l r w : Nat → Nat) (now : Nat) : Prop :=
  (∀ i, i < 26 → on i = true → ed_Job (p i) (c i) (d i) (l i) (r i) (w i) now) ∧ ∀ D, D ≤ 60 → ed_R on p c d l r D ≤ D - now
theorem ed_next {p r : Nat} (h1 : p ∣ r) (h2 : p ∣ 60) (h3 : r < 60) : r + p ≤ 60 := by
  obtain ⟨m, hm⟩ := h1
  obtain ⟨n, hn⟩ := h2
  have hmn : m < n := by
    rcases Nat.lt_or_ge m n with z | z
    · exact z
    · have := Nat.mul_le_mul_left p z
      omega
  have := Nat.mul_le_mul_left p (show m + 1 ≤ n from hmn)
  rw [Nat.mul_succ] at this
  omega
theorem ed_ri_le {on : Nat → Bool} {p c d l r : Nat → Nat} {i : Nat} (hi : i < 26) (o : on i = true) (D : Nat) : ed_rm (p i) (c i) (d i) (l i) (r i) D ≤ ed_R on p c d l r D := by
  have h := ed_sum_one (f := ed_ri on p c d l r D) hi
  have e : ed_ri on p c d l r D i = ed_rm (p i) (c i) (d i) (l i) (r i) D := by
    unfold ed_ri
    rw [if_pos o]
  rw [e] at h
  exact h
/-- a job that isn't done: it can still meet its deadline -/
theorem ed_live {on : Nat → Bool} {p c d l r w : Nat → Nat} {now i : Nat} (hG : ed_Good on p c d) (hR : ed_Run on p c d l r w now) (hi : i < 26) (o : on i = true) (hl : 0 < l i) : now + l i ≤ r i + d i ∧ r i + d i ≤ 60 ∧ r i < 60 := by
  obtain ⟨g1, g2, g3, g4⟩ := hG i hi o
  obtain ⟨j1, j2, j3, j4, j5, j6⟩ := hR.1 i hi o
  have hr : r i < 60 := by
    rcases Nat.lt_or_ge (r i) 60 with z | z
    · exact z
    · have := j4 z
      omega
  have h60 := ed_next j1 g4 hr
  have hD := hR.2 (r i + d i) (by omega)
  have h1 := ed_ri_le (p := p) (c := c) (d := d) (l := l) (r := r) hi o (r i + d i)
  unfold ed_rm at h1
  rw [if_pos (Nat.le_refl _), show r i + d i - r i - d i = 0 by omega, Nat.zero_div, Nat.zero_mul] at h1
  omega
/-- nothing pending with a deadline up to D, nothing released before e: the work left up to D is at most the demand of D - e -/
theorem ed_quiet {on : Nat → Bool} {p c d l r w : Nat → Nat} {now e D : Nat} (hG : ed_Good on p c d) (hF : ed_Feas on p c d) (hR : ed_Run on p c d l r w now) (hD : D ≤ 60)
    (hq : ∀ i, i < 26 → on i = true → 0 < l i → r i ≤ now → D < r i + d i) (hn : ∀ i, i < 26 → on i = true → 0 < l i → now < r i → e ≤ r i) : ed_R on p c d l r D ≤ D - e := by
  refine Nat.le_trans ?_ (hF (D - e) (by omega))
  refine ed_sum_le (fun i hi => ?_)
  unfold ed_ri ed_di
  by_cases o : on i = true
  · rw [if_pos o, if_pos o]
    obtain ⟨g1, g2, g3, g4⟩ := hG i hi o
    obtain ⟨j1, j2, j3, j4, j5, j6⟩ := hR.1 i hi o
    unfold ed_rm ed_df
    by_cases hd : r i + d i ≤ D
    · have hr : r i < 60 := by omega
      obtain ⟨k1, k2, k3⟩ := j3 hr
      have hnow : now < r i := by
        rcases Nat.lt_or_ge now (r i) with z | z
        · exact z
        · have := hq i hi o k1 z
          omega
      have he := hn i hi o k1 hnow
      rw [if_pos hd, if_pos (show d i ≤ D - e by omega), Nat.succ_mul]
      have m1 : (D - r i - d i) / p i ≤ (D - e - d i) / p i := Nat.div_le_div_right (by omega)
      have m2 := Nat.mul_le_mul_right (c i) m1
      omega
    · rw [if_neg hd]
      exact Nat.zero_le _
  · rw [if_neg o, if_neg o]
    exact Nat.le_refl 0
theorem ed_job_on {p c d l r w now e : Nat} (h : ed_Job p c d l r w now) (hn : now ≤ e) : ed_Job p c d l r w e := by
  obtain ⟨j1, j2, j3, j4, j5, j6⟩ := h
  refine ⟨j1, j2, fun z => ?_, j4, j5, j6⟩
  obtain ⟨k1, k2, k3⟩ := j3 z
  exact ⟨k1, k2, by omega⟩
theorem ed_ri_eq {on : Nat → Bool} {p c d l r l' r' : Nat → Nat} {D i : Nat} (h1 : l' i = l i) (h2 : r' i = r i) : ed_ri on p c d l' r' D i = ed_ri on p c d l r D i := by
  unfold ed_ri
  rw [h1, h2]
/-- an idle stretch -/
theorem ed_idl {on : Nat → Bool} {p c d l r w : Nat → Nat} {now e : Nat} (hG : ed_Good on p c d) (hF : ed_Feas on p c d) (hR : ed_Run on p c d l r w now) (hne : now ≤ e)
    (hq : ∀ i, i < 26 → on i = true → ¬ (0 < l i ∧ r i ≤ now)) (hn : ∀ i, i < 26 → on i = true → 0 < l i → now < r i → e ≤ r i) : ed_Run on p c d l r w e :=
  ⟨fun i hi o => ed_job_on (hR.1 i hi o) hne, fun D hD => ed_quiet hG hF hR hD (fun i hi o h1 h2 => absurd ⟨h1, h2⟩ (hq i hi o)) hn⟩
/-- a busy stretch: the work left falls by its length for every D from the runner's deadline on -/
theorem ed_busy {on : Nat → Bool} {p c d l r w l' r' w' : Nat → Nat} {now e b : Nat} (hG : ed_Good on p c d) (hF : ed_Feas on p c d) (hR : ed_Run on p c d l r w now) (hne : now ≤ e)
    (hb : b < 26) (ob : on b = true) (hlb : 0 < l b)
    (edf : ∀ i, i < 26 → on i = true → 0 < l i → r i ≤ now → r b + d b ≤ r i + d i) (hn : ∀ i, i < 26 → on i = true → 0 < l i → now < r i → e ≤ r i)
    (hl : ∀ i, i ≠ b → l' i = l i) (hr : ∀ i, i ≠ b → r' i = r i) (hw : ∀ i, i ≠ b → w' i = w i)
    (hj : ed_Job (p b) (c b) (d b) (l' b) (r' b) (w' b) e)
    (hm : ∀ D, D ≤ 60 → ed_rm (p b) (c b) (d b) (l' b) (r' b) D + (if r b + d b ≤ D then e - now else 0) = ed_rm (p b) (c b) (d b) (l b) (r b) D) :
    ed_Run on p c d l' r' w' e ∧ ed_R on p c d l' r' 60 + (e - now) = ed_R on p c d l r 60 := by
  have hS : ∀ D, D ≤ 60 → ed_R on p c d l' r' D + (if r b + d b ≤ D then e - now else 0) = ed_R on p c d l r D := by
    intro D hD
    refine ed_sum_dec hb ?_ (fun i _ hi => ed_ri_eq (hl i hi) (hr i hi))
    unfold ed_ri
    rw [if_pos ob, if_pos ob]
    exact hm D hD
  refine ⟨⟨fun i hi o => ?_, fun D hD => ?_⟩, ?_⟩
  · by_cases e1 : i = b
    · rw [e1]
      exact hj
    · rw [hl i e1, hr i e1, hw i e1]
      exact ed_job_on (hR.1 i hi o) hne
  · have h1 := hS D hD
    by_cases hd : r b + d b ≤ D
    · rw [if_pos hd] at h1
      have h2 := hR.2 D hD
      omega
    · rw [if_neg hd] at h1
      have h2 := ed_quiet (e := e) hG hF hR hD (fun i hi o k1 k2 => by have := edf i hi o k1 k2; omega) hn
      omega
  · have h1 := hS 60 (Nat.le_refl 60)
    rw [if_pos (ed_live hG hR hb ob hlb).2.1] at h1
    exact h1
theorem ed_part {on : Nat → Bool} {p c d l r w l' r' w' : Nat → Nat} {now e b : Nat} (hG : ed_Good on p c d) (hF : ed_Feas on p c d) (hR : ed_Run on p c d l r w now) (hne : now ≤ e)
    (hb : b < 26) (ob : on b = true) (hlb : 0 < l b) (hrb : r b ≤ now)
    (edf : ∀ i, i < 26 → on i = true → 0 < l i → r i ≤ now → r b + d b ≤ r i + d i) (hn : ∀ i, i < 26 → on i = true → 0 < l i → now < r i → e ≤ r i)
    (hl : ∀ i, i ≠ b → l' i = l i) (hr : ∀ i, i ≠ b → r' i = r i) (hw : ∀ i, i ≠ b → w' i = w i)
    (he : e < now + l b) (hl' : l' b = l b - (e - now)) (hr' : r' b = r b) (hw' : w' b = w b) :
    ed_Run on p c d l' r' w' e ∧ ed_R on p c d l' r' 60 + (e - now) = ed_R on p c d l r 60 := by
  refine ed_busy hG hF hR hne hb ob hlb edf hn hl hr hw ?_ ?_
  · obtain ⟨j1, j2, j3, j4, j5, j6⟩ := hR.1 b hb ob
    have h60 := (ed_live hG hR hb ob hlb).2.2
    obtain ⟨k1, k2, k3⟩ := j3 h60
    rw [hl', hr', hw']
    exact ⟨j1, j2, fun _ => ⟨by omega, by omega, by omega⟩, fun z => absurd z (by omega), j5, j6⟩
  · intro D _
    rw [hl', hr']
    unfold ed_rm
    by_cases hd : r b + d b ≤ D
    · rw [if_pos hd, if_pos hd, if_pos hd]
      omega
    · rw [if_neg hd, if_neg hd, if_neg hd]
theorem ed_done {on : Nat → Bool} {p c d l r w l' r' w' : Nat → Nat} {now e b : Nat} (hG : ed_Good on p c d) (hF : ed_Feas on p c d) (hR : ed_Run on p c d l r w now)
    (hb : b < 26) (ob : on b = true) (hlb : 0 < l b) (hrb : r b ≤ now)
    (edf : ∀ i, i < 26 → on i = true → 0 < l i → r i ≤ now → r b + d b ≤ r i + d i) (hn : ∀ i, i < 26 → on i = true → 0 < l i → now < r i → e ≤ r i)
    (hl : ∀ i, i ≠ b → l' i = l i) (hr : ∀ i, i ≠ b → r' i = r i) (hw : ∀ i, i ≠ b → w' i = w i)
    (he : e = now + l b) (hr' : r' b = r b + p b) (hl1 : r b + p b < 60 → l' b = c b) (hl2 : 60 ≤ r b + p b → l' b = 0)
    (hw1 : w b ≤ w' b) (hw2 : e - r b ≤ w' b) (hw3 : w' b = w b ∨ w' b = e - r b) :
    ed_Run on p c d l' r' w' e ∧ ed_R on p c d l' r' 60 + (e - now) = ed_R on p c d l r 60 := by
  obtain ⟨g1, g2, g3, g4⟩ := hG b hb ob
  obtain ⟨v1, v2, v3⟩ := ed_live hG hR hb ob hlb
  obtain ⟨j1, j2, j3, j4, j5, j6⟩ := hR.1 b hb ob
  obtain ⟨k1, k2, k3⟩ := j3 v3
  refine ed_busy hG hF hR (by omega) hb ob hlb edf hn hl hr hw ?_ ?_
  · rw [hr']
    refine ⟨(Nat.dvd_add_right j1).mpr (Nat.dvd_refl _), ed_next j1 g4 v3, fun z => ?_, hl2, ?_, fun _ => ?_⟩
    · rw [hl1 z]
      exact ⟨g1, Nat.le_refl _, by omega⟩
    · rcases hw3 with z | z
      · omega
      · omega
    · omega
  · intro D hD
    rw [hr', he]
    unfold ed_rm
    by_cases hd : r b + d b ≤ D
    · rw [if_pos hd, if_pos hd]
      by_cases hd2 : r b + p b + d b ≤ D
      · rw [if_pos hd2, hl1 (by omega)]
        have e1 : (D - r b - d b) / p b = (D - (r b + p b) - d b) / p b + 1 := by
          rw [show D - r b - d b = (D - (r b + p b) - d b) + p b by omega, Nat.add_div_right _ (by omega)]
        rw [e1, Nat.succ_mul]
        omega
      · rw [if_neg hd2, Nat.div_eq_of_lt (by omega), Nat.zero_mul]
        omega
    · rw [if_neg hd, if_neg hd, if_neg (by omega)]
/-- the start -/
theorem ed_start {on : Nat → Bool} {p c d l r w : Nat → Nat} (hG : ed_Good on p c d) (hF : ed_Feas on p c d) (h : ∀ i, i < 26 → on i = true → l i = c i ∧ r i = 0 ∧ w i = 0) :
    ed_Run on p c d l r w 0 ∧ ed_R on p c d l r 60 = ed_dem on p c d 60 26 := by
  have hS : ∀ D, ed_R on p c d l r D = ed_dem on p c d D 26 := by
    intro D
    refine ed_sum_eq (fun i hi => ?_)
    unfold ed_ri ed_di
    by_cases o : on i = true
    · obtain ⟨h1, h2, _⟩ := h i hi o
      rw [if_pos o, if_pos o, h1, h2]
      unfold ed_rm ed_df
      rw [Nat.zero_add, Nat.sub_zero]
      by_cases hd : d i ≤ D
      · rw [if_pos hd, if_pos hd, Nat.succ_mul]
        omega
      · rw [if_neg hd, if_neg hd]
    · rw [if_neg o, if_neg o]
  refine ⟨⟨fun i hi o => ?_, fun D hD => ?_⟩, hS 60⟩
  · obtain ⟨h1, h2, h3⟩ := h i hi o
    obtain ⟨g1, g2, g3, g4⟩ := hG i hi o
    rw [h1, h2, h3]
    exact ⟨Nat.dvd_zero _, by omega, fun _ => ⟨g1, Nat.le_refl _, by omega⟩, fun z => absurd z (by omega), Nat.zero_le _, fun z => absurd z (by omega)⟩
  · rw [hS D]
    exact hF D hD
/-- the end: every job is done, and in time -/
theorem ed_end {on : Nat → Bool} {p c d l r w : Nat → Nat} (hG : ed_Good on p c d) (hR : ed_Run on p c d l r w 60) {i : Nat} (hi : i < 26) (o : on i = true) : c i ≤ w i ∧ w i ≤ d i := by
  obtain ⟨j1, j2, j3, j4, j5, j6⟩ := hR.1 i hi o
  have hr : ¬ r i < 60 := by
    intro z
    obtain ⟨k1, k2, k3⟩ := j3 z
    have := ed_live hG hR hi o k1
    omega
  exact ⟨j6 (by omega), j5⟩
/-! ===== the slots of a plan ===== -/
def ed_idle (g : Nat → Int32) : Nat → Nat
  | 0 => 0
  | n + 1 => ed_idle g n + (if g n = -5 then 1 else 0)
theorem ed_idle_eq {g g' : Nat → Int32} : ∀ {n : Nat}, (∀ t, t < n → g' t = g t) → ed_idle g' n = ed_idle g n
  | 0, _ => rfl
  | n + 1, h => by
    show ed_idle g' n + (if g' n = -5 then 1 else 0) = ed_idle g n + (if g n = -5 then 1 else 0)
    rw [ed_idle_eq (fun t ht => h t (by omega)), h n (by omega)]
def ed_ext (g : Nat → Int32) (now : Nat) (v : Int32) : Nat → Int32 := fun t => if t < now then g t else v
theorem ed_idle_ext (g : Nat → Int32) (now : Nat) (v : Int32) : ∀ n, ed_idle (ed_ext g now v) (now + n) = ed_idle g now + (if v = -5 then n else 0)
  | 0 => by
    rw [show now + 0 = now from rfl, ed_idle_eq (g := g) (g' := ed_ext g now v) (fun t ht => if_pos ht)]
    by_cases h : v = -5
    · rw [if_pos h]
      rfl
    · rw [if_neg h]
      rfl
  | n + 1 => by
    show ed_idle (ed_ext g now v) (now + n) + (if ed_ext g now v (now + n) = -5 then 1 else 0) = _
    rw [ed_idle_ext g now v n, show ed_ext g now v (now + n) = v from if_neg (by omega)]
    by_cases h : v = -5
    · rw [if_pos h, if_pos h, if_pos h]
      omega
    · rw [if_neg h, if_neg h, if_neg h]
theorem ed_idle_le (g : Nat → Int32) : ∀ n, ed_idle g n ≤ n
  | 0 => Nat.le_refl 0
  | n + 1 => by
    have := ed_idle_le g n
    show ed_idle g n + (if g n = -5 then 1 else 0) ≤ n + 1
    by_cases h : g n = -5
    · rw [if_pos h]
      omega
    · rw [if_neg h]
      omega
end
section
/-! ===== pictures of the arrays ===== -/
def ew_on (k : Nat) (a3 : Nat → Int32) : Nat → Bool := fun i => decide (a3 i = nI k)
def ew_p (a2 : Nat → Int32) : Nat → Nat := fun i => (a2 (i / 2)).toNatClampNeg
def ew_c (a : Nat → Int32) : Nat → Nat := fun i => (a i).toNatClampNeg
/-- every part that is placed on a core has a period, a cost, a deadline that fit -/
def ew_Good (a2 a3 a4 a5 : Nat → Int32) : Prop := ∀ i, i < 26 → a3 i ≠ -1 → ∃ p c d : Nat, a2 (i / 2) = nI p ∧ a4 i = nI c ∧ a5 i = nI d ∧ 1 ≤ c ∧ c ≤ d ∧ d ≤ p ∧ p ∣ 60
def ew_Feas (k : Nat) (a2 a3 a4 a5 : Nat → Int32) : Prop := ed_Feas (ew_on k a3) (ew_p a2) (ew_c a4) (ew_c a5)
def ew_dem (k : Nat) (a2 a3 a4 a5 : Nat → Int32) (t n : Nat) : Nat := ed_dem (ew_on k a3) (ew_p a2) (ew_c a4) (ew_c a5) t n
def ew_load (k : Nat) (a2 a3 a4 : Nat → Int32) (n : Nat) : Nat := ed_sum (ed_ld (ew_on k a3) (ew_p a2) (ew_c a4)) n
theorem ew_m1s : ∀ k, k < 64 → nI k ≠ -1 := by decide +kernel
theorem ew_m1 {k : Nat} (hk : k < 3) : nI k ≠ -1 := ew_m1s k (by omega)
theorem ew_ix {i : Nat} (hi : i < 26) : (nI i).toNatClampNeg = i := nI_clamp (by omega)
theorem ew_half {i : Nat} (hi : i < 26) : nI i / 2 = nI (i / 2) := pk_div (d := 2) (by omega) (by omega) (by omega)
theorem ew_hx {i : Nat} (hi : i < 26) : (nI i / 2).toNatClampNeg = i / 2 := by
  rw [ew_half hi]
  exact nI_clamp (by omega)
theorem ew_hin {i : Nat} (hi : i < 26) : vp_in (nI i / 2) 13 := by
  rw [ew_half hi]
  exact vp_in_nI (by omega) (by omega)
theorem ew_at {a2 a3 a4 a5 : Nat → Int32} {k i : Nat} (hk : k < 3) (hG : ew_Good a2 a3 a4 a5) (hi : i < 26) (o : a3 i = nI k) :
    a2 (i / 2) = nI (ew_p a2 i) ∧ a4 i = nI (ew_c a4 i) ∧ a5 i = nI (ew_c a5 i) ∧ 1 ≤ ew_c a4 i ∧ ew_c a4 i ≤ ew_c a5 i ∧ ew_c a5 i ≤ ew_p a2 i ∧ ew_p a2 i ∣ 60 ∧ ew_p a2 i ≤ 60 := by
  obtain ⟨p, c, d, e2, e4, e5, g1, g2, g3, g4⟩ := hG i hi (by rw [o]; exact ew_m1 hk)
  have g5 := ed_p60 g4
  have h2 : ew_p a2 i = p := by
    unfold ew_p
    rw [e2]
    exact nI_clamp (by omega)
  have h4 : ew_c a4 i = c := by
    unfold ew_c
    rw [e4]
    exact nI_clamp (by omega)
  have h5 : ew_c a5 i = d := by
    unfold ew_c
    rw [e5]
    exact nI_clamp (by omega)
  rw [h2, h4, h5]
  exact ⟨e2, e4, e5, g1, g2, g3, g4, g5⟩
theorem ew_good {a2 a3 a4 a5 : Nat → Int32} {k : Nat} (hk : k < 3) (hG : ew_Good a2 a3 a4 a5) : ed_Good (ew_on k a3) (ew_p a2) (ew_c a4) (ew_c a5) := by
  intro i hi o
  obtain ⟨_, _, _, g1, g2, g3, g4, _⟩ := ew_at hk hG hi (of_decide_eq_true o)
  exact ⟨g1, g2, g3, g4⟩
theorem ew_dem_on {a2 a3 a4 a5 : Nat → Int32} {k i : Nat} (o : a3 i = nI k) (t : Nat) : ew_dem k a2 a3 a4 a5 t (i + 1) = ew_dem k a2 a3 a4 a5 t i + ed_df (ew_p a2 i) (ew_c a4 i) (ew_c a5 i) t := by
  show ew_dem k a2 a3 a4 a5 t i + ed_di (ew_on k a3) (ew_p a2) (ew_c a4) (ew_c a5) t i = _
  unfold ed_di
  rw [if_pos (show ew_on k a3 i = true from decide_eq_true o)]
theorem ew_dem_off {a2 a3 a4 a5 : Nat → Int32} {k i : Nat} (o : ¬ a3 i = nI k) (t : Nat) : ew_dem k a2 a3 a4 a5 t (i + 1) = ew_dem k a2 a3 a4 a5 t i := by
  show ew_dem k a2 a3 a4 a5 t i + ed_di (ew_on k a3) (ew_p a2) (ew_c a4) (ew_c a5) t i = _
  unfold ed_di
  rw [if_neg (show ¬ ew_on k a3 i = true from fun z => o (of_decide_eq_true z))]
  rfl
theorem ew_load_on {a2 a3 a4 : Nat → Int32} {k i : Nat} (o : a3 i = nI k) : ew_load k a2 a3 a4 (i + 1) = ew_load k a2 a3 a4 i + ew_c a4 i * (60 / ew_p a2 i) := by
  show ew_load k a2 a3 a4 i + ed_ld (ew_on k a3) (ew_p a2) (ew_c a4) i = _
  unfold ed_ld
  rw [if_pos (show ew_on k a3 i = true from decide_eq_true o)]
theorem ew_load_off {a2 a3 a4 : Nat → Int32} {k i : Nat} (o : ¬ a3 i = nI k) : ew_load k a2 a3 a4 (i + 1) = ew_load k a2 a3 a4 i := by
  show ew_load k a2 a3 a4 i + ed_ld (ew_on k a3) (ew_p a2) (ew_c a4) i = _
  unfold ed_ld
  rw [if_neg (show ¬ ew_on k a3 i = true from fun z => o (of_decide_eq_true z))]
  rfl
theorem ew_feas_mono {k : Nat} {a2 a3 a4 a5 b2 b3 b4 b5 : Nat → Int32} (h : ∀ i, i < 26 → b3 i = nI k → a3 i = nI k ∧ b2 (i / 2) = a2 (i / 2) ∧ b4 i = a4 i ∧ b5 i = a5 i) (hF : ew_Feas k a2 a3 a4 a5) : ew_Feas k b2 b3 b4 b5 := by
  refine ed_feas_mono (fun i hi o => ?_) hF
  obtain ⟨h1, h2, h3, h4⟩ := h i hi (of_decide_eq_true o)
  refine ⟨decide_eq_true h1, ?_, ?_, ?_⟩
  · unfold ew_p
    rw [h2]
  · unfold ew_c
    rw [h3]
  · unfold ew_c
    rw [h4]
section
variable {f0 f1 f2 f3 : Int32} {a1 a2 a3 a4 a5 a6 a7 a8 a9 a10 : Nat → Int32} {k : Nat}
theorem ew_loadOf {post : Int32 → Prop} (hk : k < 3) (hG : ew_Good a2 a3 a4 a5) (H : post (nI (ew_load k a2 a3 a4 26))) : wpX_loadOf post (f0, f1, f2, f3, a1, a2, a3, a4, a5, a6, a7, a8, a9, a10) (nI k) := by
  refine pk_loop (σ := Nat) (fun n i s => wX_loadOf_4 post (nI k) f0 f1 f2 f3 a1 a2 a3 a4 a5 a6 a7 a8 a9 a10 n (nI s) (nI i)) (fun i s => s = ew_load k a2 a3 a4 i) 26 0 0 (by omega) rfl ?_ ?_
  · intro n s hs
    subst hs
    exact pk_le 26 26 (fun _ => H) (fun z => absurd z (by omega))
  · intro n i s hi hs hw
    refine pk_le 26 i (fun z => absurd z (by omega)) (fun _ => ⟨pk_in i 26 hi, ?_⟩)
    rw [ew_ix hi, ew_hx hi]
    by_cases o : a3 i = nI k
    · obtain ⟨e2, e4, e5, g1, g2, g3, g4, g5⟩ := ew_at hk hG hi o
      refine br_t o ⟨pk_in i 26 hi, by decide, ew_hin hi, by rw [e2]; exact nI_ne0 (by omega) (by omega), nm_r (e' := nI (s + ew_c a4 i * (60 / ew_p a2 i))) ?_ (nm_r (nI_1 i) (hw _ ?_))⟩
      · have e : (60 : Int32) / nI (ew_p a2 i) = nI (60 / ew_p a2 i) := pk_div (a := 60) (by omega) (by omega) (by omega)
        rw [e2, e4, e, pk_mul, nI_add]
      · rw [hs, ew_load_on o]
    · exact br_f o (nm_r (nI_1 i) (hw _ (by rw [hs, ew_load_off o])))
theorem ew_demand {post : Int32 → Prop} {t : Nat} (hk : k < 3) (ht : t ≤ 60) (hG : ew_Good a2 a3 a4 a5) (H : post (nI (ew_dem k a2 a3 a4 a5 t 26))) : wpX_demand post (f0, f1, f2, f3, a1, a2, a3, a4, a5, a6, a7, a8, a9, a10) (nI k) (nI t) := by
  refine pk_loop (σ := Nat) (fun n i s => wX_demand_5 post (nI k) (nI t) f0 f1 f2 f3 a1 a2 a3 a4 a5 a6 a7 a8 a9 a10 n (nI s) (nI i)) (fun i s => s = ew_dem k a2 a3 a4 a5 t i) 26 0 0 (by omega) rfl ?_ ?_
  · intro n s hs
    subst hs
    exact pk_le 26 26 (fun _ => H) (fun z => absurd z (by omega))
  · intro n i s hi hs hw
    refine pk_le 26 i (fun z => absurd z (by omega)) (fun _ => ⟨pk_in i 26 hi, ?_⟩)
    rw [ew_ix hi, ew_hx hi]
    by_cases o : a3 i = nI k
    · obtain ⟨e2, e4, e5, g1, g2, g3, g4, g5⟩ := ew_at hk hG hi o
      refine br_t o ⟨pk_in i 26 hi, pk_lt t (ew_c a5 i) (fun z => nm_r (nI_1 i) (hw _ ?_)) (fun z => ⟨pk_in i 26 hi, by decide, ew_hin hi, by rw [e2]; exact nI_ne0 (by omega) (by omega), pk_in i 26 hi, nm_r (e' := nI (s + ((t - ew_c a5 i) / ew_p a2 i + 1) * ew_c a4 i)) ?_ (nm_r (nI_1 i) (hw _ ?_))⟩) rfl e5⟩
      · rw [hs, ew_dem_on o, ed_df, if_neg (by omega)]
        rfl
      · rw [e2, e4, e5, pk_sub z, pk_div (by omega) (by omega) (by omega), nI_1, pk_mul, nI_add]
      · rw [hs, ew_dem_on o, ed_df, if_pos z]
    · exact br_f o (nm_r (nI_1 i) (hw _ (by rw [hs, ew_dem_off o])))
theorem ew_least {post : Int32 → Prop} (hk : k < 3) (hG : ew_Good a2 a3 a4 a5) (H : ∀ m, m ≤ 60 → (∀ i, i < 26 → a3 i = nI k → m ≤ ew_c a5 i) → post (nI m)) : wpX_leastDeadline post (f0, f1, f2, f3, a1, a2, a3, a4, a5, a6, a7, a8, a9, a10) (nI k) := by
  refine pk_loop (σ := Nat) (fun n i s => wX_leastDeadline_5 post (nI k) f0 f1 f2 f3 a1 a2 a3 a4 a5 a6 a7 a8 a9 a10 n (nI s) (nI i)) (fun i s => s ≤ 60 ∧ ∀ j, j < i → a3 j = nI k → s ≤ ew_c a5 j) 26 0 60 (by omega) ⟨by omega, fun j hj => absurd hj (by omega)⟩ ?_ ?_
  · intro n s hs
    exact pk_le 26 26 (fun _ => H s hs.1 hs.2) (fun z => absurd z (by omega))
  · intro n i s hi hs hw
    obtain ⟨h60, hs⟩ := hs
    refine pk_le 26 i (fun z => absurd z (by omega)) (fun _ => ⟨pk_in i 26 hi, ?_⟩)
    rw [ew_ix hi]
    by_cases o : a3 i = nI k
    · obtain ⟨e2, e4, e5, g1, g2, g3, g4, g5⟩ := ew_at hk hG hi o
      refine br_t o ⟨pk_in i 26 hi, pk_le s (ew_c a5 i) (fun z => nm_r (nI_1 i) (hw s ⟨h60, ?_⟩)) (fun z => ⟨pk_in i 26 hi, nm_r e5 (nm_r (nI_1 i) (hw (ew_c a5 i) ⟨by omega, ?_⟩))⟩) rfl e5⟩
      · intro j hj oj
        by_cases e : j = i
        · rw [e]
          exact z
        · exact hs j (by omega) oj
      · intro j hj oj
        by_cases e : j = i
        · rw [e]
          exact Nat.le_refl _
        · exact Nat.le_trans (by omega) (hs j (by omega) oj)
    · refine br_f o (nm_r (nI_1 i) (hw s ⟨h60, fun j hj oj => ?_⟩))
      by_cases e : j = i
      · rw [e] at oj
        exact absurd oj o
      · exact hs j (by omega) oj
theorem ew_before {post : Int32 → Prop} {t : Nat} (hk : k < 3) (ht1 : 1 ≤ t) (ht : t ≤ 60) (hG : ew_Good a2 a3 a4 a5)
    (H : ∀ m, m ≤ 60 → (∀ i, i < 26 → a3 i = nI k → ew_c a5 i < t → ew_c a5 i + (t - 1 - ew_c a5 i) / ew_p a2 i * ew_p a2 i ≤ m) → post (nI m)) : wpX_deadlineBefore post (f0, f1, f2, f3, a1, a2, a3, a4, a5, a6, a7, a8, a9, a10) (nI k) (nI t) := by
  refine pk_loop (σ := Nat) (fun n i s => wX_deadlineBefore_5 post (nI k) (nI t) f0 f1 f2 f3 a1 a2 a3 a4 a5 a6 a7 a8 a9 a10 n (nI s) (nI i)) (fun i s => s ≤ 60 ∧ ∀ j, j < i → a3 j = nI k → ew_c a5 j < t → ew_c a5 j + (t - 1 - ew_c a5 j) / ew_p a2 j * ew_p a2 j ≤ s) 26 0 0 (by omega) ⟨by omega, fun j hj => absurd hj (by omega)⟩ ?_ ?_
  · intro n s hs
    exact pk_le 26 26 (fun _ => H s hs.1 hs.2) (fun z => absurd z (by omega))
  · intro n i s hi hs hw
    obtain ⟨h60, hs⟩ := hs
    refine pk_le 26 i (fun z => absurd z (by omega)) (fun _ => ⟨pk_in i 26 hi, ?_⟩)
    rw [ew_ix hi, ew_hx hi]
    by_cases o : a3 i = nI k
    · obtain ⟨e2, e4, e5, g1, g2, g3, g4, g5⟩ := ew_at hk hG hi o
      refine br_t o ⟨pk_in i 26 hi, pk_le t (ew_c a5 i) (fun z => nm_r (nI_1 i) (hw s ⟨h60, ?_⟩)) (fun z => ?_) rfl e5⟩
      · intro j hj oj hd
        by_cases e : j = i
        · rw [e] at hd
          exact absurd hd (by omega)
        · exact hs j (by omega) oj hd
      · have hle : (t - 1 - ew_c a5 i) / ew_p a2 i * ew_p a2 i ≤ t - 1 - ew_c a5 i := Nat.div_mul_le_self _ _
        have e1 : nI t - 1 = nI (t - 1) := pk_sub (b := 1) ht1
        have ev : a5 i + (nI t - 1 - a5 i) / a2 (i / 2) * a2 (i / 2) = nI (ew_c a5 i + (t - 1 - ew_c a5 i) / ew_p a2 i * ew_p a2 i) := by
          rw [e2, e5, e1, pk_sub (by omega), pk_div (by omega) (by omega) (by omega), pk_mul, nI_add]
        refine ⟨pk_in i 26 hi, pk_in i 26 hi, by decide, ew_hin hi, by rw [e2]; exact nI_ne0 (by omega) (by omega), by decide, ew_hin hi, nm_r ev ?_⟩
        refine pk_le (ew_c a5 i + (t - 1 - ew_c a5 i) / ew_p a2 i * ew_p a2 i) s (fun z2 => nm_r (nI_1 i) (hw s ⟨h60, ?_⟩)) (fun z2 => nm_r (nI_1 i) (hw _ ⟨by omega, ?_⟩))
        · intro j hj oj hd
          by_cases e : j = i
          · rw [e]
            exact z2
          · exact hs j (by omega) oj hd
        · intro j hj oj hd
          by_cases e : j = i
          · rw [e]
            exact Nat.le_refl _
          · exact Nat.le_trans (hs j (by omega) oj hd) (by omega)
    · refine br_f o (nm_r (nI_1 i) (hw s ⟨h60, fun j hj oj hd => ?_⟩))
      by_cases e : j = i
      · rw [e] at oj
        exact absurd oj o
      · exact hs j (by omega) oj hd
theorem ew_p92 {post : Int32 → Prop} {m t : Nat} (hm : m ≤ 60) (ht : t ≤ 60) (hl : ∀ i, i < 26 → a3 i = nI k → m ≤ ew_c a5 i) (hI : ed_Inv (ew_on k a3) (ew_p a2) (ew_c a4) (ew_c a5) t)
    (hbd : ew_dem k a2 a3 a4 a5 t 26 < 2 ^ 31) (H0 : post 0) (H1 : ew_Feas k a2 a3 a4 a5 → post 1) : wX_passes_92 post (nI m) (nI t) (nI (ew_dem k a2 a3 a4 a5 t 26)) f0 f1 f2 f3 a1 a2 a3 a4 a5 a6 a7 a8 a9 a10 :=
  pk_lt t (ew_dem k a2 a3 a4 a5 t 26) (fun _ => H0) (fun z => pk_lt m (ew_dem k a2 a3 a4 a5 t 26) (fun _ => H0) (fun z2 => H1 (ed_qe hI z z2 (fun i hi o => hl i hi (of_decide_eq_true o)))) rfl rfl (by omega) hbd) rfl rfl (by omega) hbd
theorem ew_p36 {post : Int32 → Prop} {m : Nat} (hk : k < 3) (hG : ew_Good a2 a3 a4 a5) (hm : m ≤ 60) (hl : ∀ i, i < 26 → a3 i = nI k → m ≤ ew_c a5 i) (H0 : post 0) (H1 : ew_Feas k a2 a3 a4 a5 → post 1) :
    ∃ n, wX_passes_36 post (nI k) (nI m) f0 f1 f2 f3 a1 a2 a3 a4 a5 a6 a7 a8 a9 a10 n 60 (nI (ew_dem k a2 a3 a4 a5 60 26)) 0 := by
  have hbd : ∀ t, t ≤ 60 → ew_dem k a2 a3 a4 a5 t 26 < 2 ^ 31 := fun t ht => Nat.lt_of_le_of_lt (ed_dem_bd (ew_good hk hG) ht) (by decide)
  refine pk_loop (σ := Nat) (fun n i t => wX_passes_36 post (nI k) (nI m) f0 f1 f2 f3 a1 a2 a3 a4 a5 a6 a7 a8 a9 a10 n (nI t) (nI (ew_dem k a2 a3 a4 a5 t 26)) (nI i)) (fun _ t => t ≤ 60 ∧ ed_Inv (ew_on k a3) (ew_p a2) (ew_c a4) (ew_c a5) t) 62 0 60 (by omega) ⟨by omega, ed_q0 _ _ _ _⟩ ?_ ?_
  · intro n t ht
    exact pk_le 62 62 (fun _ => ew_p92 hm ht.1 hl ht.2 (hbd t ht.1) H0 H1) (fun z => absurd z (by omega))
  · intro n i t hi ht hw
    obtain ⟨ht, hI⟩ := ht
    have hb := hbd t ht
    refine pk_le 62 i (fun z => absurd z (by omega)) (fun _ => pk_lt t (ew_dem k a2 a3 a4 a5 t 26) (fun _ => ew_p92 hm ht hl hI hb H0 H1) (fun z1 => pk_le (ew_dem k a2 a3 a4 a5 t 26) m (fun _ => ew_p92 hm ht hl hI hb H0 H1) (fun z2 => pk_le t (ew_dem k a2 a3 a4 a5 t 26) (fun z3 => ?_) (fun z3 => ?_) rfl rfl (by omega) hb) rfl rfl hb (by omega)) rfl rfl (by omega) hb)
    · refine ew_before hk (by omega) ht hG (fun t' ht' hb' => ?_)
      refine ew_demand hk ht' hG (nm_r (nI_1 i) (hw t' ⟨ht', ed_qb (ew_good hk hG) hI z1 (fun j hj o => hb' j hj (of_decide_eq_true o))⟩))
    · exact ew_demand hk (by omega) hG (nm_r (nI_1 i) (hw _ ⟨by omega, ed_qa hI z1⟩))
theorem ew_passes {post : Int32 → Prop} (hk : k < 3) (hG : ew_Good a2 a3 a4 a5) (H0 : post 0) (H1 : ew_Feas k a2 a3 a4 a5 → post 1) : wpX_passes post (f0, f1, f2, f3, a1, a2, a3, a4, a5, a6, a7, a8, a9, a10) (nI k) := by
  unfold wpX_passes
  dsimp only
  refine ew_loadOf hk hG (br_c (fun _ => ?_) (fun _ => H0))
  refine ew_least hk hG (fun m hm hl => ?_)
  exact ew_demand (t := 60) hk (by omega) hG (ew_p36 hk hG hm hl H0 H1)
theorem ew_setPart {post : St2 → Prop} {i : Nat} (hi : i < 26) {x y z : Int32} (H : post (f0, f1, f2, f3, a1, a2, upd a3 i x, upd a4 i y, upd a5 i z, a6, a7, a8, a9, a10)) : wpX_setPart post (f0, f1, f2, f3, a1, a2, a3, a4, a5, a6, a7, a8, a9, a10) (nI i) x y z := by
  refine ⟨pk_in i 26 hi, nm_r (e' := upd a3 i x) (by rw [ew_ix hi]) ⟨pk_in i 26 hi, nm_r (e' := upd a4 i y) (by rw [ew_ix hi]) ⟨pk_in i 26 hi, nm_r (e' := upd a5 i z) (by rw [ew_ix hi]) H⟩⟩⟩
end
theorem ew_upd2 {a : Nat → Int32} {i : Nat} {x y : Int32} (h : a i = y) : upd (upd a i x) i y = a := by
  funext j
  by_cases e : j = i
  · rw [e, pk_us, h]
  · rw [pk_un e, pk_un e]
theorem ew_good_upd {a2 a3 a4 a5 : Nat → Int32} {i p c d : Nat} {x : Int32} (hG : ew_Good a2 a3 a4 a5) (e2 : a2 (i / 2) = nI p) (h1 : 1 ≤ c) (h2 : c ≤ d) (h3 : d ≤ p) (h4 : p ∣ 60) : ew_Good a2 (upd a3 i x) (upd a4 i (nI c)) (upd a5 i (nI d)) := by
  intro j hj hn
  by_cases e : j = i
  · subst e
    exact ⟨p, c, d, e2, pk_us, pk_us, h1, h2, h3, h4⟩
  · rw [pk_un e] at hn
    rw [pk_un e, pk_un e]
    exact hG j hj hn
theorem ew_passesWith {f0 f1 f2 f3 : Int32} {a1 a2 a3 a4 a5 a6 a7 a8 a9 a10 : Nat → Int32} {k : Nat} {post : Int32 → St2 → Prop} {i p c d : Nat} (hk : k < 3) (hG : ew_Good a2 a3 a4 a5) (hi : i < 26) (h3 : a3 i = -1)
    (e2 : a2 (i / 2) = nI p) (g1 : 1 ≤ c) (g2 : c ≤ d) (g3 : d ≤ p) (g4 : p ∣ 60)
    (H : ∀ r, (r = 0 ∨ r = 1 ∧ ew_Feas k a2 (upd a3 i (nI k)) (upd a4 i (nI c)) (upd a5 i (nI d))) → post r (f0, f1, f2, f3, a1, a2, a3, upd a4 i (nI c), upd a5 i (nI d), a6, a7, a8, a9, a10)) :
    wpX_passesWith post (f0, f1, f2, f3, a1, a2, a3, a4, a5, a6, a7, a8, a9, a10) (nI k) (nI i) (nI c) (nI d) := by
  unfold wpX_passesWith
  dsimp only
  refine ew_setPart hi ?_
  dsimp only
  have e : upd (upd a3 i (nI k)) (nI i).toNatClampNeg (-1) = a3 := by
    rw [ew_ix hi]
    exact ew_upd2 h3
  refine ew_passes hk (ew_good_upd hG e2 g1 g2 g3 g4) ?_ (fun hF => ?_)
  · exact ⟨pk_in i 26 hi, nm_r e ⟨rfl, H 0 (Or.inl rfl)⟩⟩
  · exact ⟨pk_in i 26 hi, nm_r e ⟨rfl, H 1 (Or.inr ⟨rfl, hF⟩)⟩⟩
end
section
/-! ===== admission: what changes lies at the parts 2 id and 2 id + 1 ===== -/
def ew_Agr (id : Nat) (b a : Nat → Int32) : Prop := ∀ j, j ≠ 2 * id → j ≠ 2 * id + 1 → a j = b j
theorem ew_agr_refl (id : Nat) (b : Nat → Int32) : ew_Agr id b b := fun _ _ _ => rfl
theorem ew_agr_trans {id : Nat} {a b c : Nat → Int32} (h1 : ew_Agr id a b) (h2 : ew_Agr id b c) : ew_Agr id a c := fun j n0 n1 => by rw [h2 j n0 n1, h1 j n0 n1]
theorem ew_agr_0 {id : Nat} {b a : Nat → Int32} {x : Int32} (h : ew_Agr id b a) : ew_Agr id b (upd a (2 * id) x) := fun j n0 n1 => by rw [pk_un n0]; exact h j n0 n1
theorem ew_agr_1 {id : Nat} {b a : Nat → Int32} {x : Int32} (h : ew_Agr id b a) : ew_Agr id b (upd a (2 * id + 1) x) := fun j n0 n1 => by rw [pk_un n1]; exact h j n0 n1
theorem ew_good_agr {id : Nat} {a2 a3 a4 a5 b4 b5 : Nat → Int32} (hG : ew_Good a2 a3 b4 b5) (A4 : ew_Agr id b4 a4) (A5 : ew_Agr id b5 a5) (h0 : a3 (2 * id) = -1) (h1 : a3 (2 * id + 1) = -1) : ew_Good a2 a3 a4 a5 := by
  intro j hj hn
  have n0 : j ≠ 2 * id := fun z => hn (by rw [z]; exact h0)
  have n1 : j ≠ 2 * id + 1 := fun z => hn (by rw [z]; exact h1)
  rw [A4 j n0 n1, A5 j n0 n1]
  exact hG j hj hn
theorem ew_good_a2 {id : Nat} {a2 a3 a4 a5 : Nat → Int32} {x : Int32} (hG : ew_Good a2 a3 a4 a5) (h0 : a3 (2 * id) = -1) (h1 : a3 (2 * id + 1) = -1) : ew_Good (upd a2 id x) a3 a4 a5 := by
  intro j hj hn
  have n0 : j ≠ 2 * id := fun z => hn (by rw [z]; exact h0)
  have n1 : j ≠ 2 * id + 1 := fun z => hn (by rw [z]; exact h1)
  rw [pk_un (show j / 2 ≠ id by omega)]
  exact hG j hj hn
theorem ew_updd {a : Nat → Int32} {i : Nat} {x : Int32} : upd (upd a i x) i x = upd a i x := by
  funext j
  by_cases e : j = i
  · rw [e, pk_us, pk_us]
  · rw [pk_un e, pk_un e]
theorem ew_10 : ¬ (1 : Int32) = 0 := by decide
theorem ew_2 (id : Nat) : 2 * nI id = nI (2 * id) := pk_mul 2 id
theorem ew_21 (id : Nat) : 2 * nI id + 1 = nI (2 * id + 1) := by
  rw [ew_2, nI_1]
section
variable {f1 f2 f3 : Int32} {a1 a2 a3 b4 b5 a6 a7 a8 a9 a10 : Nat → Int32} {nc id p : Nat}
theorem ew_placeWhole {post : Int32 → St2 → Prop} {c d : Nat} (hn : nc ≤ 3) (hid : id < 12) (h30 : a3 (2 * id) = -1) (h31 : a3 (2 * id + 1) = -1) (e2 : a2 id = nI p) (g1 : 1 ≤ c) (g2 : c ≤ d) (g3 : d ≤ p) (g4 : p ∣ 60) (hG : ew_Good a2 a3 b4 b5)
    (H0 : ∀ a4 a5, ew_Agr id b4 a4 → ew_Agr id b5 a5 → post 0 (nI nc, f1, f2, f3, a1, a2, a3, a4, a5, a6, a7, a8, a9, a10))
    (H1 : ∀ k a4 a5, k < nc → ew_Agr id b4 a4 → ew_Agr id b5 a5 → a4 (2 * id) = nI c → a5 (2 * id) = nI d → ew_Feas k a2 (upd a3 (2 * id) (nI k)) a4 a5 → post 1 (nI nc, f1, f2, f3, a1, a2, upd a3 (2 * id) (nI k), a4, a5, a6, a7, a8, a9, a10)) :
    wpX_placeWhole post (nI nc, f1, f2, f3, a1, a2, a3, b4, b5, a6, a7, a8, a9, a10) (nI id) (nI c) (nI d) := by
  refine pk_loop (σ := (Nat → Int32) × (Nat → Int32)) (fun n i s => wX_placeWhole_3 post (nI id) (nI c) (nI d) n (nI i) (nI nc) f1 f2 f3 a1 a2 a3 s.1 s.2 a6 a7 a8 a9 a10) (fun _ s => ew_Agr id b4 s.1 ∧ ew_Agr id b5 s.2) nc 0 (b4, b5) (by omega) ⟨ew_agr_refl _ _, ew_agr_refl _ _⟩ ?_ ?_
  · intro n s hs
    exact pk_le nc nc (fun _ => H0 s.1 s.2 hs.1 hs.2) (fun z => absurd z (by omega))
  · intro n i s hi hs hw
    obtain ⟨a4, a5⟩ := s
    have A4 : ew_Agr id b4 a4 := hs.1
    have A5 : ew_Agr id b5 a5 := hs.2
    show wX_placeWhole_3 post (nI id) (nI c) (nI d) (n + 1) (nI i) (nI nc) f1 f2 f3 a1 a2 a3 a4 a5 a6 a7 a8 a9 a10
    refine pk_le nc i (fun z => absurd z (by omega)) (fun _ => ?_)
    rw [ew_2]
    refine ew_passesWith (p := p) (by omega) (ew_good_agr hG A4 A5 h30 h31) (by omega) h30 (by rw [show 2 * id / 2 = id by omega]; exact e2) g1 g2 g3 g4 (fun r hr => ?_)
    dsimp only
    rcases hr with hr | ⟨hr, hF⟩
    · subst hr
      exact br_t rfl (nm_r (nI_1 i) (hw (_, _) ⟨ew_agr_0 A4, ew_agr_0 A5⟩))
    · subst hr
      refine br_f (by decide) (ew_setPart (by omega) ?_)
      dsimp only
      rw [ew_updd, ew_updd]
      exact H1 i _ _ hi (ew_agr_0 A4) (ew_agr_0 A5) pk_us pk_us hF
theorem ew_coreForRest {post : Int32 → St2 → Prop} {i0 c d : Nat} (hn : nc ≤ 3) (hi0 : i0 < 3) (hid : id < 12) (h30 : a3 (2 * id) = -1) (h31 : a3 (2 * id + 1) = -1) (e2 : a2 id = nI p) (g1 : 1 ≤ c) (g2 : c ≤ d) (g3 : d ≤ p) (g4 : p ∣ 60) (hG : ew_Good a2 a3 b4 b5)
    (H0 : ∀ a4 a5, ew_Agr id b4 a4 → ew_Agr id b5 a5 → post (-1) (nI nc, f1, f2, f3, a1, a2, a3, a4, a5, a6, a7, a8, a9, a10))
    (H1 : ∀ k a4 a5, k < nc → k ≠ i0 → ew_Agr id b4 a4 → ew_Agr id b5 a5 → a4 (2 * id + 1) = nI c → a5 (2 * id + 1) = nI d → ew_Feas k a2 (upd a3 (2 * id + 1) (nI k)) a4 a5 → post (nI k) (nI nc, f1, f2, f3, a1, a2, a3, a4, a5, a6, a7, a8, a9, a10)) :
    wpX_coreForRest post (nI nc, f1, f2, f3, a1, a2, a3, b4, b5, a6, a7, a8, a9, a10) (nI id) (nI i0) (nI c) (nI d) := by
  refine pk_loop (σ := (Nat → Int32) × (Nat → Int32)) (fun n i s => wX_coreForRest_3 post (nI id) (nI i0) (nI c) (nI d) n (nI i) (nI nc) f1 f2 f3 a1 a2 a3 s.1 s.2 a6 a7 a8 a9 a10) (fun _ s => ew_Agr id b4 s.1 ∧ ew_Agr id b5 s.2) nc 0 (b4, b5) (by omega) ⟨ew_agr_refl _ _, ew_agr_refl _ _⟩ ?_ ?_
  · intro n s hs
    exact pk_le nc nc (fun _ => H0 s.1 s.2 hs.1 hs.2) (fun z => absurd z (by omega))
  · intro n i s hi hs hw
    obtain ⟨a4, a5⟩ := s
    have A4 : ew_Agr id b4 a4 := hs.1
    have A5 : ew_Agr id b5 a5 := hs.2
    show wX_coreForRest_3 post (nI id) (nI i0) (nI c) (nI d) (n + 1) (nI i) (nI nc) f1 f2 f3 a1 a2 a3 a4 a5 a6 a7 a8 a9 a10
    refine pk_le nc i (fun z => absurd z (by omega)) (fun _ => pk_eq i i0 (fun _ => nm_r (nI_1 i) (hw (_, _) ⟨A4, A5⟩)) (fun hne => ?_))
    rw [ew_21]
    refine ew_passesWith (p := p) (by omega) (ew_good_agr hG A4 A5 h30 h31) (by omega) h31 (by rw [show (2 * id + 1) / 2 = id by omega]; exact e2) g1 g2 g3 g4 (fun r hr => ?_)
    dsimp only
    rcases hr with hr | ⟨hr, hF⟩
    · subst hr
      exact br_t rfl (nm_r (nI_1 i) (hw (_, _) ⟨ew_agr_1 A4, ew_agr_1 A5⟩))
    · subst hr
      exact br_f (by decide) (H1 i _ _ hi hne (ew_agr_1 A4) (ew_agr_1 A5) pk_us pk_us hF)
end
/-- two cores that take the two parts of a task, x of its cost on the first -/
def ew_Spl (nc id x c d : Nat) (a2 a3 b4 b5 : Nat → Int32) (x5 x6 : Int32) : Prop :=
  ∃ i1 j1 : Nat, x6 = nI i1 ∧ x5 = nI j1 ∧ i1 < nc ∧ j1 < nc ∧ j1 ≠ i1 ∧
    (∃ B4 B5, ew_Agr id b4 B4 ∧ ew_Agr id b5 B5 ∧ B4 (2 * id) = nI x ∧ B5 (2 * id) = nI x ∧ ew_Feas i1 a2 (upd a3 (2 * id) (nI i1)) B4 B5) ∧
    (∃ B4 B5, ew_Agr id b4 B4 ∧ ew_Agr id b5 B5 ∧ B4 (2 * id + 1) = nI (c - x) ∧ B5 (2 * id + 1) = nI (d - x) ∧ ew_Feas j1 a2 (upd a3 (2 * id + 1) (nI j1)) B4 B5)
theorem ew_spl_1 {id x i1 j1 : Nat} {y z : Int32} {a2 a3 b4 b5 a4 a5 B4 B5 : Nat → Int32} (hi : i1 < 3) (hj : j1 < 3) (hne : j1 ≠ i1) (A4 : ew_Agr id b4 a4) (A5 : ew_Agr id b5 a5) (B4h : ew_Agr id b4 B4) (B5h : ew_Agr id b5 B5) (e4 : B4 (2 * id) = nI x) (e5 : B5 (2 * id) = nI x)
    (hF : ew_Feas i1 a2 (upd a3 (2 * id) (nI i1)) B4 B5) : ew_Feas i1 a2 (upd (upd a3 (2 * id) (nI i1)) (2 * id + 1) (nI j1)) (upd (upd a4 (2 * id) (nI x)) (2 * id + 1) y) (upd (upd a5 (2 * id) (nI x)) (2 * id + 1) z) := by
  refine ew_feas_mono (fun j hj3 o => ?_) hF
  by_cases n1 : j = 2 * id + 1
  · rw [n1, pk_us] at o
    exact absurd ((nI_eq (by omega) (by omega)).mp o) hne
  · rw [pk_un n1] at o
    rw [pk_un n1, pk_un n1]
    refine ⟨o, rfl, ?_, ?_⟩
    · by_cases n0 : j = 2 * id
      · rw [n0, pk_us, e4]
      · rw [pk_un n0, A4 j n0 n1, B4h j n0 n1]
    · by_cases n0 : j = 2 * id
      · rw [n0, pk_us, e5]
      · rw [pk_un n0, A5 j n0 n1, B5h j n0 n1]
theorem ew_spl_2 {id i1 j1 : Nat} {x y z : Int32} {a2 a3 b4 b5 a4 a5 B4 B5 : Nat → Int32} (hi : i1 < 3) (hj : j1 < 3) (hne : j1 ≠ i1) (A4 : ew_Agr id b4 a4) (A5 : ew_Agr id b5 a5) (B4h : ew_Agr id b4 B4) (B5h : ew_Agr id b5 B5) (e4 : B4 (2 * id + 1) = y) (e5 : B5 (2 * id + 1) = z)
    (hF : ew_Feas j1 a2 (upd a3 (2 * id + 1) (nI j1)) B4 B5) : ew_Feas j1 a2 (upd (upd a3 (2 * id) (nI i1)) (2 * id + 1) (nI j1)) (upd (upd a4 (2 * id) x) (2 * id + 1) y) (upd (upd a5 (2 * id) x) (2 * id + 1) z) := by
  refine ew_feas_mono (fun j hj3 o => ?_) hF
  by_cases n1 : j = 2 * id + 1
  · rw [n1, pk_us, pk_us, pk_us]
    exact ⟨rfl, rfl, e4.symm, e5.symm⟩
  · rw [pk_un n1] at o
    by_cases n0 : j = 2 * id
    · rw [n0, pk_us] at o
      exact absurd ((nI_eq (by omega) (by omega)).mp o).symm hne
    · rw [pk_un n0] at o
      rw [pk_un n1, pk_un n1, pk_un n1, pk_un n0, pk_un n0, A4 j n0 n1, B4h j n0 n1, A5 j n0 n1, B5h j n0 n1]
      exact ⟨o, rfl, rfl, rfl⟩
section
variable {f1 f2 f3 : Int32} {a1 a2 a3 b4 b5 a6 a7 a8 a9 a10 : Nat → Int32} {nc id p : Nat}
theorem ew_ps72 {post : Int32 → St2 → Prop} {x c d : Nat} {x5 x6 : Int32} {a4 a5 : Nat → Int32} (hn : nc ≤ 3) (hid : id < 12) (hxc : x < c) (hcd : c ≤ d) (A4 : ew_Agr id b4 a4) (A5 : ew_Agr id b5 a5)
    (hs : x6 = -1 ∨ ew_Spl nc id x c d a2 a3 b4 b5 x5 x6)
    (H0 : ∀ a4 a5, ew_Agr id b4 a4 → ew_Agr id b5 a5 → post 0 (nI nc, f1, f2, f3, a1, a2, a3, a4, a5, a6, a7, a8, a9, a10))
    (H1 : ∀ i1 j1 a4 a5, i1 < nc → j1 < nc → j1 ≠ i1 → ew_Agr id b4 a4 → ew_Agr id b5 a5 → a4 (2 * id) = nI x → a5 (2 * id) = nI x → a4 (2 * id + 1) = nI (c - x) → a5 (2 * id + 1) = nI (d - x) →
      ew_Feas i1 a2 (upd (upd a3 (2 * id) (nI i1)) (2 * id + 1) (nI j1)) a4 a5 → ew_Feas j1 a2 (upd (upd a3 (2 * id) (nI i1)) (2 * id + 1) (nI j1)) a4 a5 → post 1 (nI nc, f1, f2, f3, a1, a2, upd (upd a3 (2 * id) (nI i1)) (2 * id + 1) (nI j1), a4, a5, a6, a7, a8, a9, a10)) :
    wX_placeSplit_72 post (nI id) (nI x) (nI c) (nI d) x5 x6 (nI nc) f1 f2 f3 a1 a2 a3 a4 a5 a6 a7 a8 a9 a10 := by
  unfold wX_placeSplit_72
  rcases hs with hs | ⟨i1, j1, e6, e5, hi1, hj1, hne, ⟨B4, B5, k1, k2, k3, k4, k5⟩, ⟨C4, C5, l1, l2, l3, l4, l5⟩⟩
  · exact br_f (by rw [hs]; decide) (H0 a4 a5 A4 A5)
  · subst e6 e5
    rw [ew_21, ew_2, pk_sub (show x ≤ c by omega), pk_sub (show x ≤ d by omega)]
    refine br_t (nI_pos' (by omega)) (ew_setPart (by omega) ?_)
    dsimp only
    refine ew_setPart (by omega) ?_
    dsimp only
    exact H1 i1 j1 _ _ hi1 hj1 hne (ew_agr_1 (ew_agr_0 A4)) (ew_agr_1 (ew_agr_0 A5)) (by rw [pk_un (by omega), pk_us]) (by rw [pk_un (by omega), pk_us]) pk_us pk_us
      (ew_spl_1 (by omega) (by omega) hne A4 A5 k1 k2 k3 k4 k5) (ew_spl_2 (by omega) (by omega) hne A4 A5 l1 l2 l3 l4 l5)
theorem ew_placeSplit {post : Int32 → St2 → Prop} {x c d : Nat} (hn : nc ≤ 3) (hid : id < 12) (h30 : a3 (2 * id) = -1) (h31 : a3 (2 * id + 1) = -1) (e2 : a2 id = nI p) (hx : 1 ≤ x) (hxc : x < c) (g2 : c ≤ d) (g3 : d ≤ p) (g4 : p ∣ 60) (hG : ew_Good a2 a3 b4 b5)
    (H0 : ∀ a4 a5, ew_Agr id b4 a4 → ew_Agr id b5 a5 → post 0 (nI nc, f1, f2, f3, a1, a2, a3, a4, a5, a6, a7, a8, a9, a10))
    (H1 : ∀ i1 j1 a4 a5, i1 < nc → j1 < nc → j1 ≠ i1 → ew_Agr id b4 a4 → ew_Agr id b5 a5 → a4 (2 * id) = nI x → a5 (2 * id) = nI x → a4 (2 * id + 1) = nI (c - x) → a5 (2 * id + 1) = nI (d - x) →
      ew_Feas i1 a2 (upd (upd a3 (2 * id) (nI i1)) (2 * id + 1) (nI j1)) a4 a5 → ew_Feas j1 a2 (upd (upd a3 (2 * id) (nI i1)) (2 * id + 1) (nI j1)) a4 a5 → post 1 (nI nc, f1, f2, f3, a1, a2, upd (upd a3 (2 * id) (nI i1)) (2 * id + 1) (nI j1), a4, a5, a6, a7, a8, a9, a10)) :
    wpX_placeSplit post (nI nc, f1, f2, f3, a1, a2, a3, b4, b5, a6, a7, a8, a9, a10) (nI id) (nI x) (nI c) (nI d) := by
  refine pk_loop (σ := Int32 × Int32 × (Nat → Int32) × (Nat → Int32)) (fun n i s => wX_placeSplit_9 post (nI id) (nI x) (nI c) (nI d) n s.1 s.2.1 (nI i) (nI nc) f1 f2 f3 a1 a2 a3 s.2.2.1 s.2.2.2 a6 a7 a8 a9 a10)
    (fun _ s => ew_Agr id b4 s.2.2.1 ∧ ew_Agr id b5 s.2.2.2 ∧ (s.2.1 = -1 ∨ ew_Spl nc id x c d a2 a3 b4 b5 s.1 s.2.1)) nc 0 (-1, -1, b4, b5) (by omega) ⟨ew_agr_refl _ _, ew_agr_refl _ _, Or.inl rfl⟩ ?_ ?_
  · intro n s hs
    exact pk_le nc nc (fun _ => ew_ps72 hn hid hxc g2 hs.1 hs.2.1 hs.2.2 H0 H1) (fun z => absurd z (by omega))
  · intro n i s hi hs hw
    obtain ⟨x5, x6, a4, a5⟩ := s
    have A4 : ew_Agr id b4 a4 := hs.1
    have A5 : ew_Agr id b5 a5 := hs.2.1
    have hs3 : x6 = -1 ∨ ew_Spl nc id x c d a2 a3 b4 b5 x5 x6 := hs.2.2
    show wX_placeSplit_9 post (nI id) (nI x) (nI c) (nI d) (n + 1) x5 x6 (nI i) (nI nc) f1 f2 f3 a1 a2 a3 a4 a5 a6 a7 a8 a9 a10
    refine pk_le nc i (fun z => absurd z (by omega)) (fun _ => br_c (fun _ => ew_ps72 hn hid hxc g2 A4 A5 hs3 H0 H1) (fun h6 => ?_))
    have hx6 : x6 = -1 := by
      rcases hs3 with z | ⟨i1, j1, e6, e5, hi1, _⟩
      · exact z
      · rw [e6] at h6
        exact absurd (nI_pos' (by omega)) h6
    subst hx6
    rw [ew_2]
    refine ew_passesWith (p := p) (by omega) (ew_good_agr hG A4 A5 h30 h31) (by omega) h30 (by rw [show 2 * id / 2 = id by omega]; exact e2) hx (Nat.le_refl x) (by omega) g4 (fun r hr => ?_)
    dsimp only
    rcases hr with hr | ⟨hr, hF⟩
    · subst hr
      exact br_t rfl (nm_r (nI_1 i) (hw (_, _, _, _) ⟨ew_agr_0 A4, ew_agr_0 A5, Or.inl rfl⟩))
    · subst hr
      refine br_f (by decide) ?_
      rw [pk_sub (show x ≤ c by omega), pk_sub (show x ≤ d by omega)]
      refine ew_coreForRest (p := p) hn (by omega) hid h30 h31 e2 (by omega) (by omega) (by omega) g4 (ew_good_agr hG (ew_agr_0 A4) (ew_agr_0 A5) h30 h31) (fun c4 c5 C4 C5 => ?_) (fun j c4 c5 hj hne C4 C5 e4 e5 hF2 => ?_)
      · dsimp only
        exact br_t (by decide) (nm_r (nI_1 i) (hw (_, _, _, _) ⟨ew_agr_trans (ew_agr_0 A4) C4, ew_agr_trans (ew_agr_0 A5) C5, Or.inl rfl⟩))
      · dsimp only
        exact br_f (nI_pos (by omega)) (nm_r (nI_1 i) (hw (_, _, _, _) ⟨ew_agr_trans (ew_agr_0 A4) C4, ew_agr_trans (ew_agr_0 A5) C5,
          Or.inr ⟨i, j, rfl, rfl, hi, hj, hne, ⟨_, _, ew_agr_0 A4, ew_agr_0 A5, pk_us, pk_us, hF⟩, ⟨c4, c5, ew_agr_trans (ew_agr_0 A4) C4, ew_agr_trans (ew_agr_0 A5) C5, e4, e5, hF2⟩⟩⟩))
theorem ew_admit78 {post : Int32 → St2 → Prop} {c d : Nat} (hn : nc ≤ 3) (hid : id < 12) (h30 : a3 (2 * id) = -1) (h31 : a3 (2 * id + 1) = -1) (e2 : a2 id = nI p) (g2 : c ≤ d) (g3 : d ≤ p) (g4 : p ∣ 60) (hG : ew_Good a2 a3 b4 b5)
    (H0 : ∀ a4 a5, ew_Agr id b4 a4 → ew_Agr id b5 a5 → post (-4) (nI nc, f1, f2, f3, a1, a2, a3, a4, a5, a6, a7, a8, a9, a10))
    (H1 : ∀ x i1 j1 a4 a5, 1 ≤ x → x < c → i1 < nc → j1 < nc → j1 ≠ i1 → ew_Agr id b4 a4 → ew_Agr id b5 a5 → a4 (2 * id) = nI x → a5 (2 * id) = nI x → a4 (2 * id + 1) = nI (c - x) → a5 (2 * id + 1) = nI (d - x) →
      ew_Feas i1 a2 (upd (upd a3 (2 * id) (nI i1)) (2 * id + 1) (nI j1)) a4 a5 → ew_Feas j1 a2 (upd (upd a3 (2 * id) (nI i1)) (2 * id + 1) (nI j1)) a4 a5 → post (nI id) (nI nc, f1 + 1, -1, f3, upd a1 id 1, a2, upd (upd a3 (2 * id) (nI i1)) (2 * id + 1) (nI j1), a4, a5, a6, a7, a8, a9, a10)) :
    ∀ (m : Nat) (s : Int32 × (Nat → Int32) × (Nat → Int32) × (Nat → Int32)), m < c ∧ ((s.1 = 0 ∧ s.2.1 = a3 ∧ ew_Agr id b4 s.2.2.1 ∧ ew_Agr id b5 s.2.2.2) ∨ (¬ s.1 = 0 ∧ wX_admit_107 post (nI id) s.1 (nI nc) f1 f2 f3 a1 a2 s.2.1 s.2.2.1 s.2.2.2 a6 a7 a8 a9 a10)) →
      wX_admit_78 post (nI c) (nI d) (nI id) (m + 1) s.1 (nI m) (nI nc) f1 f2 f3 a1 a2 s.2.1 s.2.2.1 s.2.2.2 a6 a7 a8 a9 a10 := by
  have hp := ed_p60 g4
  refine pk_loopD (σ := Int32 × (Nat → Int32) × (Nat → Int32) × (Nat → Int32)) (fun n i s => wX_admit_78 post (nI c) (nI d) (nI id) n s.1 (nI i) (nI nc) f1 f2 f3 a1 a2 s.2.1 s.2.2.1 s.2.2.2 a6 a7 a8 a9 a10)
    (fun m s => m < c ∧ ((s.1 = 0 ∧ s.2.1 = a3 ∧ ew_Agr id b4 s.2.2.1 ∧ ew_Agr id b5 s.2.2.2) ∨ (¬ s.1 = 0 ∧ wX_admit_107 post (nI id) s.1 (nI nc) f1 f2 f3 a1 a2 s.2.1 s.2.2.1 s.2.2.2 a6 a7 a8 a9 a10))) ?_ ?_
  · intro n s hs
    obtain ⟨x5, c3, a4, a5⟩ := s
    show wX_admit_78 post (nI c) (nI d) (nI id) (n + 1) x5 (nI 0) (nI nc) f1 f2 f3 a1 a2 c3 a4 a5 a6 a7 a8 a9 a10
    refine br_t (by decide) ?_
    rcases hs.2 with ⟨e5, e3, A4, A5⟩ | ⟨_, h⟩
    · dsimp only at e5 e3 A4 A5
      subst e5 e3
      exact br_t rfl (H0 a4 a5 A4 A5)
    · exact h
  · intro n i s hs hw
    obtain ⟨x5, c3, a4, a5⟩ := s
    have hic : i + 1 < c := hs.1
    show wX_admit_78 post (nI c) (nI d) (nI id) (n + 1) x5 (nI (i + 1)) (nI nc) f1 f2 f3 a1 a2 c3 a4 a5 a6 a7 a8 a9 a10
    refine pk_lt (i + 1) 1 (fun z => absurd z (by omega)) (fun _ => ?_)
    rcases hs.2 with ⟨e5, e3, A4, A5⟩ | ⟨h5, h⟩
    · dsimp only at e5 e3 A4 A5
      subst e5 e3
      refine br_t rfl ?_
      refine ew_placeSplit (p := p) hn hid h30 h31 e2 (by omega) hic g2 g3 g4 (ew_good_agr hG A4 A5 h30 h31) (fun c4 c5 C4 C5 => ?_) (fun i1 j1 c4 c5 hi1 hj1 hne C4 C5 e4 e5 e4' e5' hF1 hF2 => ?_)
      · dsimp only
        exact nm_r (pk_m1 i) (hw (0, _, _, _) ⟨by omega, Or.inl ⟨rfl, rfl, ew_agr_trans A4 C4, ew_agr_trans A5 C5⟩⟩)
      · dsimp only
        refine nm_r (pk_m1 i) (hw (1, upd (upd c3 (2 * id) (nI i1)) (2 * id + 1) (nI j1), c4, c5) ⟨by omega, Or.inr ⟨ew_10, ?_⟩⟩)
        exact br_f ew_10 ⟨pk_in id 13 (by omega), nm_r (e' := upd a1 id 1) (by rw [nI_clamp (by omega)]) (nm_e (H1 (i + 1) i1 j1 c4 c5 (by omega) hic hi1 hj1 hne (ew_agr_trans A4 C4) (ew_agr_trans A5 C5) e4 e5 e4' e5' hF1 hF2))⟩
    · exact br_f h5 h
end
theorem ew_badPeriod {post : Int32 → Prop} {p : Nat} (h2 : 2 ≤ p) (h : p ∣ 60) (H : post 0) : wpX_badPeriod post () (nI p) := by
  have h60 := ed_p60 h
  have e : (60 : Int32) - 60 / nI p * nI p = 0 := by
    have e1 : nI 60 - nI 60 / nI p * nI p = nI (60 % p) := pk_rem (by omega) (by omega) (by omega)
    rw [Nat.mod_eq_zero_of_dvd h] at e1
    exact e1
  exact pk_lt p 2 (fun z => absurd z (by omega)) (fun _ => pk_lt 60 p (fun z => absurd z (by omega)) (fun _ => ⟨nI_ne0 (by omega) (by omega), br_t e H⟩))
theorem ew_freeId {post : Int32 → Prop} {f0 f1 f2 f3 : Int32} {a1 a2 a3 a4 a5 a6 a7 a8 a9 a10 : Nat → Int32} (h : ∃ i, i < 12 ∧ a1 i = 0) (H : ∀ id, id < 12 → a1 id = 0 → post (nI id)) : wpX_freeId post (f0, f1, f2, f3, a1, a2, a3, a4, a5, a6, a7, a8, a9, a10) := by
  obtain ⟨e, ⟨he, h0⟩, hlt⟩ := pk_least (fun i => i < 12 ∧ a1 i = 0) h
  refine pk_loop (σ := Unit) (fun n i _ => wX_freeId_2 post f0 f1 f2 f3 a1 a2 a3 a4 a5 a6 a7 a8 a9 a10 n (nI i)) (fun _ _ => True) e 0 () (by omega) trivial ?_ ?_
  · intro n _ _
    exact pk_le 12 e (fun z => absurd z (by omega)) (fun _ => ⟨pk_in e 13 (by omega), br_t (by rw [nI_clamp (by omega)]; exact h0) (H e he h0)⟩)
  · intro n i _ hi _ hw
    exact pk_le 12 i (fun z => absurd z (by omega)) (fun _ => ⟨pk_in i 13 (by omega), br_f (by rw [nI_clamp (by omega)]; exact fun z => hlt i hi ⟨by omega, z⟩) (nm_r (nI_1 i) (hw () trivial))⟩)
theorem ew_admit {post : Int32 → St2 → Prop} {f2 f3 : Int32} {a1 a2 a3 a4 a5 a6 a7 a8 a9 a10 : Nat → Int32} {nc q c d p : Nat} (hn : nc ≤ 3) (hq : q ≤ 12) (g1 : 1 ≤ c) (g2 : c ≤ d) (g3 : d ≤ p) (h2 : 2 ≤ p) (g4 : p ∣ 60) (hG : ew_Good a2 a3 a4 a5)
    (hfr : q < 12 → ∃ i, i < 12 ∧ a1 i = 0) (h3 : ∀ id, id < 12 → a1 id = 0 → a3 (2 * id) = -1 ∧ a3 (2 * id + 1) = -1)
    (HF : post (-3) (nI nc, nI q, f2, f3, a1, a2, a3, a4, a5, a6, a7, a8, a9, a10))
    (H0 : ∀ id b4 b5, id < 12 → a1 id = 0 → ew_Agr id a4 b4 → ew_Agr id a5 b5 → post (-4) (nI nc, nI q, f2, f3, a1, upd a2 id (nI p), a3, b4, b5, a6, a7, a8, a9, a10))
    (HW : ∀ id k b4 b5, id < 12 → a1 id = 0 → k < nc → ew_Agr id a4 b4 → ew_Agr id a5 b5 → b4 (2 * id) = nI c → b5 (2 * id) = nI d → ew_Feas k (upd a2 id (nI p)) (upd a3 (2 * id) (nI k)) b4 b5 →
      post (nI id) (nI nc, nI (q + 1), -1, f3, upd a1 id 1, upd a2 id (nI p), upd a3 (2 * id) (nI k), b4, b5, a6, a7, a8, a9, a10))
    (HS : ∀ id x i1 j1 b4 b5, id < 12 → a1 id = 0 → 1 ≤ x → x < c → i1 < nc → j1 < nc → j1 ≠ i1 → ew_Agr id a4 b4 → ew_Agr id a5 b5 → b4 (2 * id) = nI x → b5 (2 * id) = nI x → b4 (2 * id + 1) = nI (c - x) → b5 (2 * id + 1) = nI (d - x) →
      ew_Feas i1 (upd a2 id (nI p)) (upd (upd a3 (2 * id) (nI i1)) (2 * id + 1) (nI j1)) b4 b5 → ew_Feas j1 (upd a2 id (nI p)) (upd (upd a3 (2 * id) (nI i1)) (2 * id + 1) (nI j1)) b4 b5 →
      post (nI id) (nI nc, nI (q + 1), -1, f3, upd a1 id 1, upd a2 id (nI p), upd (upd a3 (2 * id) (nI i1)) (2 * id + 1) (nI j1), b4, b5, a6, a7, a8, a9, a10)) :
    wpX_admit post (nI nc, nI q, f2, f3, a1, a2, a3, a4, a5, a6, a7, a8, a9, a10) (nI c) (nI d) (nI p) := by
  have hp := ed_p60 g4
  unfold wpX_admit
  dsimp only
  refine ew_badPeriod h2 g4 (br_t rfl ?_)
  refine pk_lt c 1 (fun z => absurd z (by omega)) (fun _ => pk_lt p c (fun z => absurd z (by omega)) (fun _ => pk_lt d 1 (fun z => absurd z (by omega)) (fun _ => pk_lt p d (fun z => absurd z (by omega)) (fun _ => pk_le c d (fun _ => ?_) (fun z => absurd z (by omega))))))
  refine pk_lt q 12 (fun hq12 => ?_) (fun _ => HF)
  refine ew_freeId (hfr hq12) (fun id hid h1 => ?_)
  obtain ⟨h30, h31⟩ := h3 id hid h1
  refine ⟨pk_in id 13 (by omega), nm_r (e' := upd a2 id (nI p)) (by rw [nI_clamp (by omega)]) ?_⟩
  have e2 : upd a2 id (nI p) id = nI p := pk_us
  have hG' := ew_good_a2 (x := nI p) hG h30 h31
  have ec : nI c - 1 = nI (c - 1) := pk_sub (b := 1) g1
  refine ew_placeWhole (p := p) hn hid h30 h31 e2 g1 g2 g3 g4 hG' (fun b4 b5 A4 A5 => ?_) (fun k b4 b5 hk A4 A5 e4 e5 hF => ?_)
  · dsimp only
    refine nm_r ec ⟨c - 1 + 1, ?_⟩
    refine ew_admit78 (p := p) (f1 := nI q) (f2 := f2) (f3 := f3) (a1 := a1) (a3 := a3) (b4 := a4) (b5 := a5) (a6 := a6) (a7 := a7) (a8 := a8) (a9 := a9) (a10 := a10) hn hid h30 h31 e2 g2 g3 g4 hG' (fun c4 c5 C4 C5 => H0 id c4 c5 hid h1 C4 C5) (fun x i1 j1 c4 c5 hx hxc hi1 hj1 hne C4 C5 k1 k2 k3 k4 k5 k6 => ?_) (c - 1) (0, a3, b4, b5) ⟨by omega, Or.inl ⟨rfl, rfl, A4, A5⟩⟩
    rw [nI_1]
    exact HS id x i1 j1 c4 c5 hid h1 hx hxc hi1 hj1 hne C4 C5 k1 k2 k3 k4 k5 k6
  · dsimp only
    refine nm_r ec ⟨c - 1 + 1, ?_⟩
    refine ew_admit78 (p := p) (f1 := nI q) (f2 := f2) (f3 := f3) (a1 := a1) (a3 := a3) (b4 := a4) (b5 := a5) (a6 := a6) (a7 := a7) (a8 := a8) (a9 := a9) (a10 := a10) hn hid h30 h31 e2 g2 g3 g4 hG' (fun c4 c5 C4 C5 => H0 id c4 c5 hid h1 C4 C5) (fun x i1 j1 c4 c5 hx hxc hi1 hj1 hne C4 C5 k1 k2 k3 k4 k5 k6 => ?_) (c - 1) (1, upd a3 (2 * id) (nI k), b4, b5) ⟨by omega, Or.inr ⟨ew_10, ?_⟩⟩
    · rw [nI_1]
      exact HS id x i1 j1 c4 c5 hid h1 hx hxc hi1 hj1 hne C4 C5 k1 k2 k3 k4 k5 k6
    · exact br_f ew_10 ⟨pk_in id 13 (by omega), nm_r (e' := upd a1 id 1) (by rw [nI_clamp (by omega)]) (nm_r (nI_1 q) (HW id k b4 b5 hid h1 hk A4 A5 e4 e5 hF))⟩
end
section
/-! ===== the plan of one core ===== -/
theorem ew_c_n {a : Nat → Int32} {b i : Nat} {x : Int32} (h : i ≠ b) : ew_c (upd a b x) i = ew_c a i := by
  unfold ew_c
  rw [pk_un h]
theorem ew_c_s {a : Nat → Int32} {b x : Nat} (h : x < 2 ^ 31) : ew_c (upd a b (nI x)) b = x := by
  unfold ew_c
  rw [pk_us]
  exact nI_clamp h
theorem ew_rep {a : Nat → Int32} {b i x : Nat} (hx : x < 2 ^ 31) (h : a i = nI (ew_c a i)) : upd a b (nI x) i = nI (ew_c (upd a b (nI x)) i) := by
  by_cases e : i = b
  · rw [e, pk_us, ew_c_s hx]
  · rw [pk_un e, ew_c_n e]
    exact h
def ew_R (k : Nat) (a2 a3 a4 a5 a8 a9 : Nat → Int32) : Nat := ed_R (ew_on k a3) (ew_p a2) (ew_c a4) (ew_c a5) (ew_c a8) (ew_c a9) 60
/-- the jobs of core k at 'now' -/
def ew_RS (k : Nat) (a2 a3 a4 a5 a8 a9 a10 : Nat → Int32) (now : Nat) : Prop :=
  (∀ i, i < 26 → a3 i = nI k → a8 i = nI (ew_c a8 i) ∧ a9 i = nI (ew_c a9 i) ∧ a10 i = nI (ew_c a10 i)) ∧ ed_Run (ew_on k a3) (ew_p a2) (ew_c a4) (ew_c a5) (ew_c a8) (ew_c a9) (ew_c a10) now
theorem ew_rs_at {k : Nat} {a2 a3 a4 a5 a8 a9 a10 : Nat → Int32} {now i : Nat} (hk : k < 3) (hG : ew_Good a2 a3 a4 a5) (hR : ew_RS k a2 a3 a4 a5 a8 a9 a10 now) (hi : i < 26) (o : a3 i = nI k) :
    a8 i = nI (ew_c a8 i) ∧ a9 i = nI (ew_c a9 i) ∧ a10 i = nI (ew_c a10 i) ∧ ew_c a8 i ≤ 60 ∧ ew_c a9 i ≤ 60 ∧ ew_c a10 i ≤ 60 ∧ (ew_c a8 i = 0 → 60 ≤ ew_c a9 i) := by
  obtain ⟨e8, e9, e10⟩ := hR.1 i hi o
  obtain ⟨_, _, _, g1, g2, g3, g4, g5⟩ := ew_at hk hG hi o
  obtain ⟨j1, j2, j3, j4, j5, j6⟩ := hR.2.1 i hi (decide_eq_true o)
  refine ⟨e8, e9, e10, ?_, j2, by omega, fun z => ?_⟩
  · rcases Nat.lt_or_ge (ew_c a9 i) 60 with z | z
    · have := (j3 z).2.1
      omega
    · have := j4 z
      omega
  · rcases Nat.lt_or_ge (ew_c a9 i) 60 with z2 | z2
    · have := (j3 z2).1
      omega
    · exact z2
section
variable {f0 f1 f2 f3 : Int32} {a1 a2 a3 a4 a5 a6 a7 a8 a9 a10 : Nat → Int32} {k : Nat}
theorem ew_adv51 {post : St2 → Prop} {b r p : Nat} (hb : b < 26) (hr : r ≤ 60) (hp : p ≤ 60) (e9 : a9 b = nI r) (e2 : a2 (b / 2) = nI p)
    (H1 : 60 ≤ r + p → post (f0, f1, f2, f3, a1, a2, a3, a4, a5, a6, a7, upd a8 b 0, upd a9 b (nI (r + p)), a10))
    (H2 : r + p < 60 → post (f0, f1, f2, f3, a1, a2, a3, a4, a5, a6, a7, upd a8 b (a4 b), upd a9 b (nI (r + p)), a10)) : wX_advance_51 post (nI b) f0 f1 f2 f3 a1 a2 a3 a4 a5 a6 a7 a8 a9 a10 := by
  unfold wX_advance_51
  rw [ew_ix hb, ew_hx hb]
  refine ⟨pk_in b 26 hb, by decide, ew_hin hb, pk_in b 26 hb, nm_r (e' := upd a9 b (nI (r + p))) (by rw [e9, e2, nI_add]) ⟨pk_in b 26 hb, ?_⟩⟩
  rw [pk_us]
  exact pk_le 60 (r + p) (fun z => ⟨pk_in b 26 hb, nm_e (H1 z)⟩) (fun z => ⟨pk_in b 26 hb, pk_in b 26 hb, nm_e (H2 z)⟩)
theorem ew_advance {post : St2 → Prop} {b now e : Nat} (hk : k < 3) (hG : ew_Good a2 a3 a4 a5) (hF : ew_Feas k a2 a3 a4 a5) (hR : ew_RS k a2 a3 a4 a5 a8 a9 a10 now) (hb : b < 26) (ob : a3 b = nI k) (hlb : 0 < ew_c a8 b) (hrb : ew_c a9 b ≤ now)
    (edf : ∀ i, i < 26 → a3 i = nI k → 0 < ew_c a8 i → ew_c a9 i ≤ now → ew_c a9 b + ew_c a5 b ≤ ew_c a9 i + ew_c a5 i) (hn : ∀ i, i < 26 → a3 i = nI k → 0 < ew_c a8 i → now < ew_c a9 i → e ≤ ew_c a9 i)
    (hne : now < e) (he : e ≤ now + ew_c a8 b) (he60 : e ≤ 60)
    (H : ∀ b8 b9 b10, ew_RS k a2 a3 a4 a5 b8 b9 b10 e → ew_R k a2 a3 a4 a5 b8 b9 + (e - now) = ew_R k a2 a3 a4 a5 a8 a9 → post (f0, f1, f2, f3, a1, a2, a3, a4, a5, a6, a7, b8, b9, b10)) :
    wpX_advance post (f0, f1, f2, f3, a1, a2, a3, a4, a5, a6, a7, a8, a9, a10) (nI b) (nI now) (nI e) := by
  obtain ⟨e2, e4, e5, g1, g2, g3, g4, g5⟩ := ew_at hk hG hb ob
  obtain ⟨e8, e9, e10, q8, q9, q10, _⟩ := ew_rs_at hk hG hR hb ob
  have hG' := ew_good hk hG
  have ob' : ew_on k a3 b = true := decide_eq_true ob
  have edf' : ∀ i, i < 26 → ew_on k a3 i = true → 0 < ew_c a8 i → ew_c a9 i ≤ now → ew_c a9 b + ew_c a5 b ≤ ew_c a9 i + ew_c a5 i := fun i hi o => edf i hi (of_decide_eq_true o)
  have hn' : ∀ i, i < 26 → ew_on k a3 i = true → 0 < ew_c a8 i → now < ew_c a9 i → e ≤ ew_c a9 i := fun i hi o => hn i hi (of_decide_eq_true o)
  unfold wpX_advance
  dsimp only
  rw [ew_ix hb]
  refine ⟨pk_in b 26 hb, pk_in b 26 hb, nm_r (e' := upd a8 b (nI (ew_c a8 b - (e - now)))) (by rw [e8, pk_sub (Nat.le_of_lt hne), pk_sub (by omega)]) ⟨pk_in b 26 hb, ?_⟩⟩
  rw [pk_us]
  refine pk_le (ew_c a8 b - (e - now)) 0 (fun z => ?_) (fun z => ?_)
  · have hend : e = now + ew_c a8 b := by omega
    have fin : ∀ (x w' : Nat) (c8 c10 : Nat → Int32), x < 2 ^ 31 → (∀ i, i ≠ b → c8 i = a8 i) → c8 b = nI x → (∀ i, i ≠ b → c10 i = a10 i) → c10 b = nI w' → w' ≤ 60 → (ew_c a9 b + ew_p a2 b < 60 → x = ew_c a4 b) → (60 ≤ ew_c a9 b + ew_p a2 b → x = 0) → ew_c a10 b ≤ w' → e - ew_c a9 b ≤ w' → (w' = ew_c a10 b ∨ w' = e - ew_c a9 b) →
        post (f0, f1, f2, f3, a1, a2, a3, a4, a5, a6, a7, c8, upd a9 b (nI (ew_c a9 b + ew_p a2 b)), c10) := by
      intro x w' c8 c10 hx k8 k8b k10 k10b hw' hx1 hx2 hw1 hw2 hw3
      have n8 : ∀ i, i ≠ b → ew_c c8 i = ew_c a8 i := fun i hi => by
        unfold ew_c
        rw [k8 i hi]
      have n10 : ∀ i, i ≠ b → ew_c c10 i = ew_c a10 i := fun i hi => by
        unfold ew_c
        rw [k10 i hi]
      have v8 : ew_c c8 b = x := by
        unfold ew_c
        rw [k8b]
        exact nI_clamp hx
      have v10 : ew_c c10 b = w' := by
        unfold ew_c
        rw [k10b]
        exact nI_clamp (by omega)
      have v9 : ew_c (upd a9 b (nI (ew_c a9 b + ew_p a2 b))) b = ew_c a9 b + ew_p a2 b := ew_c_s (by omega)
      have D := ed_done (l' := ew_c c8) (r' := ew_c (upd a9 b (nI (ew_c a9 b + ew_p a2 b)))) (w' := ew_c c10) hG' hF hR.2 hb ob' hlb hrb edf' hn' n8 (fun i hi => ew_c_n hi) n10 hend v9 (fun z => by rw [v8]; exact hx1 z) (fun z => by rw [v8]; exact hx2 z) (by rw [v10]; exact hw1) (by rw [v10]; exact hw2) (by rw [v10]; exact hw3)
      refine H _ _ _ ⟨fun i hi o => ?_, D.1⟩ D.2
      obtain ⟨m8, m9, m10⟩ := hR.1 i hi o
      refine ⟨?_, ew_rep (by omega) m9, ?_⟩
      · by_cases ei : i = b
        · rw [ei, v8, k8b]
        · rw [n8 i ei, k8 i ei]
          exact m8
      · by_cases ei : i = b
        · rw [ei, v10, k10b]
        · rw [n10 i ei, k10 i ei]
          exact m10
    refine ⟨pk_in b 26 hb, nm_r (e' := nI (e - ew_c a9 b)) (by rw [e9, pk_sub (by omega)]) ⟨pk_in b 26 hb, pk_le (e - ew_c a9 b) (ew_c a10 b) (fun z2 => ?_) (fun z2 => ⟨pk_in b 26 hb, nm_e ?_⟩) rfl e10⟩⟩
    · refine ew_adv51 hb q9 g5 e9 e2 (fun h => ?_) (fun h => ?_)
      · exact fin 0 (ew_c a10 b) _ _ (by omega) (fun i hi => by rw [pk_un hi, pk_un hi]) pk_us (fun i _ => rfl) e10 q10 (fun z => absurd z (by omega)) (fun _ => rfl) (Nat.le_refl _) z2 (Or.inl rfl)
      · exact fin (ew_c a4 b) (ew_c a10 b) _ _ (by omega) (fun i hi => by rw [pk_un hi, pk_un hi]) (by rw [pk_us]; exact e4) (fun i _ => rfl) e10 q10 (fun _ => rfl) (fun z => absurd z (by omega)) (Nat.le_refl _) z2 (Or.inl rfl)
    · refine ew_adv51 hb q9 g5 e9 e2 (fun h => ?_) (fun h => ?_)
      · exact fin 0 (e - ew_c a9 b) _ _ (by omega) (fun i hi => by rw [pk_un hi, pk_un hi]) pk_us (fun i hi => pk_un hi) pk_us (by omega) (fun z => absurd z (by omega)) (fun _ => rfl) (by omega) (Nat.le_refl _) (Or.inr rfl)
      · exact fin (ew_c a4 b) (e - ew_c a9 b) _ _ (by omega) (fun i hi => by rw [pk_un hi, pk_un hi]) (by rw [pk_us]; exact e4) (fun i hi => pk_un hi) pk_us (by omega) (fun _ => rfl) (fun z => absurd z (by omega)) (by omega) (Nat.le_refl _) (Or.inr rfl)
  · have D := ed_part (l' := ew_c (upd a8 b (nI (ew_c a8 b - (e - now))))) (r' := ew_c a9) (w' := ew_c a10) hG' hF hR.2 (Nat.le_of_lt hne) hb ob' hlb hrb edf' hn' (fun i hi => ew_c_n hi) (fun i _ => rfl) (fun i _ => rfl) (by omega) (ew_c_s (by omega)) rfl rfl
    refine H _ _ _ ⟨fun i hi o => ?_, D.1⟩ D.2
    obtain ⟨m8, m9, m10⟩ := hR.1 i hi o
    exact ⟨ew_rep (by omega) m8, m9, m10⟩
/-- the scan: the most urgent pending job among the parts below i -/
def ew_Best (k : Nat) (a3 a5 a8 a9 : Nat → Int32) (now i : Nat) (bst : Int32) : Prop :=
  (bst = -1 ∧ ∀ j, j < i → a3 j = nI k → ¬ (0 < ew_c a8 j ∧ ew_c a9 j ≤ now)) ∨
  ∃ b, b < 26 ∧ bst = nI b ∧ a3 b = nI k ∧ 0 < ew_c a8 b ∧ ew_c a9 b ≤ now ∧ ∀ j, j < i → a3 j = nI k → 0 < ew_c a8 j → ew_c a9 j ≤ now → ew_c a9 b + ew_c a5 b ≤ ew_c a9 j + ew_c a5 j
theorem ew_best_skip {now i : Nat} {bst : Int32} (h : ew_Best k a3 a5 a8 a9 now i bst) (hs : a3 i = nI k → ¬ (0 < ew_c a8 i ∧ ew_c a9 i ≤ now)) : ew_Best k a3 a5 a8 a9 now (i + 1) bst := by
  rcases h with ⟨h1, h2⟩ | ⟨b, h1, h2, h3, h4, h5, h6⟩
  · refine Or.inl ⟨h1, fun j hj o => ?_⟩
    by_cases e : j = i
    · subst e
      exact hs o
    · exact h2 j (by omega) o
  · refine Or.inr ⟨b, h1, h2, h3, h4, h5, fun j hj o k1 k2 => ?_⟩
    by_cases e : j = i
    · subst e
      exact absurd ⟨k1, k2⟩ (hs o)
    · exact h6 j (by omega) o k1 k2
theorem ew_s91 {post : Int32 → St2 → Prop} {J : Int32 → Int32 → Int32 → Prop} {now i nx : Nat} {bst : Int32} (hk : k < 3) (hG : ew_Good a2 a3 a4 a5) (hR : ew_RS k a2 a3 a4 a5 a8 a9 a10 now) (hnow : now < 60) (hi : i < 26) (o : a3 i = nI k)
    (hB : ew_Best k a3 a5 a8 a9 now i bst) (HJ : ∀ bst', ew_Best k a3 a5 a8 a9 now (i + 1) bst' → J bst' (nI nx) (nI (i + 1))) : wX_stretch_91 post J (nI k) (nI now) bst (nI nx) (nI i) f0 f1 f2 f3 a1 a2 a3 a4 a5 a6 a7 a8 a9 a10 := by
  obtain ⟨e2, e4, e5, g1, g2, g3, g4, g5⟩ := ew_at hk hG hi o
  obtain ⟨e8, e9, e10, q8, q9, q10, _⟩ := ew_rs_at hk hG hR hi o
  unfold wX_stretch_91
  rw [ew_ix hi]
  refine ⟨pk_in i 26 hi, pk_le (ew_c a8 i) 0 (fun z => nm_r (nI_1 i) (HJ bst (ew_best_skip hB (fun _ y => absurd y.1 (by omega))))) (fun z => ⟨pk_in i 26 hi, pk_lt now (ew_c a9 i) (fun z2 => nm_r (nI_1 i) (HJ bst (ew_best_skip hB (fun _ y => absurd y.2 (by omega))))) (fun z2 => ?_) rfl e9⟩) e8 rfl⟩
  rcases hB with ⟨h1, h2⟩ | ⟨b, h1, h2, h3, h4, h5, h6⟩
  · refine br_t (by rw [h1]; decide) (nm_r (nI_1 i) (HJ (nI i) (Or.inr ⟨i, hi, rfl, o, z, z2, fun j hj oj k1 k2 => ?_⟩)))
    by_cases e : j = i
    · rw [e]
      exact Nat.le_refl _
    · exact absurd ⟨k1, k2⟩ (h2 j (by omega) oj)
  · subst h2
    obtain ⟨_, _, d5, _, _, c3, _, c5⟩ := ew_at hk hG h1 h3
    obtain ⟨_, d9, _, _, r9, _, _⟩ := ew_rs_at hk hG hR h1 h3
    refine br_f (nI_pos (by omega)) ⟨pk_in i 26 hi, pk_in i 26 hi, pk_in b 26 h1, pk_in b 26 h1, ?_⟩
    rw [ew_ix h1]
    refine pk_le (ew_c a9 b + ew_c a5 b) (ew_c a9 i + ew_c a5 i) (fun z3 => nm_r (nI_1 i) (HJ (nI b) (Or.inr ⟨b, h1, rfl, h3, h4, h5, fun j hj oj k1 k2 => ?_⟩))) (fun z3 => nm_r (nI_1 i) (HJ (nI i) (Or.inr ⟨i, hi, rfl, o, z, z2, fun j hj oj k1 k2 => ?_⟩))) (by rw [d9, d5, nI_add]) (by rw [e9, e5, nI_add])
    · by_cases e : j = i
      · rw [e]
        exact z3
      · exact h6 j (by omega) oj k1 k2
    · by_cases e : j = i
      · rw [e]
        exact Nat.le_refl _
      · exact Nat.le_trans (Nat.le_of_lt z3) (h6 j (by omega) oj k1 k2)
theorem ew_s78 {post : Int32 → St2 → Prop} {J : Int32 → Int32 → Int32 → Prop} {now i nx z : Nat} {bst z0 : Int32} (hk : k < 3) (hG : ew_Good a2 a3 a4 a5) (hR : ew_RS k a2 a3 a4 a5 a8 a9 a10 now) (hnow : now < 60) (hi : i < 26) (o : a3 i = nI k)
    (hz : z0 = nI z) (hz1 : now < z) (hz2 : z ≤ 120) (hx1 : now < nx) (hx2 : nx ≤ 60)
    (hB : ew_Best k a3 a5 a8 a9 now i bst) (HJ : ∀ bst' nx', nx' ≤ nx → nx' ≤ z → now < nx' → ew_Best k a3 a5 a8 a9 now (i + 1) bst' → J bst' (nI nx') (nI (i + 1))) : wX_stretch_78 post J (nI k) (nI now) bst (nI nx) (nI i) z0 f0 f1 f2 f3 a1 a2 a3 a4 a5 a6 a7 a8 a9 a10 := by
  subst hz
  exact pk_le nx z (fun h => ew_s91 hk hG hR hnow hi o hB (fun b' hb' => HJ b' nx (Nat.le_refl _) h hx1 hb')) (fun h => ew_s91 hk hG hR hnow hi o hB (fun b' hb' => HJ b' z (by omega) (Nat.le_refl _) hz1 hb'))
theorem ew_s61 {post : Int32 → St2 → Prop} {J : Int32 → Int32 → Int32 → Prop} {now i nx : Nat} {bst : Int32} (hk : k < 3) (hG : ew_Good a2 a3 a4 a5) (hR : ew_RS k a2 a3 a4 a5 a8 a9 a10 now) (hnow : now < 60) (hi : i < 26) (o : a3 i = nI k)
    (hx1 : now < nx) (hx2 : nx ≤ 60)
    (hB : ew_Best k a3 a5 a8 a9 now i bst) (HJ : ∀ bst' nx', nx' ≤ nx → now < nx' → ew_Best k a3 a5 a8 a9 now (i + 1) bst' → J bst' (nI nx') (nI (i + 1))) : wX_stretch_61 post J (nI k) (nI now) bst (nI nx) (nI i) f0 f1 f2 f3 a1 a2 a3 a4 a5 a6 a7 a8 a9 a10 := by
  obtain ⟨e2, e4, e5, g1, g2, g3, g4, g5⟩ := ew_at hk hG hi o
  obtain ⟨e8, e9, e10, q8, q9, q10, q0⟩ := ew_rs_at hk hG hR hi o
  refine ⟨pk_in i 26 hi, by decide, ew_hin hi, ?_⟩
  refine ew_s78 (z := ew_c a9 i + ew_p a2 i) hk hG hR hnow hi o (by rw [ew_ix hi, ew_hx hi, e9, e2, nI_add]) ?_ (by omega) hx1 hx2 hB (fun b' n' h1 _ h3 h4 => HJ b' n' h1 h3 h4)
  rcases Nat.eq_zero_or_pos (ew_c a8 i) with z | z
  · have := q0 z
    omega
  · have := ed_live (ew_good hk hG) hR.2 hi (decide_eq_true o) z
    omega
/-- what one stretch leaves -/
theorem ew_s187i {post : Int32 → St2 → Prop} {x2 : Int32} {ns e : Nat} (hns : ns < 64)
    (H : post (nI e) (f0, f1, f2, nI (ns + 1), a1, a2, a3, a4, a5, upd a6 ns (nI e), upd a7 ns (-5), a8, a9, a10)) : wX_stretch_187 post x2 (-1) (nI e) f0 f1 f2 (nI ns) a1 a2 a3 a4 a5 a6 a7 a8 a9 a10 :=
  ⟨pk_in ns 64 hns, nm_r (e' := upd a6 ns (nI e)) (by rw [nI_clamp (by omega)]) (br_f (by decide) ⟨pk_in ns 64 hns, nm_r (e' := upd a7 ns (-5)) (by rw [nI_clamp (by omega)]) (nm_r (nI_1 ns) (br_t (by decide) H))⟩)⟩
theorem ew_s187b {post : Int32 → St2 → Prop} {ns b now e : Nat} (hns : ns < 64) (hk : k < 3) (hG : ew_Good a2 a3 a4 a5) (hF : ew_Feas k a2 a3 a4 a5) (hR : ew_RS k a2 a3 a4 a5 a8 a9 a10 now) (hb : b < 26) (ob : a3 b = nI k) (hlb : 0 < ew_c a8 b) (hrb : ew_c a9 b ≤ now)
    (edf : ∀ i, i < 26 → a3 i = nI k → 0 < ew_c a8 i → ew_c a9 i ≤ now → ew_c a9 b + ew_c a5 b ≤ ew_c a9 i + ew_c a5 i) (hn : ∀ i, i < 26 → a3 i = nI k → 0 < ew_c a8 i → now < ew_c a9 i → e ≤ ew_c a9 i)
    (hne : now < e) (he : e ≤ now + ew_c a8 b) (he60 : e ≤ 60)
    (H : ∀ b8 b9 b10, ew_RS k a2 a3 a4 a5 b8 b9 b10 e → ew_R k a2 a3 a4 a5 b8 b9 + (e - now) = ew_R k a2 a3 a4 a5 a8 a9 → post (nI e) (f0, f1, f2, nI (ns + 1), a1, a2, a3, a4, a5, upd a6 ns (nI e), upd a7 ns (nI (b / 2)), b8, b9, b10)) :
    wX_stretch_187 post (nI now) (nI b) (nI e) f0 f1 f2 (nI ns) a1 a2 a3 a4 a5 a6 a7 a8 a9 a10 := by
  refine ⟨pk_in ns 64 hns, nm_r (e' := upd a6 ns (nI e)) (by rw [nI_clamp (by omega)]) (br_t (nI_pos' (by omega)) ⟨by decide, ⟨pk_in ns 64 hns, nm_r (e' := upd a7 ns (nI (b / 2))) (by rw [nI_clamp (by omega), ew_half hb]) (nm_r (nI_1 ns) (br_f (nI_pos (by omega)) ?_))⟩⟩)⟩
  exact ew_advance hk hG hF hR hb ob hlb hrb edf hn hne he he60 (fun b8 b9 b10 h1 h2 => H b8 b9 b10 h1 h2)
theorem ew_stretch {post : Int32 → St2 → Prop} {ns now : Nat} (hns : ns < 64) (hk : k < 3) (hG : ew_Good a2 a3 a4 a5) (hF : ew_Feas k a2 a3 a4 a5) (hR : ew_RS k a2 a3 a4 a5 a8 a9 a10 now) (hnow : now < 60)
    (H : ∀ e v b8 b9 b10, now < e → e ≤ 60 → ew_RS k a2 a3 a4 a5 b8 b9 b10 e → ((v = -5 ∧ ew_R k a2 a3 a4 a5 b8 b9 = ew_R k a2 a3 a4 a5 a8 a9) ∨ ((∃ b, b < 26 ∧ a3 b = nI k ∧ v = nI (b / 2)) ∧ ew_R k a2 a3 a4 a5 b8 b9 + (e - now) = ew_R k a2 a3 a4 a5 a8 a9)) →
      post (nI e) (f0, f1, f2, nI (ns + 1), a1, a2, a3, a4, a5, upd a6 ns (nI e), upd a7 ns v, b8, b9, b10)) :
    wpX_stretch post (f0, f1, f2, nI ns, a1, a2, a3, a4, a5, a6, a7, a8, a9, a10) (nI k) (nI now) := by
  refine pk_loop (σ := Int32 × Nat) (fun n i s => wX_stretch_9 post (nI k) (nI now) f0 f1 f2 (nI ns) a1 a2 a3 a4 a5 a6 a7 a8 a9 a10 n s.1 (nI s.2) (nI i))
    (fun i s => ew_Best k a3 a5 a8 a9 now i s.1 ∧ s.2 ≤ 60 ∧ now < s.2 ∧ ∀ j, j < i → a3 j = nI k → 0 < ew_c a8 j → now < ew_c a9 j → s.2 ≤ ew_c a9 j) 26 0 (-1, 60) (by omega) ⟨Or.inl ⟨rfl, fun j hj => absurd hj (by omega)⟩, Nat.le_refl _, hnow, fun j hj => absurd hj (by omega)⟩ ?_ ?_
  · intro n s hs
    obtain ⟨bst, nx⟩ := s
    obtain ⟨hB, h60, hnx, hn⟩ := hs
    dsimp only at hB h60 hnx hn
    show wX_stretch_9 post (nI k) (nI now) f0 f1 f2 (nI ns) a1 a2 a3 a4 a5 a6 a7 a8 a9 a10 (n + 1) bst (nI nx) (nI 26)
    refine pk_le 26 26 (fun _ => ?_) (fun z => absurd z (by omega))
    rcases hB with ⟨h1, h2⟩ | ⟨b, h1, h2, h3, h4, h5, h6⟩
    · subst h1
      refine br_t (by decide) (ew_s187i hns (H nx (-5) _ _ _ hnx h60 ⟨hR.1, ?_⟩ (Or.inl ⟨rfl, rfl⟩)))
      exact ed_idl (ew_good hk hG) hF hR.2 (Nat.le_of_lt hnx) (fun i hi o => h2 i hi (of_decide_eq_true o)) (fun i hi o => hn i hi (of_decide_eq_true o))
    · subst h2
      obtain ⟨e8, e9, e10, q8, q9, q10, _⟩ := ew_rs_at hk hG hR h1 h3
      refine br_f (nI_pos (by omega)) ⟨pk_in b 26 h1, ?_⟩
      rw [ew_ix h1]
      have ee : nI now + a8 b = nI (now + ew_c a8 b) := by rw [e8, nI_add]
      refine pk_le nx (now + ew_c a8 b) (fun z => ?_) (fun z => ⟨pk_in b 26 h1, nm_r ee ?_⟩) rfl ee
      · exact ew_s187b hns hk hG hF hR h1 h3 h4 h5 h6 hn hnx z h60 (fun b8 b9 b10 k1 k2 => H nx _ b8 b9 b10 hnx h60 k1 (Or.inr ⟨⟨b, h1, h3, rfl⟩, k2⟩))
      · exact ew_s187b hns hk hG hF hR h1 h3 h4 h5 h6 (fun i hi o k1 k2 => Nat.le_trans (Nat.le_of_lt z) (hn i hi o k1 k2)) (by omega) (Nat.le_refl _) (by omega) (fun b8 b9 b10 k1 k2 => H (now + ew_c a8 b) _ b8 b9 b10 (by omega) (by omega) k1 (Or.inr ⟨⟨b, h1, h3, rfl⟩, k2⟩))
  · intro n i s hi hs hw
    obtain ⟨bst, nx⟩ := s
    obtain ⟨hB, h60, hnx, hn⟩ := hs
    dsimp only at hB h60 hnx hn
    show wX_stretch_9 post (nI k) (nI now) f0 f1 f2 (nI ns) a1 a2 a3 a4 a5 a6 a7 a8 a9 a10 (n + 1) bst (nI nx) (nI i)
    refine pk_le 26 i (fun z => absurd z (by omega)) (fun _ => ⟨pk_in i 26 hi, ?_⟩)
    rw [ew_ix hi]
    by_cases o : a3 i = nI k
    · obtain ⟨e8, e9, e10, q8, q9, q10, q0⟩ := ew_rs_at hk hG hR hi o
      refine br_t o ⟨pk_in i 26 hi, pk_le (ew_c a8 i) 0 (fun z => ?_) (fun z => ⟨pk_in i 26 hi, pk_le (ew_c a9 i) now (fun z2 => ?_) (fun z2 => ⟨pk_in i 26 hi, ?_⟩) e9 rfl⟩) e8 rfl⟩
      · refine ew_s61 hk hG hR hnow hi o hnx h60 hB (fun b' n' h1 h2 h3 => hw (b', n') ⟨h3, by omega, h2, fun j hj oj k1 k2 => ?_⟩)
        by_cases e : j = i
        · rw [e] at k1
          exact absurd k1 (by omega)
        · exact Nat.le_trans h1 (hn j (by omega) oj k1 k2)
      · refine ew_s61 hk hG hR hnow hi o hnx h60 hB (fun b' n' h1 h2 h3 => hw (b', n') ⟨h3, by omega, h2, fun j hj oj k1 k2 => ?_⟩)
        by_cases e : j = i
        · rw [e] at k2
          exact absurd k2 (by omega)
        · exact Nat.le_trans h1 (hn j (by omega) oj k1 k2)
      · refine ew_s78 (z := ew_c a9 i) hk hG hR hnow hi o e9 z2 (by omega) hnx h60 hB (fun b' n' h1 h1' h2 h3 => hw (b', n') ⟨h3, by omega, h2, fun j hj oj k1 k2 => ?_⟩)
        by_cases e : j = i
        · rw [e]
          exact h1'
        · exact Nat.le_trans h1 (hn j (by omega) oj k1 k2)
    · refine br_f o (nm_r (nI_1 i) (hw (bst, nx) ⟨ew_best_skip hB (fun z => absurd z o), h60, hnx, fun j hj oj k1 k2 => ?_⟩))
      by_cases e : j = i
      · rw [e] at oj
        exact absurd oj o
      · exact hn j (by omega) oj k1 k2
end
/-! ===== the table of stretches ===== -/
def ew_Tab (k : Nat) (a3 a6 a7 : Nat → Int32) (ns now : Nat) (g : Nat → Int32) : Prop :=
  (∀ j, j < ns → a6 j = nI (ew_c a6 j) ∧ ew_c a6 j ≤ now) ∧ (∀ t, t < now → ∃ j, j < ns ∧ t < ew_c a6 j ∧ (∀ j', j' < j → ew_c a6 j' ≤ t) ∧ a7 j = g t) ∧ (∀ t, t < now → g t = -5 ∨ ∃ b, b < 26 ∧ a3 b = nI k ∧ g t = nI (b / 2))
theorem ew_tab_step {k ns now e : Nat} {a3 a6 a7 g : Nat → Int32} {v : Int32} (h : ew_Tab k a3 a6 a7 ns now g) (hne : now < e) (he : e ≤ 60) (hv : v = -5 ∨ ∃ b, b < 26 ∧ a3 b = nI k ∧ v = nI (b / 2)) :
    ew_Tab k a3 (upd a6 ns (nI e)) (upd a7 ns v) (ns + 1) e (ed_ext g now v) := by
  obtain ⟨h1, h2, h3⟩ := h
  have vs : ew_c (upd a6 ns (nI e)) ns = e := ew_c_s (by omega)
  refine ⟨fun j hj => ?_, fun t ht => ?_, fun t ht => ?_⟩
  · by_cases ej : j = ns
    · rw [ej, vs, pk_us]
      exact ⟨rfl, Nat.le_refl _⟩
    · obtain ⟨k1, k2⟩ := h1 j (by omega)
      rw [ew_c_n ej, pk_un ej]
      exact ⟨k1, by omega⟩
  · by_cases tn : t < now
    · obtain ⟨j, k1, k2, k3, k4⟩ := h2 t tn
      refine ⟨j, by omega, ?_, fun j' hj' => ?_, ?_⟩
      · rw [ew_c_n (by omega)]
        exact k2
      · rw [ew_c_n (by omega)]
        exact k3 j' hj'
      · rw [pk_un (by omega), k4]
        exact (if_pos tn).symm
    · refine ⟨ns, by omega, by rw [vs]; exact ht, fun j' hj' => ?_, ?_⟩
      · rw [ew_c_n (by omega)]
        have := (h1 j' hj').2
        omega
      · rw [pk_us]
        exact (if_neg tn).symm
  · by_cases tn : t < now
    · rw [show ed_ext g now v t = g t from if_pos tn]
      exact h3 t tn
    · rw [show ed_ext g now v t = v from if_neg tn]
      exact hv
/-- core k is planned: g says which task runs in each slot -/
def ew_Pl (k : Nat) (a2 a3 a4 a5 : Nat → Int32) (f3 : Int32) (a6 a7 a10 g : Nat → Int32) : Prop :=
  ∃ ns, 1 ≤ ns ∧ ns ≤ 60 ∧ f3 = nI ns ∧ ew_Tab k a3 a6 a7 ns 60 g ∧ ed_idle g 60 + ew_load k a2 a3 a4 26 = 60 ∧ ∀ i, i < 26 → a3 i = nI k → ∃ w, a10 i = nI w ∧ ew_c a4 i ≤ w ∧ w ≤ ew_c a5 i
theorem ew_pl_end {k ns : Nat} {a2 a3 a4 a5 a6 a7 a8 a9 a10 g : Nat → Int32} (hk : k < 3) (hns : ns ≤ 60) (hG : ew_Good a2 a3 a4 a5) (hR : ew_RS k a2 a3 a4 a5 a8 a9 a10 60) (hT : ew_Tab k a3 a6 a7 ns 60 g)
    (hI : ed_idle g 60 + ew_load k a2 a3 a4 26 = 60 + ew_R k a2 a3 a4 a5 a8 a9) : ew_Pl k a2 a3 a4 a5 (nI ns) a6 a7 a10 g := by
  have h0 := hR.2.2 60 (Nat.le_refl _)
  have h0' : ew_R k a2 a3 a4 a5 a8 a9 ≤ 60 - 60 := h0
  obtain ⟨j, hj, _⟩ := hT.2.1 0 (by omega)
  refine ⟨ns, by omega, hns, rfl, hT, by omega, fun i hi o => ?_⟩
  obtain ⟨h1, h2⟩ := ed_end (ew_good hk hG) hR.2 hi (decide_eq_true o)
  exact ⟨ew_c a10 i, (hR.1 i hi o).2.2, h1, h2⟩
section
variable {f0 f1 f2 f3 : Int32} {a1 a2 a3 a4 a5 a6 a7 a8 a9 a10 : Nat → Int32} {k : Nat}
theorem ew_plan77 {post : St2 → Prop} (hk : k < 3) (hG : ew_Good a2 a3 a4 a5) (hF : ew_Feas k a2 a3 a4 a5) (hR : ew_RS k a2 a3 a4 a5 a8 a9 a10 0) (hL : ew_R k a2 a3 a4 a5 a8 a9 = ew_load k a2 a3 a4 26)
    (H : ∀ f3' b6 b7 b8 b9 b10 g, ew_Pl k a2 a3 a4 a5 f3' b6 b7 b10 g → post (f0, f1, f2, f3', a1, a2, a3, a4, a5, b6, b7, b8, b9, b10)) :
    ∃ n, wX_plan_77 post (nI k) n 0 0 f0 f1 f2 0 a1 a2 a3 a4 a5 a6 a7 a8 a9 a10 := by
  refine pk_loop (σ := Nat × (Nat → Int32) × (Nat → Int32) × (Nat → Int32) × (Nat → Int32) × (Nat → Int32)) (fun n i s => wX_plan_77 post (nI k) n (nI s.1) (nI i) f0 f1 f2 (nI i) a1 a2 a3 a4 a5 s.2.1 s.2.2.1 s.2.2.2.1 s.2.2.2.2.1 s.2.2.2.2.2)
    (fun i s => i ≤ s.1 ∧ s.1 ≤ 60 ∧ ew_RS k a2 a3 a4 a5 s.2.2.2.1 s.2.2.2.2.1 s.2.2.2.2.2 s.1 ∧ ∃ g, ew_Tab k a3 s.2.1 s.2.2.1 i s.1 g ∧ ed_idle g s.1 + ew_load k a2 a3 a4 26 = s.1 + ew_R k a2 a3 a4 a5 s.2.2.2.1 s.2.2.2.2.1) 60 0 (0, a6, a7, a8, a9, a10) (by omega)
    ⟨Nat.le_refl _, by omega, hR, fun _ => 0, ⟨fun j hj => absurd hj (by omega), fun t ht => absurd ht (by omega), fun t ht => absurd ht (by omega)⟩, ?_⟩ ?_ ?_
  · show 0 + ew_load k a2 a3 a4 26 = 0 + ew_R k a2 a3 a4 a5 a8 a9
    rw [hL]
  · intro n s hs
    obtain ⟨now, b6, b7, b8, b9, b10⟩ := s
    obtain ⟨h1, h2, h3, g, h4, h5⟩ := hs
    dsimp only at h1 h2 h3 h4 h5
    have e : now = 60 := by omega
    subst e
    show wX_plan_77 post (nI k) (n + 1) (nI 60) (nI 60) f0 f1 f2 (nI 60) a1 a2 a3 a4 a5 b6 b7 b8 b9 b10
    exact pk_le 60 60 (fun _ => H _ b6 b7 b8 b9 b10 g (ew_pl_end hk (Nat.le_refl _) hG h3 h4 h5)) (fun z => absurd z (by omega))
  · intro n i s hi hs hw
    obtain ⟨now, b6, b7, b8, b9, b10⟩ := s
    obtain ⟨h1, h2, h3, g, h4, h5⟩ := hs
    dsimp only at h1 h2 h3 h4 h5
    show wX_plan_77 post (nI k) (n + 1) (nI now) (nI i) f0 f1 f2 (nI i) a1 a2 a3 a4 a5 b6 b7 b8 b9 b10
    refine pk_le 60 i (fun z => absurd z (by omega)) (fun _ => pk_le 60 now (fun z => ?_) (fun z => ?_))
    · have e : now = 60 := by omega
      subst e
      exact H _ b6 b7 b8 b9 b10 g (ew_pl_end hk (by omega) hG h3 h4 h5)
    · refine ew_stretch (by omega) hk hG hF h3 z (fun e v c8 c9 c10 k1 k2 k3 k4 => ?_)
      dsimp only
      refine nm_r (nI_1 i) (hw (e, _, _, c8, c9, c10) ⟨by omega, k2, k3, ed_ext g now v, ew_tab_step h4 k1 k2 ?_, ?_⟩)
      · rcases k4 with ⟨m1, m2⟩ | ⟨m1, m2⟩
        · exact Or.inl m1
        · exact Or.inr m1
      · show ed_idle (ed_ext g now v) e + ew_load k a2 a3 a4 26 = e + ew_R k a2 a3 a4 a5 c8 c9
        have hx := ed_idle_ext g now v (e - now)
        rw [show now + (e - now) = e by omega] at hx
        rw [hx]
        rcases k4 with ⟨m1, m2⟩ | ⟨⟨b, hb, ob, m1⟩, m2⟩
        · rw [if_pos m1]
          omega
        · have hv : ¬ v = -5 := by
            rw [m1]
            have : ∀ j, j < 13 → ¬ nI j = -5 := by decide +kernel
            exact this (b / 2) (by omega)
          rw [if_neg hv]
          omega
theorem ew_plan {post : St2 → Prop} (hk : k < 3) (hG : ew_Good a2 a3 a4 a5) (hF : ew_Feas k a2 a3 a4 a5) (h2 : ¬ f2 = nI k)
    (H : ∀ f3' b6 b7 b8 b9 b10 g, ew_Pl k a2 a3 a4 a5 f3' b6 b7 b10 g → post (f0, f1, nI k, f3', a1, a2, a3, a4, a5, b6, b7, b8, b9, b10)) :
    wpX_plan post (f0, f1, f2, f3, a1, a2, a3, a4, a5, a6, a7, a8, a9, a10) (nI k) := by
  refine br_f h2 ?_
  refine pk_loop (σ := (Nat → Int32) × (Nat → Int32) × (Nat → Int32)) (fun n i s => wX_plan_21 post (nI k) f0 f1 (nI k) 0 n (nI i) a1 a2 a3 a4 a5 a6 a7 s.1 s.2.1 s.2.2)
    (fun i s => ∀ j, j < i → (a3 j = nI k → s.1 j = a4 j) ∧ s.2.1 j = 0 ∧ s.2.2 j = 0) 26 0 (a8, a9, a10) (by omega) (fun j hj => absurd hj (by omega)) ?_ ?_
  · intro n s hs
    obtain ⟨b8, b9, b10⟩ := s
    dsimp only at hs
    show wX_plan_21 post (nI k) f0 f1 (nI k) 0 (n + 1) (nI 26) a1 a2 a3 a4 a5 a6 a7 b8 b9 b10
    have hv : ∀ i, i < 26 → a3 i = nI k → ew_c b8 i = ew_c a4 i ∧ ew_c b9 i = 0 ∧ ew_c b10 i = 0 := by
      intro i hi o
      obtain ⟨h1, h2, h3⟩ := hs i hi
      unfold ew_c
      rw [h1 o, h2, h3]
      exact ⟨rfl, rfl, rfl⟩
    have hS := ed_start (l := ew_c b8) (r := ew_c b9) (w := ew_c b10) (ew_good hk hG) hF (fun i hi o => hv i hi (of_decide_eq_true o))
    refine pk_le 26 26 (fun _ => ew_plan77 hk hG hF ⟨fun i hi o => ?_, hS.1⟩ ?_ H) (fun z => absurd z (by omega))
    · obtain ⟨h1, h2, h3⟩ := hs i hi
      obtain ⟨v1, v2, v3⟩ := hv i hi o
      rw [v1, v2, v3, h1 o, h2, h3]
      exact ⟨(ew_at hk hG hi o).2.1, rfl, rfl⟩
    · show ed_R (ew_on k a3) (ew_p a2) (ew_c a4) (ew_c a5) (ew_c b8) (ew_c b9) 60 = ed_sum (ed_ld (ew_on k a3) (ew_p a2) (ew_c a4)) 26
      rw [hS.2, ed_load (ew_good hk hG)]
  · intro n i s hi hs hw
    obtain ⟨b8, b9, b10⟩ := s
    dsimp only at hs
    show wX_plan_21 post (nI k) f0 f1 (nI k) 0 (n + 1) (nI i) a1 a2 a3 a4 a5 a6 a7 b8 b9 b10
    have fin : ∀ z0, (a3 i = nI k → z0 = a4 i) → wX_plan_52 post (wX_plan_21 post (nI k) f0 f1 (nI k) 0 n) (nI k) (nI i) z0 (nI i) f0 f1 (nI k) 0 a1 a2 a3 a4 a5 a6 a7 b8 b9 b10 := by
      intro z0 hz
      unfold wX_plan_52
      rw [ew_ix hi]
      refine ⟨pk_in i 26 hi, nm_e ⟨pk_in i 26 hi, nm_e ⟨pk_in i 26 hi, nm_e (nm_r (nI_1 i) (hw (upd b8 i z0, upd b9 i 0, upd b10 i 0) (fun j hj => ?_)))⟩⟩⟩
      dsimp only
      by_cases e : j = i
      · subst e
        rw [pk_us, pk_us, pk_us]
        exact ⟨hz, rfl, rfl⟩
      · rw [pk_un e, pk_un e, pk_un e]
        exact hs j (by omega)
    refine pk_le 26 i (fun z => absurd z (by omega)) (fun _ => ⟨pk_in i 26 hi, ?_⟩)
    rw [ew_ix hi]
    exact br_c (fun o => ⟨pk_in i 26 hi, fin _ (fun _ => rfl)⟩) (fun o => fin _ (fun z => absurd z o))
theorem ew_badCore {post : Int32 → Prop} {nc : Nat} (hn : nc ≤ 3) (hk : k < nc) (H : post 0) : wpX_badCore post (nI nc, f1, f2, f3, a1, a2, a3, a4, a5, a6, a7, a8, a9, a10) (nI k) :=
  br_f (nI_pos (by omega)) (br_t (nI_lt hk (by omega)) H)
theorem ew_run31 {post : Int32 → St2 → Prop} {t : Nat} {g : Nat → Int32} (ht : t < 60) (hP : ew_Pl k a2 a3 a4 a5 f3 a6 a7 a10 g) (H : post (g t) (f0, f1, f2, f3, a1, a2, a3, a4, a5, a6, a7, a8, a9, a10)) :
    ∃ n, wX_running_31 post (nI t) f0 f1 f2 f3 a1 a2 a3 a4 a5 a6 a7 a8 a9 a10 n 0 := by
  obtain ⟨ns, n1, n2, e3, ⟨hE, hT, _⟩, _⟩ := hP
  subst e3
  obtain ⟨j, j1, j2, j3, j4⟩ := hT t ht
  have en : nI ns - 1 = nI (ns - 1) := pk_sub (b := 1) n1
  have hE2 : ∀ i, i < ns → ew_c a6 i < 2 ^ 31 := fun i hi => by
    have := (hE i hi).2
    omega
  refine pk_loop (σ := Unit) (fun n i _ => wX_running_31 post (nI t) f0 f1 f2 (nI ns) a1 a2 a3 a4 a5 a6 a7 a8 a9 a10 n (nI i)) (fun _ _ => True) j 0 () (by omega) trivial ?_ ?_
  · intro n _ _
    have hp : vp_in (nI j) 64 ∧ post (a7 (nI j).toNatClampNeg) (f0, f1, f2, nI ns, a1, a2, a3, a4, a5, a6, a7, a8, a9, a10) := ⟨pk_in j 64 (by omega), by rw [nI_clamp (by omega), j4]; exact H⟩
    exact pk_le (ns - 1) j (fun _ => hp) (fun _ => ⟨pk_in j 64 (by omega), pk_lt t (ew_c a6 j) (fun _ => hp) (fun z => absurd z (by omega)) rfl (by rw [nI_clamp (by omega)]; exact (hE j j1).1) (by omega) (hE2 j j1)⟩) en rfl
  · intro n i _ hi _ hw
    have hle := j3 i hi
    exact pk_le (ns - 1) i (fun z => absurd z (by omega)) (fun _ => ⟨pk_in i 64 (by omega), pk_lt t (ew_c a6 i) (fun z => absurd z (by omega)) (fun _ => nm_r (nI_1 i) (hw () trivial)) rfl (by rw [nI_clamp (by omega)]; exact (hE i (by omega)).1) (by omega) (hE2 i (by omega))⟩) en rfl
theorem ew_running0 {post : Int32 → St2 → Prop} {nc t : Nat} (hn : nc ≤ 3) (hk : k < nc) (hG : ew_Good a2 a3 a4 a5) (hF : ew_Feas k a2 a3 a4 a5) (h2 : ¬ f2 = nI k) (ht : t < 60)
    (H : ∀ f3' b6 b7 b8 b9 b10 g, ew_Pl k a2 a3 a4 a5 f3' b6 b7 b10 g → post (g t) (nI nc, f1, nI k, f3', a1, a2, a3, a4, a5, b6, b7, b8, b9, b10)) :
    wpX_running post (nI nc, f1, f2, f3, a1, a2, a3, a4, a5, a6, a7, a8, a9, a10) (nI k) (nI t) := by
  unfold wpX_running
  dsimp only
  refine ew_badCore hn hk (br_t rfl (br_f (nI_pos (by omega)) (pk_lt t 60 (fun _ => ?_) (fun z => absurd z (by omega)))))
  refine ew_plan (by omega) hG hF h2 (fun f3' b6 b7 b8 b9 b10 g hP => ?_)
  dsimp only
  exact ew_run31 ht hP (H f3' b6 b7 b8 b9 b10 g hP)
theorem ew_running1 {post : Int32 → St2 → Prop} {nc t : Nat} {g : Nat → Int32} (hn : nc ≤ 3) (hk : k < nc) (hP : ew_Pl k a2 a3 a4 a5 f3 a6 a7 a10 g) (ht : t < 60)
    (H : post (g t) (nI nc, f1, nI k, f3, a1, a2, a3, a4, a5, a6, a7, a8, a9, a10)) :
    wpX_running post (nI nc, f1, nI k, f3, a1, a2, a3, a4, a5, a6, a7, a8, a9, a10) (nI k) (nI t) := by
  unfold wpX_running
  dsimp only
  refine ew_badCore hn hk (br_t rfl (br_f (nI_pos (by omega)) (pk_lt t 60 (fun _ => ?_) (fun z => absurd z (by omega)))))
  refine br_t rfl ?_
  exact ew_run31 ht hP H
end
end
section
/-! ===== bytes of a long (the first four rows: kit/laws/BITS.to-paste) ===== -/
theorem wb_tb (n : Nat) : (lN n).toBitVec = BitVec.ofNat 64 n := rfl
theorem wb_inj {a b : Int64} (h : a.toBitVec = b.toBitVec) : a = b := Int64.toBitVec_inj.mp h
theorem wb_c : ∀ k, k < 64 → ((nI k).toInt64 &&& 63) = lN k := by decide +kernel
theorem wb_sm : ∀ k, k < 64 → (BitVec.ofNat 64 k).smod 64 = BitVec.ofNat 64 k := by decide +kernel
theorem el_255 (i : Nat) : (255 : Int64).toBitVec.getLsbD i = decide (i < 8) := by
  have h : (255 : Int64).toBitVec = BitVec.ofNat 64 (2 ^ 8 - 1) := by decide
  rw [h, BitVec.getLsbD_ofNat, Nat.testBit_two_pow_sub_one]
  by_cases h8 : i < 8
  · have : i < 64 := by omega
    simp [h8, this]
  · simp [h8]
theorem el_sh {k : Nat} (hk : k < 64) (x : Int64) (i : Nat) : (x <<< lN k).toBitVec.getLsbD i = (decide (i < 64) && !decide (i < k) && x.toBitVec.getLsbD (i - k)) := by
  rw [Int64.toBitVec_shiftLeft, wb_tb, wb_sm k hk, BitVec.shiftLeft_eq', BitVec.toNat_ofNat, Nat.mod_eq_of_lt (show k < 2 ^ 64 by omega), BitVec.getLsbD_shiftLeft]
theorem el_sr {k : Nat} (hk : k < 64) (x : Int64) (i : Nat) : (x >>> lN k).toBitVec.getLsbD i = (!decide (64 ≤ i) && if k + i < 64 then x.toBitVec.getLsbD (k + i) else x.toBitVec.msb) := by
  rw [Int64.toBitVec_shiftRight, wb_tb, wb_sm k hk, BitVec.sshiftRight_eq', BitVec.toNat_ofNat, Nat.mod_eq_of_lt (show k < 2 ^ 64 by omega), BitVec.getLsbD_sshiftRight]
theorem el_gb {j : Nat} (hj : j < 6) (x : Int64) (n : Nat) : ((x >>> lN (8 * j)) &&& 255).toBitVec.getLsbD n = (decide (n < 8) && x.toBitVec.getLsbD (8 * j + n)) := by
  rw [Int64.toBitVec_and, BitVec.getLsbD_and, el_255, el_sr (by omega)]
  by_cases h : n < 8
  · rw [if_pos (by omega), decide_eq_false (show ¬ 64 ≤ n by omega), decide_eq_true h]
    simp
  · rw [decide_eq_false h]
    simp
theorem el_lt8 {d m : Nat} (hd : d < 2 ^ 8) (hm : 8 ≤ m) : (lN d).toBitVec.getLsbD m = false := by
  rw [wb_tb, BitVec.getLsbD_ofNat, Nat.testBit_lt_two_pow (Nat.lt_of_lt_of_le hd (Nat.pow_le_pow_right (by decide) hm))]
  simp
theorem el_putb {A : Int64} {d s m : Nat} (hs : s < 64) (hm : m < 64) : ((A &&& (((255 : Int64) <<< lN s) ^^^ (-1))) ||| (lN d <<< lN s)).toBitVec.getLsbD m = ((A.toBitVec.getLsbD m && !(!decide (m < s) && decide (m - s < 8))) || (!decide (m < s) && (lN d).toBitVec.getLsbD (m - s))) := by
  have ha : (-1 : Int64).toBitVec = BitVec.allOnes 64 := by decide
  rw [Int64.toBitVec_or, Int64.toBitVec_and, Int64.toBitVec_xor, ha, BitVec.getLsbD_or, BitVec.getLsbD_and, BitVec.getLsbD_xor, BitVec.getLsbD_allOnes, el_sh hs, el_sh hs, el_255, decide_eq_true hm]
  simp only [Bool.true_and, Bool.xor_true]
theorem el_gp {A : Int64} {d i j : Nat} (hd : d < 2 ^ 8) (hi : i < 6) (hj : j < 6) : ((((A &&& (((255 : Int64) <<< lN (8 * i)) ^^^ (-1))) ||| (lN d <<< lN (8 * i))) >>> lN (8 * j)) &&& 255) = if j = i then lN d else ((A >>> lN (8 * j)) &&& 255) := by
  apply wb_inj
  apply BitVec.eq_of_getLsbD_eq
  intro n hn
  rw [el_gb hj]
  by_cases e : j = i
  · rw [if_pos e]
    subst e
    by_cases n8 : n < 8
    · rw [el_putb (by omega) (by omega), decide_eq_false (show ¬ 8 * j + n < 8 * j by omega), show 8 * j + n - 8 * j = n by omega, decide_eq_true n8]
      simp
    · rw [el_lt8 hd (by omega), decide_eq_false n8]
      simp
  · rw [if_neg e, el_gb hj]
    by_cases n8 : n < 8
    · rw [el_putb (by omega) (by omega)]
      rcases Nat.lt_or_ge j i with z | z
      · rw [decide_eq_true (show 8 * j + n < 8 * i by omega)]
        simp
      · rw [decide_eq_false (show ¬ 8 * j + n < 8 * i by omega), decide_eq_false (show ¬ 8 * j + n - 8 * i < 8 by omega), el_lt8 hd (show 8 ≤ 8 * j + n - 8 * i by omega)]
        simp
    · rw [decide_eq_false n8]
      simp
def el_get (A : Int64) (i : Nat) : Int32 := ((A >>> ((8 * nI i).toInt64 &&& 63)) &&& 255).toInt32
def el_put (A : Int64) (i : Nat) (x : Int32) : Int64 := (A &&& (((255 : Int64) <<< ((8 * nI i).toInt64 &&& 63)) ^^^ (-1))) ||| (x.toInt64 <<< ((8 * nI i).toInt64 &&& 63))
theorem el_c8 {i : Nat} (hi : i < 6) : (8 * nI i).toInt64 &&& 63 = lN (8 * i) := by
  have h : (8 : Int32) * nI i = nI (8 * i) := pk_mul 8 i
  rw [h, wb_c (8 * i) (by omega)]
theorem el_getput {A : Int64} {d i j : Nat} (hd : d < 2 ^ 8) (hi : i < 6) (hj : j < 6) : el_get (el_put A i (nI d)) j = if j = i then nI d else el_get A j := by
  unfold el_get el_put
  rw [el_c8 hi, el_c8 hj, nI_l (show d < 2 ^ 31 by omega), el_gp hd hi hj]
  by_cases e : j = i
  · rw [if_pos e, if_pos e, lN_i]
  · rw [if_neg e, if_neg e]
theorem el_get0 : ∀ i, i < 6 → el_get 0 i = nI 0 := by decide +kernel
/-- the two longs hold the deadlines D -/
def el_K (D : Nat → Nat) (A B : Int64) : Prop := ∀ id, id < 6 → el_get A id = nI (D id) ∧ el_get B id = nI (D (6 + id))
def el_up (D : Nat → Nat) (id d : Nat) : Nat → Nat := fun j => if j = id then d else D j
theorem el_k_0 : el_K (fun _ => 0) 0 0 := fun id hid => ⟨el_get0 id hid, el_get0 id hid⟩
theorem el_k_lo {D : Nat → Nat} {A B : Int64} {id d : Nat} (h : el_K D A B) (hd : d ≤ 60) (hid : id < 6) : el_K (el_up D id d) (el_put A id (nI d)) B := by
  intro j hj
  obtain ⟨h1, h2⟩ := h j hj
  rw [el_getput (by omega) hid hj, h1, h2]
  refine ⟨?_, ?_⟩
  · unfold el_up
    by_cases e : j = id
    · rw [if_pos e, if_pos e]
    · rw [if_neg e, if_neg e]
  · unfold el_up
    rw [if_neg (by omega)]
theorem el_k_hi {D : Nat → Nat} {A B : Int64} {id d : Nat} (h : el_K D A B) (hd : d ≤ 60) (hid : id < 6) : el_K (el_up D (6 + id) d) A (el_put B id (nI d)) := by
  intro j hj
  obtain ⟨h1, h2⟩ := h j hj
  rw [el_getput (by omega) hid hj, h1, h2]
  refine ⟨?_, ?_⟩
  · unfold el_up
    rw [if_neg (by omega)]
  · unfold el_up
    by_cases e : j = id
    · rw [if_pos e, if_pos (by omega)]
    · rw [if_neg e, if_neg (by omega)]
theorem el_kept {post : Int32 → Prop} {D : Nat → Nat} {A B : Int64} {id : Nat} (h : el_K D A B) (hid : id < 12) (H : post (nI (D id))) : wpL_kept post () A B (nI id) := by
  refine pk_le 6 id (fun z => ?_) (fun z => ?_)
  · have e : nI id - 6 = nI (id - 6) := pk_sub (b := 6) z
    have h2 := (h (id - 6) (by omega)).2
    rw [show 6 + (id - 6) = id by omega] at h2
    rw [e]
    show post (el_get B (id - 6))
    rw [h2]
    exact H
  · have h1 := (h id z).1
    show post (el_get A id)
    rw [h1]
    exact H
end
section
/-! ===== the object's invariant ===== -/
def el_Free (a1 a3 : Nat → Int32) (id : Nat) : Prop := a1 id = 0 ∧ a3 (2 * id) = -1 ∧ a3 (2 * id + 1) = -1
def el_Whole (nc : Nat) (D : Nat → Nat) (a1 a2 a3 a4 a5 : Nat → Int32) (id : Nat) : Prop :=
  ∃ p c k : Nat, a1 id = 1 ∧ k < nc ∧ a3 (2 * id) = nI k ∧ a3 (2 * id + 1) = -1 ∧ a2 id = nI p ∧ a4 (2 * id) = nI c ∧ a5 (2 * id) = nI (D id) ∧ 1 ≤ c ∧ c ≤ D id ∧ D id ≤ p ∧ p ∣ 60
def el_Split (nc : Nat) (D : Nat → Nat) (a1 a2 a3 a4 a5 : Nat → Int32) (id : Nat) : Prop :=
  ∃ p x c2 d2 k1 k2 : Nat, a1 id = 1 ∧ k1 < nc ∧ k2 < nc ∧ k2 ≠ k1 ∧ a3 (2 * id) = nI k1 ∧ a3 (2 * id + 1) = nI k2 ∧ a2 id = nI p ∧ a4 (2 * id) = nI x ∧ a5 (2 * id) = nI x ∧ a4 (2 * id + 1) = nI c2 ∧ a5 (2 * id + 1) = nI d2 ∧ 1 ≤ x ∧ 1 ≤ c2 ∧ c2 ≤ d2 ∧ x + d2 = D id ∧ D id ≤ p ∧ p ∣ 60
def el_Task (nc : Nat) (D : Nat → Nat) (a1 a2 a3 a4 a5 : Nat → Int32) (id : Nat) : Prop := el_Free a1 a3 id ∨ el_Whole nc D a1 a2 a3 a4 a5 id ∨ el_Split nc D a1 a2 a3 a4 a5 id
def el_Q (nc : Nat) (D : Nat → Nat) (a1 a2 a3 a4 a5 : Nat → Int32) : Prop :=
  (∀ id, id < 12 → el_Task nc D a1 a2 a3 a4 a5 id) ∧ a3 24 = -1 ∧ a3 25 = -1 ∧ ∀ k, k < nc → ew_Feas k a2 a3 a4 a5
theorem el_part {i : Nat} (hi : i < 24) : ∃ id, id < 12 ∧ i / 2 = id ∧ (i = 2 * id ∨ i = 2 * id + 1) := ⟨i / 2, by omega, rfl, by omega⟩
theorem el_lt24 {nc : Nat} {D : Nat → Nat} {a1 a2 a3 a4 a5 : Nat → Int32} {i : Nat} (hQ : el_Q nc D a1 a2 a3 a4 a5) (hi : i < 26) (hn : a3 i ≠ -1) : i < 24 := by
  have h24 : i ≠ 24 := fun z => hn (by rw [z]; exact hQ.2.1)
  have h25 : i ≠ 25 := fun z => hn (by rw [z]; exact hQ.2.2.1)
  omega
theorem el_good {nc : Nat} {D : Nat → Nat} {a1 a2 a3 a4 a5 : Nat → Int32} (hQ : el_Q nc D a1 a2 a3 a4 a5) : ew_Good a2 a3 a4 a5 := by
  intro i hi hn
  obtain ⟨id, hid, e2, ei⟩ := el_part (el_lt24 hQ hi hn)
  rw [e2]
  rcases hQ.1 id hid with ⟨_, h0, h1⟩ | ⟨p, c, k, _, _, h0, h1, k2, k4, k5, g1, g2, g3, g4⟩ | ⟨p, x, c2, d2, k1, k2, _, _, _, _, h0, h1, m2, m4, m5, m4', m5', g1, g2, g3, g4, g5, g6⟩
  · rcases ei with ei | ei
    · rw [ei] at hn
      exact absurd h0 hn
    · rw [ei] at hn
      exact absurd h1 hn
  · rcases ei with ei | ei
    · rw [ei]
      exact ⟨p, c, D id, k2, k4, k5, g1, g2, g3, g4⟩
    · rw [ei] at hn
      exact absurd h1 hn
  · rcases ei with ei | ei
    · rw [ei]
      exact ⟨p, x, x, m2, m4, m5, g1, Nat.le_refl _, by omega, g6⟩
    · rw [ei]
      exact ⟨p, c2, d2, m2, m4', m5', g2, g3, by omega, g6⟩
theorem el_used {nc : Nat} {D : Nat → Nat} {a1 a2 a3 a4 a5 : Nat → Int32} {i : Nat} (hQ : el_Q nc D a1 a2 a3 a4 a5) (hi : i < 26) (hn : a3 i ≠ -1) : i / 2 < 12 ∧ ¬ a1 (i / 2) = 0 := by
  obtain ⟨id, hid, e2, ei⟩ := el_part (el_lt24 hQ hi hn)
  rw [e2]
  refine ⟨hid, ?_⟩
  rcases hQ.1 id hid with ⟨_, h0, h1⟩ | ⟨p, c, k, h, _⟩ | ⟨p, x, c2, d2, k1, k2, h, _⟩
  · rcases ei with ei | ei
    · rw [ei] at hn
      exact absurd h0 hn
    · rw [ei] at hn
      exact absurd h1 hn
  · rw [h]
    decide
  · rw [h]
    decide
/-! ===== questions ===== -/
section
variable {f0 f1 f2 f3 : Int32} {a1 a2 a3 a4 a5 a6 a7 a8 a9 a10 : Nat → Int32} {k nc id : Nat}
theorem ew_noTask0 {post : Int32 → Prop} (hid : id < 12) (h : a1 id = 0) (H : post 1) : wpX_noTask post (f0, f1, f2, f3, a1, a2, a3, a4, a5, a6, a7, a8, a9, a10) (nI id) :=
  br_f (nI_pos (by omega)) (pk_le 12 id (fun z => absurd z (by omega)) (fun _ => ⟨pk_in id 13 (by omega), br_t (by rw [nI_clamp (by omega)]; exact h) H⟩))
theorem ew_noTask1 {post : Int32 → Prop} (hid : id < 12) (h : ¬ a1 id = 0) (H : post 0) : wpX_noTask post (f0, f1, f2, f3, a1, a2, a3, a4, a5, a6, a7, a8, a9, a10) (nI id) :=
  br_f (nI_pos (by omega)) (pk_le 12 id (fun z => absurd z (by omega)) (fun _ => ⟨pk_in id 13 (by omega), br_f (by rw [nI_clamp (by omega)]; exact h) H⟩))
theorem ew_core0 {post : Int32 → Prop} (hid : id < 12) (h : a1 id = 0) (H : post (-5)) : wpX_core post (f0, f1, f2, f3, a1, a2, a3, a4, a5, a6, a7, a8, a9, a10) (nI id) := by
  unfold wpX_core
  dsimp only
  exact ew_noTask0 hid h (br_f (by decide) H)
theorem ew_core1 {post : Int32 → Prop} (hid : id < 12) (h : ¬ a1 id = 0) (H : post (a3 (2 * id))) : wpX_core post (f0, f1, f2, f3, a1, a2, a3, a4, a5, a6, a7, a8, a9, a10) (nI id) := by
  unfold wpX_core
  dsimp only
  rw [ew_2]
  refine ew_noTask1 hid h (br_t rfl ⟨pk_in (2 * id) 26 (by omega), ?_⟩)
  rw [ew_ix (by omega)]
  exact H
theorem ew_first0 {post : Int32 → Prop} (hid : id < 12) (h : a1 id = 0) (H : post (-5)) : wpX_firstCost post (f0, f1, f2, f3, a1, a2, a3, a4, a5, a6, a7, a8, a9, a10) (nI id) := by
  unfold wpX_firstCost
  dsimp only
  exact ew_noTask0 hid h (br_f (by decide) H)
theorem ew_first1 {post : Int32 → Prop} (hid : id < 12) (h : ¬ a1 id = 0) (H : post (a4 (2 * id))) : wpX_firstCost post (f0, f1, f2, f3, a1, a2, a3, a4, a5, a6, a7, a8, a9, a10) (nI id) := by
  unfold wpX_firstCost
  dsimp only
  rw [ew_2]
  refine ew_noTask1 hid h (br_t rfl ⟨pk_in (2 * id) 26 (by omega), ?_⟩)
  rw [ew_ix (by omega)]
  exact H
theorem ew_sec0 {post : Int32 → Prop} (hid : id < 12) (h : a1 id = 0) (H : post (-5)) : wpX_secondCore post (f0, f1, f2, f3, a1, a2, a3, a4, a5, a6, a7, a8, a9, a10) (nI id) := by
  unfold wpX_secondCore
  dsimp only
  exact ew_noTask0 hid h (br_f (by decide) H)
theorem ew_secW {post : Int32 → Prop} (hid : id < 12) (h : ¬ a1 id = 0) (h3 : a3 (2 * id + 1) = -1) (H : post (-4)) : wpX_secondCore post (f0, f1, f2, f3, a1, a2, a3, a4, a5, a6, a7, a8, a9, a10) (nI id) := by
  unfold wpX_secondCore
  dsimp only
  rw [ew_21]
  refine ew_noTask1 hid h (br_t rfl ⟨pk_in (2 * id + 1) 26 (by omega), ?_⟩)
  rw [ew_ix (by omega), h3]
  exact br_f (by decide) H
theorem ew_secS {post : Int32 → Prop} {j : Nat} (hid : id < 12) (h : ¬ a1 id = 0) (hj : j < 2 ^ 31) (h3 : a3 (2 * id + 1) = nI j) (H : post (nI j)) : wpX_secondCore post (f0, f1, f2, f3, a1, a2, a3, a4, a5, a6, a7, a8, a9, a10) (nI id) := by
  unfold wpX_secondCore
  dsimp only
  rw [ew_21]
  refine ew_noTask1 hid h (br_t rfl ⟨pk_in (2 * id + 1) 26 (by omega), ?_⟩)
  rw [ew_ix (by omega), h3]
  exact br_t (nI_pos' hj) ⟨pk_in (2 * id + 1) 26 (by omega), H⟩
theorem ew_resp0 {post : Int32 → St2 → Prop} (hn : nc ≤ 3) (hk : k < nc) (hid : id < 12) (h : a1 id = 0) (H : post (-5) (nI nc, f1, nI k, f3, a1, a2, a3, a4, a5, a6, a7, a8, a9, a10)) : wpX_response post (nI nc, f1, nI k, f3, a1, a2, a3, a4, a5, a6, a7, a8, a9, a10) (nI k) (nI id) := by
  unfold wpX_response
  dsimp only
  exact ew_badCore hn hk (br_t rfl (ew_noTask0 hid h (br_f (by decide) H)))
theorem ew_resp1 {post : Int32 → St2 → Prop} (hn : nc ≤ 3) (hk : k < nc) (hid : id < 12) (h : ¬ a1 id = 0)
    (HA : a3 (2 * id) = nI k → post (a10 (2 * id)) (nI nc, f1, nI k, f3, a1, a2, a3, a4, a5, a6, a7, a8, a9, a10))
    (HB : ¬ a3 (2 * id) = nI k → a3 (2 * id + 1) = nI k → post (a10 (2 * id + 1)) (nI nc, f1, nI k, f3, a1, a2, a3, a4, a5, a6, a7, a8, a9, a10))
    (HC : ¬ a3 (2 * id) = nI k → ¬ a3 (2 * id + 1) = nI k → post (-5) (nI nc, f1, nI k, f3, a1, a2, a3, a4, a5, a6, a7, a8, a9, a10)) : wpX_response post (nI nc, f1, nI k, f3, a1, a2, a3, a4, a5, a6, a7, a8, a9, a10) (nI k) (nI id) := by
  unfold wpX_response
  dsimp only
  rw [ew_21, ew_2]
  refine ew_badCore hn hk (br_t rfl (ew_noTask1 hid h (br_t rfl (br_t rfl ?_))))
  dsimp only
  rw [ew_ix (show 2 * id < 26 by omega), ew_ix (show 2 * id + 1 < 26 by omega)]
  exact ⟨pk_in (2 * id) 26 (by omega), br_c (fun o => ⟨pk_in (2 * id) 26 (by omega), HA o⟩) (fun o => ⟨pk_in (2 * id + 1) 26 (by omega), br_c (fun o2 => ⟨pk_in (2 * id + 1) 26 (by omega), HB o o2⟩) (fun o2 => HC o o2)⟩)⟩
/-! ===== the law's core: one slot ===== -/
theorem el_slot {W : Int32 → Int32 → Prop} {P0 : Prop} {D : Nat → Nat} {x6 r : Int32} {t : Nat} (hn : nc ≤ 3) (hk : k < nc) (hQ : el_Q nc D a1 a2 a3 a4 a5) (hr : r = -5 ∨ ∃ b, b < 26 ∧ a3 b = nI k ∧ r = nI (b / 2))
    (H5 : r = -5 → W (x6 + 1) (nI (t + 1))) (Hn : ¬ r = -5 → W x6 (nI (t + 1))) :
    (r = (-5) → (∀ y6 : Int32, y6 = x6 + 1 → (∀ y7 : Int32, y7 = nI t + 1 → W y6 y7))) ∧ (¬ r = (-5) → (((r < 0 → P0) ∧ (¬ r < 0 → (((11 < r → P0) ∧ (¬ 11 < r →
      (wpX_core (fun r_100 => (((r_100 = nI k → (∀ y7 : Int32, y7 = nI t + 1 → W x6 y7)) ∧ (¬ r_100 = nI k → (wpX_secondCore (fun r_103 => (((r_103 = nI k → (∀ y7 : Int32, y7 = nI t + 1 → W x6 y7)) ∧ (¬ r_103 = nI k → P0)))) (f0, f1, f2, f3, a1, a2, a3, a4, a5, a6, a7, a8, a9, a10) r)))))
        (f0, f1, f2, f3, a1, a2, a3, a4, a5, a6, a7, a8, a9, a10) r)))))))) := by
  refine br_c (fun h => nm_e (nm_r (nI_1 t) (H5 h))) (fun h => ?_)
  rcases hr with hr | ⟨b, hb, ob, er⟩
  · exact absurd hr h
  · have hW := Hn h
    obtain ⟨h12, hu⟩ := el_used hQ hb (by rw [ob]; exact ew_m1 (by omega))
    rw [er]
    refine br_f (nI_pos (by omega)) (pk_lt 11 (b / 2) (fun z => absurd z (by omega)) (fun _ => ew_core1 h12 hu (br_c (fun _ => nm_r (nI_1 t) hW) (fun hne => ?_))))
    refine ew_secS (j := k) h12 hu (by omega) ?_ (br_t rfl (nm_r (nI_1 t) hW))
    have : b = 2 * (b / 2) ∨ b = 2 * (b / 2) + 1 := by omega
    rcases this with z | z
    · rw [← z] at hne
      exact absurd ob hne
    · rw [← z]
      exact ob
/-! ===== the law's core: one task ===== -/
section
variable {post : Int32 → St2 → Prop} {J : Int32 → Int32 → Int32 → Int32 → Int32 → (Nat → Int32) → (Nat → Int32) → (Nat → Int32) → (Nat → Int32) → (Nat → Int32) → (Nat → Int32) → (Nat → Int32) → (Nat → Int32) → (Nat → Int32) → (Nat → Int32) → Prop} {A B : Int64} {cr sr rr fr dd z0 : Int32}
theorem el_212 (hc : ∀ P : Int32 → Prop, P cr → wpX_core P (f0, f1, f2, f3, a1, a2, a3, a4, a5, a6, a7, a8, a9, a10) (nI id)) (hs : ∀ P : Int32 → Prop, P sr → wpX_secondCore P (f0, f1, f2, f3, a1, a2, a3, a4, a5, a6, a7, a8, a9, a10) (nI id))
    (h3 : ¬ cr = nI k → ¬ sr = nI k → rr = -5) (HJ : J (nI (id + 1)) f0 f1 f2 f3 a1 a2 a3 a4 a5 a6 a7 a8 a9 a10) : wL_core_212 post J (nI k) A B (nI id) rr f0 f1 f2 f3 a1 a2 a3 a4 a5 a6 a7 a8 a9 a10 :=
  hc _ (br_c (fun _ => nm_r (nI_1 id) HJ) (fun h => hs _ (br_c (fun _ => nm_r (nI_1 id) HJ) (fun h' => br_t (h3 h h') (nm_r (nI_1 id) HJ)))))
theorem el_179 (hc : ∀ P : Int32 → Prop, P cr → wpX_core P (f0, f1, f2, f3, a1, a2, a3, a4, a5, a6, a7, a8, a9, a10) (nI id)) (hs : ∀ P : Int32 → Prop, P sr → wpX_secondCore P (f0, f1, f2, f3, a1, a2, a3, a4, a5, a6, a7, a8, a9, a10) (nI id))
    (h2 : sr = nI k → ¬ rr < 1 ∧ rr ≤ dd - fr)
    (h3 : ¬ cr = nI k → ¬ sr = nI k → rr = -5) (HJ : J (nI (id + 1)) f0 f1 f2 f3 a1 a2 a3 a4 a5 a6 a7 a8 a9 a10) : wL_core_179 post J (nI k) A B (nI id) rr dd fr z0 f0 f1 f2 f3 a1 a2 a3 a4 a5 a6 a7 a8 a9 a10 :=
  br_c (fun _ => el_212 hc hs h3 HJ) (fun _ => hs _ (br_c (fun e => br_f (h2 e).1 (br_t (h2 e).2 (el_212 hc hs h3 HJ))) (fun _ => el_212 hc hs h3 HJ)))
theorem el_141 (hc : ∀ P : Int32 → Prop, P cr → wpX_core P (f0, f1, f2, f3, a1, a2, a3, a4, a5, a6, a7, a8, a9, a10) (nI id)) (hs : ∀ P : Int32 → Prop, P sr → wpX_secondCore P (f0, f1, f2, f3, a1, a2, a3, a4, a5, a6, a7, a8, a9, a10) (nI id))
    (h1 : cr = nI k → ¬ rr < fr ∧ (z0 = 0 → rr ≤ dd) ∧ (¬ z0 = 0 → rr ≤ fr)) (h2 : sr = nI k → ¬ rr < 1 ∧ rr ≤ dd - fr)
    (h3 : ¬ cr = nI k → ¬ sr = nI k → rr = -5) (HJ : J (nI (id + 1)) f0 f1 f2 f3 a1 a2 a3 a4 a5 a6 a7 a8 a9 a10) : wL_core_141 post J (nI k) A B (nI id) rr dd fr z0 f0 f1 f2 f3 a1 a2 a3 a4 a5 a6 a7 a8 a9 a10 :=
  hc _ (br_c (fun e => br_f (h1 e).1 (br_c (fun z => br_t ((h1 e).2.1 z) (el_179 hc hs h2 h3 HJ)) (fun z => br_t ((h1 e).2.2 z) (el_179 hc hs h2 h3 HJ)))) (fun _ => el_179 hc hs h2 h3 HJ))
end
/-- what the questions answer of one task, and that the answers pass the law's checks -/
theorem el_ask {D : Nat → Nat} {g : Nat → Int32} (hn : nc ≤ 3) (hk : k < nc) (hQ : el_Q nc D a1 a2 a3 a4 a5) (hP : ew_Pl k a2 a3 a4 a5 f3 a6 a7 a10 g) (hid : id < 12) :
    ∃ cr sr rr fr : Int32, (∀ P : Int32 → Prop, P cr → wpX_core P (nI nc, f1, nI k, f3, a1, a2, a3, a4, a5, a6, a7, a8, a9, a10) (nI id)) ∧ (∀ P : Int32 → Prop, P sr → wpX_secondCore P (nI nc, f1, nI k, f3, a1, a2, a3, a4, a5, a6, a7, a8, a9, a10) (nI id)) ∧
      (∀ P : Int32 → Prop, P fr → wpX_firstCost P (nI nc, f1, nI k, f3, a1, a2, a3, a4, a5, a6, a7, a8, a9, a10) (nI id)) ∧
      (∀ P : Int32 → St2 → Prop, P rr (nI nc, f1, nI k, f3, a1, a2, a3, a4, a5, a6, a7, a8, a9, a10) → wpX_response P (nI nc, f1, nI k, f3, a1, a2, a3, a4, a5, a6, a7, a8, a9, a10) (nI k) (nI id)) ∧
      (cr = nI k → ¬ rr < fr ∧ (sr < 0 → rr ≤ nI (D id)) ∧ (¬ sr < 0 → rr ≤ fr)) ∧ (sr = nI k → ¬ rr < 1 ∧ rr ≤ nI (D id) - fr) ∧ (¬ cr = nI k → ¬ sr = nI k → rr = -5) := by
  have hG := el_good hQ
  have hk3 : k < 3 := by omega
  have hneg : ∀ j, j < 3 → ¬ (-5 : Int32) = nI j ∧ ¬ (-4 : Int32) = nI j := by decide +kernel
  obtain ⟨ns, _, _, _, _, _, hW⟩ := hP
  rcases hQ.1 id hid with ⟨h, h0, h1⟩ | ⟨p, c, k0, h, hk0, h0, h1, m2, m4, m5, g1, g2, g3, g4⟩ | ⟨p, x, c2, d2, k1, k2, h, hk1, hk2, hne, h0, h1, m2, m4, m5, m4', m5', g1, g2, g3, g4, g5, g6⟩
  · exact ⟨-5, -5, -5, -5, fun P H => ew_core0 hid h H, fun P H => ew_sec0 hid h H, fun P H => ew_first0 hid h H, fun P H => ew_resp0 hn hk hid h H,
      fun z => absurd z (hneg k hk3).1, fun z => absurd z (hneg k hk3).1, fun _ _ => rfl⟩
  · have hp := ed_p60 g4
    have hu : ¬ a1 id = 0 := by
      rw [h]
      decide
    by_cases e : k0 = k
    · subst e
      obtain ⟨w, w1, w2, w3⟩ := hW (2 * id) (by omega) h0
      have c4 : ew_c a4 (2 * id) = c := pk_cl c m4
      have c5 : ew_c a5 (2 * id) = D id := pk_cl (D id) m5
      rw [c4] at w2
      rw [c5] at w3
      refine ⟨nI k0, -4, nI w, nI c, fun P H => ew_core1 hid hu (by rw [h0]; exact H), fun P H => ew_secW hid hu h1 H, fun P H => ew_first1 hid hu (by rw [m4]; exact H),
        fun P H => ew_resp1 hn hk hid hu (fun _ => by rw [w1]; exact H) (fun z => absurd h0 z) (fun z => absurd h0 z), fun _ => ⟨nI_nlt w2 (by omega), fun _ => nI_le w3 (by omega), fun z => absurd (by decide) z⟩, fun z => absurd z (hneg k0 hk3).2, fun z => absurd rfl z⟩
    · have e0 : ¬ nI k0 = nI k := fun z => e ((nI_eq (by omega) (by omega)).mp z)
      have h0' : ¬ a3 (2 * id) = nI k := by
        rw [h0]
        exact e0
      have h1' : ¬ a3 (2 * id + 1) = nI k := by
        rw [h1]
        exact fun z => ew_m1 hk3 z.symm
      exact ⟨nI k0, -4, -5, nI c, fun P H => ew_core1 hid hu (by rw [h0]; exact H), fun P H => ew_secW hid hu h1 H, fun P H => ew_first1 hid hu (by rw [m4]; exact H),
        fun P H => ew_resp1 hn hk hid hu (fun z => absurd z h0') (fun _ z => absurd z h1') (fun _ _ => H), fun z => absurd z e0, fun z => absurd z (hneg k hk3).2, fun _ _ => rfl⟩
  · have hp := ed_p60 g6
    have hu : ¬ a1 id = 0 := by
      rw [h]
      decide
    have hs0 : ¬ nI k2 < 0 := nI_pos (by omega)
    by_cases e : k1 = k
    · subst e
      obtain ⟨w, w1, w2, w3⟩ := hW (2 * id) (by omega) h0
      have c4 : ew_c a4 (2 * id) = x := pk_cl x m4
      have c5 : ew_c a5 (2 * id) = x := pk_cl x m5
      rw [c4] at w2
      rw [c5] at w3
      have e2 : ¬ nI k2 = nI k1 := fun z => hne ((nI_eq (by omega) (by omega)).mp z)
      exact ⟨nI k1, nI k2, nI w, nI x, fun P H => ew_core1 hid hu (by rw [h0]; exact H), fun P H => ew_secS hid hu (by omega) h1 H, fun P H => ew_first1 hid hu (by rw [m4]; exact H),
        fun P H => ew_resp1 hn hk hid hu (fun _ => by rw [w1]; exact H) (fun z => absurd h0 z) (fun z => absurd h0 z), fun _ => ⟨nI_nlt w2 (by omega), fun z => absurd z hs0, fun _ => nI_le w3 (by omega)⟩, fun z => absurd z e2, fun z => absurd rfl z⟩
    · have e0 : ¬ nI k1 = nI k := fun z => e ((nI_eq (by omega) (by omega)).mp z)
      have h0' : ¬ a3 (2 * id) = nI k := by
        rw [h0]
        exact e0
      by_cases e2 : k2 = k
      · subst e2
        obtain ⟨w, w1, w2, w3⟩ := hW (2 * id + 1) (by omega) h1
        have c4 : ew_c a4 (2 * id + 1) = c2 := pk_cl c2 m4'
        have c5 : ew_c a5 (2 * id + 1) = d2 := pk_cl d2 m5'
        rw [c4] at w2
        rw [c5] at w3
        have ed : nI (D id) - nI x = nI d2 := by
          rw [pk_sub (by omega), show D id - x = d2 by omega]
        refine ⟨nI k1, nI k2, nI w, nI x, fun P H => ew_core1 hid hu (by rw [h0]; exact H), fun P H => ew_secS hid hu (by omega) h1 H, fun P H => ew_first1 hid hu (by rw [m4]; exact H),
          fun P H => ew_resp1 hn hk hid hu (fun z => absurd z h0') (fun _ _ => by rw [w1]; exact H) (fun _ z => absurd h1 z), fun z => absurd z e0, fun _ => ⟨nI_nlt (b := 1) (by omega) (by omega), by rw [ed]; exact nI_le w3 (by omega)⟩, fun _ z => absurd rfl z⟩
      · have e2' : ¬ nI k2 = nI k := fun z => e2 ((nI_eq (by omega) (by omega)).mp z)
        have h1' : ¬ a3 (2 * id + 1) = nI k := by
          rw [h1]
          exact e2'
        exact ⟨nI k1, nI k2, -5, nI x, fun P H => ew_core1 hid hu (by rw [h0]; exact H), fun P H => ew_secS hid hu (by omega) h1 H, fun P H => ew_first1 hid hu (by rw [m4]; exact H),
          fun P H => ew_resp1 hn hk hid hu (fun z => absurd z h0') (fun _ z => absurd z h1') (fun _ _ => H), fun z => absurd z e0, fun z => absurd z e2', fun _ _ => rfl⟩
theorem el_core93 {post : Int32 → St2 → Prop} {D : Nat → Nat} {A B : Int64} {g : Nat → Int32} (hn : nc ≤ 3) (hk : k < nc) (hQ : el_Q nc D a1 a2 a3 a4 a5) (hK : el_K D A B) (hP : ew_Pl k a2 a3 a4 a5 f3 a6 a7 a10 g)
    (H : post 1 (nI nc, f1, nI k, f3, a1, a2, a3, a4, a5, a6, a7, a8, a9, a10)) : ∃ n, wL_core_93 post (nI k) A B n 0 (nI nc) f1 (nI k) f3 a1 a2 a3 a4 a5 a6 a7 a8 a9 a10 := by
  refine pk_loop (σ := Unit) (fun n i _ => wL_core_93 post (nI k) A B n (nI i) (nI nc) f1 (nI k) f3 a1 a2 a3 a4 a5 a6 a7 a8 a9 a10) (fun _ _ => True) 12 0 () (by omega) trivial ?_ ?_
  · intro n _ _
    exact pk_le 12 12 (fun _ => H) (fun z => absurd z (by omega))
  · intro n i _ hi _ hw
    obtain ⟨cr, sr, rr, fr, hc, hs, hf, hr, q1, q2, q3⟩ := el_ask (f1 := f1) (a8 := a8) (a9 := a9) hn hk hQ hP hi
    refine pk_le 12 i (fun z => absurd z (by omega)) (fun _ => hr _ ?_)
    dsimp only
    refine el_kept hK hi (hf _ (hs _ (br_c (fun z => ?_) (fun z => ?_))))
    · exact el_141 hc hs (fun e => ⟨(q1 e).1, fun _ => (q1 e).2.1 z, fun z2 => absurd rfl z2⟩) q2 q3 (hw () trivial)
    · exact el_141 hc hs (fun e => ⟨(q1 e).1, fun z2 => absurd z2 (by decide), fun _ => (q1 e).2.2 z⟩) q2 q3 (hw () trivial)
theorem el_core {post : Int32 → St2 → Prop} {D : Nat → Nat} {A B : Int64} (hn : nc ≤ 3) (hk : k < nc) (hQ : el_Q nc D a1 a2 a3 a4 a5) (hK : el_K D A B) (h2 : ¬ f2 = nI k)
    (H : ∀ f3' b6 b7 b8 b9 b10, post 1 (nI nc, f1, nI k, f3', a1, a2, a3, a4, a5, b6, b7, b8, b9, b10)) : wpL_core post (nI nc, f1, f2, f3, a1, a2, a3, a4, a5, a6, a7, a8, a9, a10) (nI k) A B := by
  have hG := el_good hQ
  refine pk_loop (σ := Int32 × Int32 × Int32 × (Nat → Int32) × (Nat → Int32) × (Nat → Int32) × (Nat → Int32) × (Nat → Int32)) (fun n i s => wL_core_6 post (nI k) A B n s.1 (nI i) (nI nc) f1 s.2.1 s.2.2.1 a1 a2 a3 a4 a5 s.2.2.2.1 s.2.2.2.2.1 s.2.2.2.2.2.1 s.2.2.2.2.2.2.1 s.2.2.2.2.2.2.2)
    (fun i s => (i = 0 ∧ s.1 = 0 ∧ ¬ s.2.1 = nI k) ∨ (s.2.1 = nI k ∧ ∃ g, ew_Pl k a2 a3 a4 a5 s.2.2.1 s.2.2.2.1 s.2.2.2.2.1 s.2.2.2.2.2.2.2 g ∧ s.1 = nI (ed_idle g i))) 60 0 (0, f2, f3, a6, a7, a8, a9, a10) (by omega) (Or.inl ⟨rfl, rfl, h2⟩) ?_ ?_
  · intro n s hs
    obtain ⟨x6, e2, e3, b6, b7, b8, b9, b10⟩ := s
    dsimp only at hs
    show wL_core_6 post (nI k) A B (n + 1) x6 (nI 60) (nI nc) f1 e2 e3 a1 a2 a3 a4 a5 b6 b7 b8 b9 b10
    rcases hs with ⟨z, _⟩ | ⟨q2, g, hP, q6⟩
    · exact absurd z (by decide)
    · subst q2 q6
      refine pk_le 60 60 (fun _ => ?_) (fun z => absurd z (by omega))
      unfold wpX_load
      dsimp only
      refine ew_badCore hn hk (br_t rfl (ew_loadOf (by omega) hG (br_t ?_ (el_core93 hn hk hQ hK hP (H e3 b6 b7 b8 b9 b10)))))
      obtain ⟨_, _, _, _, _, hl, _⟩ := hP
      rw [nI_add, hl]
      rfl
  · intro n i s hi hs hw
    obtain ⟨x6, e2, e3, b6, b7, b8, b9, b10⟩ := s
    dsimp only at hs
    show wL_core_6 post (nI k) A B (n + 1) x6 (nI i) (nI nc) f1 e2 e3 a1 a2 a3 a4 a5 b6 b7 b8 b9 b10
    refine pk_le 60 i (fun z => absurd z (by omega)) (fun _ => ?_)
    have hstep : ∀ (g : Nat → Int32), ed_idle g (i + 1) = ed_idle g i + (if g i = -5 then 1 else 0) := fun g => rfl
    rcases hs with ⟨z, q6, q2⟩ | ⟨q2, g, hP, q6⟩
    · subst z q6
      refine ew_running0 hn hk hG (hQ.2.2.2 k hk) q2 hi (fun e3' c6 c7 c8 c9 c10 g hP => ?_)
      dsimp only
      have hok : ∀ t, t < 60 → g t = -5 ∨ ∃ b, b < 26 ∧ a3 b = nI k ∧ g t = nI (b / 2) := by
        obtain ⟨_, _, _, _, hT, _⟩ := hP
        exact hT.2.2
      refine el_slot hn hk hQ (hok 0 hi) (fun h5 => hw (_, _, _, _, _, _, _, _) (Or.inr ⟨rfl, g, hP, ?_⟩)) (fun h5 => hw (_, _, _, _, _, _, _, _) (Or.inr ⟨rfl, g, hP, ?_⟩))
      · rw [hstep, if_pos h5]
        rfl
      · rw [hstep, if_neg h5]
        rfl
    · subst q2 q6
      refine ew_running1 hn hk hP hi ?_
      dsimp only
      have hok : ∀ t, t < 60 → g t = -5 ∨ ∃ b, b < 26 ∧ a3 b = nI k ∧ g t = nI (b / 2) := by
        obtain ⟨_, _, _, _, hT, _⟩ := hP
        exact hT.2.2
      refine el_slot hn hk hQ (hok i hi) (fun h5 => hw (_, _, _, _, _, _, _, _) (Or.inr ⟨rfl, g, hP, ?_⟩)) (fun h5 => hw (_, _, _, _, _, _, _, _) (Or.inr ⟨rfl, g, hP, ?_⟩))
      · rw [hstep, if_pos h5]
        exact nI_1 _
      · rw [hstep, if_neg h5]
        rfl
end
end
section
/-! ===== how many tasks are used ===== -/
def el_cnt (a1 : Nat → Int32) : Nat := ed_sum (fun i => if a1 i = 0 then 0 else 1) 12
theorem el_cnt_le (a1 : Nat → Int32) : el_cnt a1 ≤ 12 := by
  refine ed_sum_bd (M := 1) (fun i _ => ?_)
  by_cases h : a1 i = 0
  · rw [if_pos h]
    omega
  · rw [if_neg h]
    exact Nat.le_refl 1
theorem el_cnt_free {a1 : Nat → Int32} (h : el_cnt a1 < 12) : ∃ i, i < 12 ∧ a1 i = 0 := by
  by_cases hx : ∃ i, i < 12 ∧ a1 i = 0
  · exact hx
  · have e : el_cnt a1 = ed_sum (fun _ => 1) 12 := ed_sum_eq (fun i hi => if_neg (fun z => hx ⟨i, hi, z⟩))
    have e2 : ed_sum (fun _ => 1) 12 = 12 := by decide
    omega
theorem el_cnt_up {a1 : Nat → Int32} {id : Nat} (hid : id < 12) (h : a1 id = 0) : el_cnt (upd a1 id 1) = el_cnt a1 + 1 := by
  refine (ed_sum_dec (x := 1) hid ?_ (fun i _ hn => ?_)).symm
  · show (if a1 id = 0 then 0 else 1) + 1 = (if upd a1 id 1 id = 0 then 0 else 1)
    rw [if_pos h, pk_us, if_neg (by decide)]
  · show (if a1 i = 0 then 0 else 1) = (if upd a1 id 1 i = 0 then 0 else 1)
    rw [pk_un hn]
theorem el_cnt_dn {a1 : Nat → Int32} {id : Nat} (hid : id < 12) (h : ¬ a1 id = 0) : el_cnt (upd a1 id 0) + 1 = el_cnt a1 := by
  refine ed_sum_dec hid ?_ (fun i _ hn => ?_)
  · show (if upd a1 id 0 id = 0 then 0 else 1) + 1 = (if a1 id = 0 then 0 else 1)
    rw [if_neg h, pk_us, if_pos rfl]
  · show (if upd a1 id 0 i = 0 then 0 else 1) = (if a1 i = 0 then 0 else 1)
    rw [pk_un hn]
/-! ===== steps of the invariant ===== -/
theorem el_task_congr {nc : Nat} {D D' : Nat → Nat} {a1 a2 a3 a4 a5 b1 b2 b3 b4 b5 : Nat → Int32} {id : Nat} (h : el_Task nc D a1 a2 a3 a4 a5 id) (e1 : b1 id = a1 id) (e2 : b2 id = a2 id) (e30 : b3 (2 * id) = a3 (2 * id)) (e31 : b3 (2 * id + 1) = a3 (2 * id + 1))
    (e40 : b4 (2 * id) = a4 (2 * id)) (e41 : b4 (2 * id + 1) = a4 (2 * id + 1)) (e50 : b5 (2 * id) = a5 (2 * id)) (e51 : b5 (2 * id + 1) = a5 (2 * id + 1)) (eD : D' id = D id) : el_Task nc D' b1 b2 b3 b4 b5 id := by
  unfold el_Task el_Free el_Whole el_Split at h ⊢
  rw [e1, e2, e30, e31, e40, e41, e50, e51, eD]
  exact h
theorem el_Q_step {nc : Nat} {D D' : Nat → Nat} {a1 a2 a3 a4 a5 b1 b2 b3 b4 b5 : Nat → Int32} {id : Nat} (hQ : el_Q nc D a1 a2 a3 a4 a5) (hid : id < 12) (h1 : ∀ j, j ≠ id → b1 j = a1 j) (h2 : ∀ j, j ≠ id → b2 j = a2 j) (A3 : ew_Agr id a3 b3) (A4 : ew_Agr id a4 b4) (A5 : ew_Agr id a5 b5)
    (hD : ∀ j, j ≠ id → D' j = D j) (hT : el_Task nc D' b1 b2 b3 b4 b5 id) (hF : ∀ k, k < nc → ew_Feas k b2 b3 b4 b5) : el_Q nc D' b1 b2 b3 b4 b5 := by
  refine ⟨fun j hj => ?_, by rw [A3 24 (by omega) (by omega)]; exact hQ.2.1, by rw [A3 25 (by omega) (by omega)]; exact hQ.2.2.1, hF⟩
  by_cases e : j = id
  · rw [e]
    exact hT
  · exact el_task_congr (hQ.1 j hj) (h1 j e) (h2 j e) (A3 _ (by omega) (by omega)) (A3 _ (by omega) (by omega)) (A4 _ (by omega) (by omega)) (A4 _ (by omega) (by omega)) (A5 _ (by omega) (by omega)) (A5 _ (by omega) (by omega)) (hD j e)
theorem el_keep {k id : Nat} {a2 a3 a4 a5 b2 b3 b4 b5 : Nat → Int32} (hF : ew_Feas k a2 a3 a4 a5) (h2 : ∀ j, j ≠ id → b2 j = a2 j) (A3 : ew_Agr id a3 b3) (A4 : ew_Agr id a4 b4) (A5 : ew_Agr id a5 b5) (h0 : ¬ b3 (2 * id) = nI k) (h1 : ¬ b3 (2 * id + 1) = nI k) : ew_Feas k b2 b3 b4 b5 := by
  refine ew_feas_mono (fun i hi o => ?_) hF
  have n0 : i ≠ 2 * id := fun z => h0 (by rw [← z]; exact o)
  have n1 : i ≠ 2 * id + 1 := fun z => h1 (by rw [← z]; exact o)
  exact ⟨by rw [← A3 i n0 n1]; exact o, h2 _ (by omega), A4 i n0 n1, A5 i n0 n1⟩
theorem el_free {nc : Nat} {D : Nat → Nat} {a1 a2 a3 a4 a5 : Nat → Int32} {id : Nat} (hQ : el_Q nc D a1 a2 a3 a4 a5) (hid : id < 12) (h : a1 id = 0) : a3 (2 * id) = -1 ∧ a3 (2 * id + 1) = -1 := by
  rcases hQ.1 id hid with ⟨_, h0, h1⟩ | ⟨p, c, k, h', _⟩ | ⟨p, x, c2, d2, k1, k2, h', _⟩
  · exact ⟨h0, h1⟩
  · rw [h] at h'
    exact absurd h' (by decide)
  · rw [h] at h'
    exact absurd h' (by decide)
theorem el_nm1 {k : Nat} (hk : k < 3) : ¬ (-1 : Int32) = nI k := fun z => ew_m1 hk z.symm
section
variable {f3 : Int32} {a1 a2 a3 a4 a5 a6 a7 a8 a9 a10 : Nat → Int32} {nc : Nat} {D : Nat → Nat}
theorem el_admit {post : Int32 → St2 → Prop} {c d p : Nat} (hn : nc ≤ 3) (hQ : el_Q nc D a1 a2 a3 a4 a5) (g1 : 1 ≤ c) (g2 : c ≤ d) (g3 : d ≤ p) (h2 : 2 ≤ p) (g4 : p ∣ 60)
    (H0 : ∀ r b2 b4 b5, r = -3 ∨ r = -4 → el_Q nc D a1 b2 a3 b4 b5 → post r (nI nc, nI (el_cnt a1), -1, f3, a1, b2, a3, b4, b5, a6, a7, a8, a9, a10))
    (H1 : ∀ id b1 b2 b3 b4 b5, id < 12 → el_Q nc (el_up D id d) b1 b2 b3 b4 b5 → post (nI id) (nI nc, nI (el_cnt b1), -1, f3, b1, b2, b3, b4, b5, a6, a7, a8, a9, a10)) :
    wpX_admit post (nI nc, nI (el_cnt a1), -1, f3, a1, a2, a3, a4, a5, a6, a7, a8, a9, a10) (nI c) (nI d) (nI p) := by
  refine ew_admit (q := el_cnt a1) hn (el_cnt_le a1) g1 g2 g3 h2 g4 (el_good hQ) el_cnt_free (fun id hid h => el_free hQ hid h) (H0 (-3) a2 a4 a5 (Or.inl rfl) hQ) ?_ ?_ ?_
  · intro id b4 b5 hid h1 A4 A5
    obtain ⟨h30, h31⟩ := el_free hQ hid h1
    refine H0 (-4) _ _ _ (Or.inr rfl) (el_Q_step (id := id) hQ hid (fun _ _ => rfl) (fun j hj => pk_un hj) (ew_agr_refl _ _) A4 A5 (fun _ _ => rfl) (Or.inl ⟨h1, h30, h31⟩) (fun k hk => ?_))
    exact el_keep (id := id) (hQ.2.2.2 k hk) (fun j hj => pk_un hj) (ew_agr_refl _ _) A4 A5 (by rw [h30]; exact el_nm1 (by omega)) (by rw [h31]; exact el_nm1 (by omega))
  · intro id k b4 b5 hid h1 hk A4 A5 e4 e5 hF
    obtain ⟨h30, h31⟩ := el_free hQ hid h1
    have eD : el_up D id d id = d := if_pos rfl
    have q0 : upd a3 (2 * id) (nI k) (2 * id) = nI k := pk_us
    have q1 : upd a3 (2 * id) (nI k) (2 * id + 1) = -1 := by
      rw [pk_un (by omega)]
      exact h31
    have A3 : ew_Agr id a3 (upd a3 (2 * id) (nI k)) := ew_agr_0 (ew_agr_refl _ _)
    rw [← el_cnt_up hid h1]
    refine H1 id _ _ _ _ _ hid (el_Q_step (id := id) hQ hid (fun j hj => pk_un hj) (fun j hj => pk_un hj) A3 A4 A5 (fun j hj => if_neg hj) (Or.inr (Or.inl ⟨p, c, k, pk_us, hk, q0, q1, pk_us, e4, by rw [eD]; exact e5, g1, by rw [eD]; exact g2, by rw [eD]; exact g3, g4⟩)) (fun k' hk' => ?_))
    by_cases e : k' = k
    · rw [e]
      exact hF
    · exact el_keep (id := id) (hQ.2.2.2 k' hk') (fun j hj => pk_un hj) A3 A4 A5 (by rw [q0]; exact fun z => e ((nI_eq (by omega) (by omega)).mp z).symm) (by rw [q1]; exact el_nm1 (by omega))
  · intro id x i1 j1 b4 b5 hid h1 hx hxc hi1 hj1 hne A4 A5 e4 e5 e4' e5' hF1 hF2
    obtain ⟨h30, h31⟩ := el_free hQ hid h1
    have eD : el_up D id d id = d := if_pos rfl
    have q0 : upd (upd a3 (2 * id) (nI i1)) (2 * id + 1) (nI j1) (2 * id) = nI i1 := by
      rw [pk_un (by omega), pk_us]
    have q1 : upd (upd a3 (2 * id) (nI i1)) (2 * id + 1) (nI j1) (2 * id + 1) = nI j1 := pk_us
    have A3 : ew_Agr id a3 (upd (upd a3 (2 * id) (nI i1)) (2 * id + 1) (nI j1)) := ew_agr_1 (ew_agr_0 (ew_agr_refl _ _))
    rw [← el_cnt_up hid h1]
    refine H1 id _ _ _ _ _ hid (el_Q_step (id := id) hQ hid (fun j hj => pk_un hj) (fun j hj => pk_un hj) A3 A4 A5 (fun j hj => if_neg hj)
      (Or.inr (Or.inr ⟨p, x, c - x, d - x, i1, j1, pk_us, hi1, hj1, hne, q0, q1, pk_us, e4, e5, e4', e5', hx, by omega, by omega, by rw [eD]; omega, by rw [eD]; exact g3, g4⟩)) (fun k' hk' => ?_))
    by_cases ei : k' = i1
    · rw [ei]
      exact hF1
    · by_cases ej : k' = j1
      · rw [ej]
        exact hF2
      · exact el_keep (id := id) (hQ.2.2.2 k' hk') (fun j hj => pk_un hj) A3 A4 A5 (by rw [q0]; exact fun z => ei ((nI_eq (by omega) (by omega)).mp z).symm) (by rw [q1]; exact fun z => ej ((nI_eq (by omega) (by omega)).mp z).symm)
theorem el_remove {post : Int32 → St2 → Prop} {m : Nat} (hn : nc ≤ 3) (hm : m < 16) (hQ : el_Q nc D a1 a2 a3 a4 a5)
    (H : ∀ r b1 b3, el_Q nc D b1 a2 b3 a4 a5 → post r (nI nc, nI (el_cnt b1), -1, f3, b1, a2, b3, a4, a5, a6, a7, a8, a9, a10)) :
    wpX_remove post (nI nc, nI (el_cnt a1), -1, f3, a1, a2, a3, a4, a5, a6, a7, a8, a9, a10) (nI m) := by
  unfold wpX_remove
  dsimp only
  by_cases hid : m < 12
  · by_cases h : a1 m = 0
    · exact ew_noTask0 hid h (br_f (by decide) (H (-5) a1 a3 hQ))
    · rw [ew_21, ew_2]
      refine ew_noTask1 hid h (br_t rfl ?_)
      rw [nI_clamp (show m < 2 ^ 31 by omega), ew_ix (show 2 * m < 26 by omega), ew_ix (show 2 * m + 1 < 26 by omega)]
      have ec : nI (el_cnt a1) - 1 = nI (el_cnt (upd a1 m 0)) := by
        rw [← el_cnt_dn hid h]
        exact nI_pred _
      refine ⟨pk_in m 13 (by omega), nm_e ⟨pk_in (2 * m) 26 (by omega), nm_e ⟨pk_in (2 * m + 1) 26 (by omega), nm_e (nm_r ec (H _ _ _ ?_))⟩⟩⟩
      have q0 : upd (upd a3 (2 * m) (-1)) (2 * m + 1) (-1) (2 * m) = -1 := by
        rw [pk_un (by omega), pk_us]
      have q1 : upd (upd a3 (2 * m) (-1)) (2 * m + 1) (-1) (2 * m + 1) = -1 := pk_us
      have A3 : ew_Agr m a3 (upd (upd a3 (2 * m) (-1)) (2 * m + 1) (-1)) := ew_agr_1 (ew_agr_0 (ew_agr_refl _ _))
      refine el_Q_step (id := m) hQ hid (fun j hj => pk_un hj) (fun _ _ => rfl) A3 (ew_agr_refl _ _) (ew_agr_refl _ _) (fun _ _ => rfl) (Or.inl ⟨pk_us, q0, q1⟩) (fun k hk => ?_)
      exact el_keep (id := m) (hQ.2.2.2 k hk) (fun _ _ => rfl) A3 (ew_agr_refl _ _) (ew_agr_refl _ _) (by rw [q0]; exact el_nm1 (by omega)) (by rw [q1]; exact el_nm1 (by omega))
  · exact br_f (nI_pos (by omega)) (pk_le 12 m (fun _ => br_f (by decide) (H (-5) a1 a3 hQ)) (fun z => absurd z (by omega)))
/-! ===== the law's loops ===== -/
theorem el_law213 {post : Int32 → Prop} {L kc ks : Nat} {xs : Nat → Int32} {f1 f2 : Int32} {A B : Int64} (hn : nc ≤ 3) (hQ : el_Q nc D a1 a2 a3 a4 a5) (hK : el_K D A B) (h2 : ∀ j, j < nc → ¬ f2 = nI j) (H : post 1) :
    ∃ n, wL_law_213 post L xs (nI nc) A B kc ks n 0 (nI nc) f1 f2 f3 a1 a2 a3 a4 a5 a6 a7 a8 a9 a10 := by
  refine pk_loop (σ := Int32 × Int32 × (Nat → Int32) × (Nat → Int32) × (Nat → Int32) × (Nat → Int32) × (Nat → Int32)) (fun n i s => wL_law_213 post L xs (nI nc) A B kc ks n (nI i) (nI nc) f1 s.1 s.2.1 a1 a2 a3 a4 a5 s.2.2.1 s.2.2.2.1 s.2.2.2.2.1 s.2.2.2.2.2.1 s.2.2.2.2.2.2)
    (fun i s => ∀ j, i ≤ j → j < nc → ¬ s.1 = nI j) nc 0 (f2, f3, a6, a7, a8, a9, a10) (by omega) (fun j _ hj => h2 j hj) ?_ ?_
  · intro n s hs
    exact pk_le nc nc (fun _ => H) (fun z => absurd z (by omega))
  · intro n i s hi hs hw
    obtain ⟨e2, e3, b6, b7, b8, b9, b10⟩ := s
    dsimp only at hs
    show wL_law_213 post L xs (nI nc) A B kc ks (n + 1) (nI i) (nI nc) f1 e2 e3 a1 a2 a3 a4 a5 b6 b7 b8 b9 b10
    refine pk_le nc i (fun z => absurd z (by omega)) (fun _ => el_core hn hi hQ hK (hs i (Nat.le_refl _) hi) (fun e3' c6 c7 c8 c9 c10 => ?_))
    dsimp only
    refine br_f (by decide) (nm_r (nI_1 i) (hw (nI i, e3', c6, c7, c8, c9, c10) (fun j h1 hj => ?_)))
    exact fun z => absurd ((nI_eq (by omega) (by omega)).mp z) (by omega)
end
theorem el_and31 (x : Int32) : ∃ j : Nat, j < 2 ^ 31 ∧ x &&& 2147483647 = nI j := pk_andE x 31 (by decide)
theorem el_rem (x : Int32) {p : Nat} (hp : 0 < p) (hp2 : p < 2 ^ 31) : ∃ q, q < p ∧ 1 + ((x &&& 2147483647) - (x &&& 2147483647) / nI p * nI p) = nI (1 + q) := by
  obtain ⟨j, hj, e⟩ := el_and31 x
  refine ⟨j % p, Nat.mod_lt _ hp, ?_⟩
  rw [e, pk_rem hj hp hp2]
  exact nI_add 1 (j % p)
theorem el_period {post : Int32 → Prop} {x : Int32} (H : ∀ p, 2 ≤ p → p ∣ 60 → post (nI p)) : wpL_period post () x := by
  obtain ⟨j, hj, e⟩ := el_and31 x
  have er : (x &&& 2147483647) - (x &&& 2147483647) / 11 * 11 = nI (j % 11) := by
    rw [e]
    exact pk_rem (d := 11) hj (by omega) (by omega)
  have hq : j % 11 < 11 := Nat.mod_lt _ (by omega)
  have hd : ∀ q, q < 5 → (q + 2) ∣ 60 := by decide
  refine ⟨by decide, nm_r er ?_⟩
  refine pk_le 5 (j % 11) (fun z => ?_) (fun z => ?_)
  · refine pk_eq (j % 11) 5 (fun _ => H 10 (by omega) (by decide)) (fun _ => ?_)
    refine pk_eq (j % 11) 6 (fun _ => H 12 (by omega) (by decide)) (fun _ => ?_)
    refine pk_eq (j % 11) 7 (fun _ => H 15 (by omega) (by decide)) (fun _ => ?_)
    refine pk_eq (j % 11) 8 (fun _ => H 20 (by omega) (by decide)) (fun _ => ?_)
    exact pk_eq (j % 11) 9 (fun _ => H 30 (by omega) (by decide)) (fun _ => H 60 (by omega) (by decide))
  · have e2 : nI (j % 11) + 2 = nI (j % 11 + 2) := nI_add (j % 11) 2
    rw [e2]
    exact H (j % 11 + 2) (by omega) (hd _ z)
section
variable {f3 : Int32} {a1 a2 a3 a4 a5 a6 a7 a8 a9 a10 : Nat → Int32} {nc : Nat} {D : Nat → Nat}
theorem el_law30 {post : Int32 → Prop} {L kc ks : Nat} {xs : Nat → Int32} (hL : L ≤ 260) (hn : nc ≤ 3) (hQ : el_Q nc D a1 a2 a3 a4 a5) (hK : el_K D 0 0) (H : post 1) :
    ∃ n, wL_law_30 post L xs (nI nc) kc ks n 0 0 1 (nI nc) (nI (el_cnt a1)) (-1) f3 a1 a2 a3 a4 a5 a6 a7 a8 a9 a10 := by
  refine pk_loop (σ := Int64 × Int64 × (Nat → Int32) × (Nat → Int32) × (Nat → Int32) × (Nat → Int32) × (Nat → Int32)) (fun n i s => wL_law_30 post L xs (nI nc) kc ks n s.1 s.2.1 (nI (1 + 3 * i)) (nI nc) (nI (el_cnt s.2.2.1)) (-1) f3 s.2.2.1 s.2.2.2.1 s.2.2.2.2.1 s.2.2.2.2.2.1 s.2.2.2.2.2.2 a6 a7 a8 a9 a10)
    (fun i s => ∃ D, el_Q nc D s.2.2.1 s.2.2.2.1 s.2.2.2.2.1 s.2.2.2.2.2.1 s.2.2.2.2.2.2 ∧ el_K D s.1 s.2.1) ((L - 1) / 3) 0 (0, 0, a1, a2, a3, a4, a5) (by omega) ⟨D, hQ, hK⟩ ?_ ?_
  · intro n s hs
    obtain ⟨A, B, b1, b2, b3, b4, b5⟩ := s
    obtain ⟨D', hQ', hK'⟩ := hs
    dsimp only at hQ' hK'
    show wL_law_30 post L xs (nI nc) kc ks (n + 1) A B (nI (1 + 3 * ((L - 1) / 3))) (nI nc) (nI (el_cnt b1)) (-1) f3 b1 b2 b3 b4 b5 a6 a7 a8 a9 a10
    have e2 : nI (1 + 3 * ((L - 1) / 3)) + 2 = nI (1 + 3 * ((L - 1) / 3) + 2) := nI_add _ 2
    exact pk_le L (1 + 3 * ((L - 1) / 3) + 2) (fun _ => el_law213 hn hQ' hK' (fun j hj => el_nm1 (by omega)) H) (fun z => absurd z (by omega)) rfl e2
  · intro n i s hi hs hw
    obtain ⟨A, B, b1, b2, b3, b4, b5⟩ := s
    obtain ⟨D', hQ', hK'⟩ := hs
    dsimp only at hQ' hK'
    show wL_law_30 post L xs (nI nc) kc ks (n + 1) A B (nI (1 + 3 * i)) (nI nc) (nI (el_cnt b1)) (-1) f3 b1 b2 b3 b4 b5 a6 a7 a8 a9 a10
    have e1 : nI (1 + 3 * i) + 1 = nI (2 + 3 * i) := by
      rw [nI_1, show 1 + 3 * i + 1 = 2 + 3 * i by omega]
    have e2 : nI (1 + 3 * i) + 2 = nI (3 + 3 * i) := by
      have := nI_add (1 + 3 * i) 2
      rw [show 1 + 3 * i + 2 = 3 + 3 * i by omega] at this
      exact this
    have e3 : nI (1 + 3 * i) + 3 = nI (1 + 3 * (i + 1)) := by
      have := nI_add (1 + 3 * i) 3
      rw [show 1 + 3 * i + 3 = 1 + 3 * (i + 1) by omega] at this
      exact this
    refine pk_le L (3 + 3 * i) (fun z => absurd z (by omega)) (fun _ => ⟨pk_in (1 + 3 * i) L (by omega), ?_⟩) rfl e2
    refine br_c (fun _ => ⟨pk_in (2 + 3 * i) L (by omega) e1, ?_⟩) (fun _ => ⟨pk_in (1 + 3 * i) L (by omega), ?_⟩)
    · obtain ⟨m, hm, em⟩ := pk_andE (xs (nI (1 + 3 * i) + 1).toNatClampNeg) (m := 15) 4 (by decide)
      rw [em]
      refine el_remove hn hm hQ' (fun r c1 c3 hQ2 => ?_)
      dsimp only
      exact nm_r e3 (hw (A, B, c1, b2, c3, b4, b5) ⟨D', hQ2, hK'⟩)
    · refine el_period (fun p hp hd => ⟨pk_in (2 + 3 * i) L (by omega) e1, ?_⟩)
      have hp60 := ed_p60 hd
      obtain ⟨q, hq, eq⟩ := el_rem (xs (nI (1 + 3 * i) + 1).toNatClampNeg) (p := p) (by omega) (by omega)
      obtain ⟨q2, hq2, eq2⟩ := el_rem (xs (nI (1 + 3 * i) + 2).toNatClampNeg) (p := 1 + q) (by omega) (by omega)
      refine ⟨nI_ne0 (by omega) (by omega), nm_r eq ⟨pk_in (3 + 3 * i) L (by omega) e2, nI_ne0 (by omega) (by omega), nm_r eq2 ?_⟩⟩
      refine el_admit hn hQ' (by omega) (by omega) (by omega) hp hd (fun r c2 c4 c5 hr hQ2 => ?_) (fun id c1 c2 c3 c4 c5 hid hQ2 => ?_)
      · dsimp only
        have hr0 : r < 0 ∧ r < 6 := by
          rcases hr with z | z
          · rw [z]
            decide
          · rw [z]
            decide
        exact br_t hr0.1 (br_t hr0.2 (nm_r e3 (hw (A, B, b1, c2, b3, c4, c5) ⟨D', hQ2, hK'⟩)))
      · dsimp only
        refine br_f (nI_pos (by omega)) (pk_le 6 id (fun z => ?_) (fun z => ?_))
        · have e6 : nI id - 6 = nI (id - 6) := pk_sub (b := 6) z
          have hK2 : el_K (el_up D' id (1 + q)) A (el_put B (id - 6) (nI (1 + q))) := by
            have h := el_k_hi (id := id - 6) (d := 1 + q) hK' (by omega) (by omega)
            rw [show 6 + (id - 6) = id by omega] at h
            exact h
          exact pk_lt id 6 (fun z2 => absurd z2 (by omega)) (fun _ => nm_r (e' := el_put B (id - 6) (nI (1 + q))) (by rw [e6]; rfl) (nm_r e3 (hw (A, el_put B (id - 6) (nI (1 + q)), c1, c2, c3, c4, c5) ⟨_, hQ2, hK2⟩)))
        · exact nm_r (e' := el_put A id (nI (1 + q))) rfl (nm_r e3 (hw (el_put A id (nI (1 + q)), B, c1, c2, c3, c4, c5) ⟨_, hQ2, el_k_lo hK' (by omega) z⟩))
end
theorem el_init107 {post : St2 → Prop} {mc ms kc ks : Nat} {f0 f1 f2 f3 : Int32} {a1 a2 a3 a4 a5 a6 a7 a8 a9 a10 : Nat → Int32} (H : ∀ b3, (∀ j, j < 26 → b3 j = -1) → post (f0, f1, -1, f3, a1, a2, b3, a4, a5, a6, a7, a8, a9, a10)) :
    ∃ n, wX_init_107 post mc ms kc ks f0 f1 f2 f3 n 0 a1 a2 a3 a4 a5 a6 a7 a8 a9 a10 := by
  refine pk_loop (σ := Nat → Int32) (fun n i s => wX_init_107 post mc ms kc ks f0 f1 f2 f3 n (nI i) a1 a2 s a4 a5 a6 a7 a8 a9 a10) (fun i s => ∀ j, j < i → s j = -1) 26 0 a3 (by omega) (fun j hj => absurd hj (by omega)) ?_ ?_
  · intro n s hs
    exact pk_le 26 26 (fun _ => H s hs) (fun z => absurd z (by omega))
  · intro n i s hi hs hw
    refine pk_le 26 i (fun z => absurd z (by omega)) (fun _ => ⟨pk_in i 26 hi, nm_r (e' := upd s i (-1)) (by rw [ew_ix hi]) (nm_r (nI_1 i) (hw _ (fun j hj => ?_)))⟩)
    by_cases e : j = i
    · rw [e, pk_us]
    · rw [pk_un e]
      exact hs j (by omega)
theorem el_Q0 {nc : Nat} (hn : nc ≤ 3) {b3 : Nat → Int32} (h : ∀ j, j < 26 → b3 j = -1) : el_Q nc (fun _ => 0) (fun _ => 0) (fun _ => 0) b3 (fun _ => 0) (fun _ => 0) := by
  refine ⟨fun id hid => Or.inl ⟨rfl, h _ (by omega), h _ (by omega)⟩, h _ (by omega), h _ (by omega), fun k hk s _ => ?_⟩
  have e : ed_dem (ew_on k b3) (ew_p (fun _ => 0)) (ew_c (fun _ => 0)) (ew_c (fun _ => 0)) s 26 = 0 := by
    refine ed_sum_0 (fun i hi => ?_)
    unfold ed_di
    refine if_neg (fun z => ?_)
    have z' : b3 i = nI k := of_decide_eq_true z
    rw [h i hi] at z'
    exact el_nm1 (by omega) z'
  rw [e]
  exact Nat.zero_le _
theorem el_init {post : St2 → Prop} {nc : Nat} (h1 : 1 ≤ nc) (h3 : nc ≤ 3) (H : ∀ b3, (∀ j, j < 26 → b3 j = -1) → post (nI nc, 0, -1, 0, (fun _ => 0), (fun _ => 0), b3, (fun _ => 0), (fun _ => 0), (fun _ => 0), (fun _ => 0), (fun _ => 0), (fun _ => 0), (fun _ => 0))) :
    wpX_init post 10 310 (0, 0, 0, 0) (nI nc) := by
  refine ⟨by omega, by omega, by omega, by omega, by omega, by omega, by omega, by omega, by omega, by omega, by omega, by omega, by omega, by omega, by omega, by omega, by omega, by omega, by omega, by omega, ?_⟩
  exact pk_le 1 nc (fun _ => pk_le nc 3 (fun _ => el_init107 H) (fun z => absurd z (by omega))) (fun z => absurd z (by omega))
theorem i_vc (xs : Nat → Int32) (L : Nat) (hL : L ≤ 260) : wpL_law (fun r => r = 1) L xs := by
  have key : ∀ r : Int32, ¬ (3 : Int32) = 0 ∧ (∀ x1_3 : Int32, x1_3 = 1 + ((r &&& 2147483647) - (r &&& 2147483647) / 3 * 3) → (∃ mc_40 ms_41 : Nat, 1 + mc_40 ≤ 11 ∧ 14 + ms_41 ≤ 324 ∧ (wpX_init (fun u => match u with | (fm13_cores_6, fm13_tasks_7, fm13_plannedCore_8, fm13_stretches_9, am181_12, am182_15, am183_18, am184_21, am185_24, am186_27, am187_30, am188_33, am189_36, am1810_39) => (∃ fu30 : Nat, wL_law_30 (fun r => r = 1) L xs x1_3 (1 + mc_40) (14 + ms_41) fu30 0 0 1 fm13_cores_6 fm13_tasks_7 fm13_plannedCore_8 fm13_stretches_9 am181_12 am182_15 am183_18 am184_21 am185_24 am186_27 am187_30 am188_33 am189_36 am1810_39)) mc_40 ms_41 (0, 0, 0, 0) x1_3))) := by
    intro r
    obtain ⟨q, hq, eq⟩ := el_rem r (p := 3) (by omega) (by omega)
    refine ⟨by decide, nm_r eq ⟨10, 310, by omega, by omega, ?_⟩⟩
    refine el_init (by omega) (by omega) (fun b3 hb => ?_)
    dsimp only
    exact el_law30 (a1 := fun _ => 0) hL (by omega) (el_Q0 (by omega) hb) el_k_0 rfl
  exact pk_le L 0 (fun _ => key 0) (fun z => ⟨pk_in 0 L z, key _⟩)
end
