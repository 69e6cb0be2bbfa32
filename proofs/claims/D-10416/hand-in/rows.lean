section
/-! the picture: what the layers show at a path -/
/-- the layer found among those below n, not below F: the topmost that holds something; none for nothing or a hole -/
def ot_tp (c : Nat → Int32) (F : Nat) : Nat → Option Nat
  | 0 => none
  | n + 1 => if n < F then none else if c n = 0 then ot_tp c F n else if c n = 4 then none else some n
/-- the floor after a look at the layers below n -/
def ot_rf (c : Nat → Int32) (F : Nat) : Nat → Nat
  | 0 => F
  | n + 1 => if n < F then F else if c n = 3 then n else if c n = 1 ∨ c n = 4 then n + 1 else ot_rf c F n
def ot_col (H : Nat → Int32) (p : Nat) : Nat → Int32 := fun l => H (85 * l + p)
/-- the path is a directory that shows: the floor for what is below it -/
def ot_D (H : Nat → Int32) (p : Nat) : Option Nat :=
  if h : p = 0 then some 0 else
    match ot_D H ((p - 1) / 4) with
    | none => none
    | some F => match ot_tp (ot_col H p) F 5 with
      | none => none
      | some l => if H (85 * l + p) = 1 then none else some (ot_rf (ot_col H p) F 5)
termination_by p
decreasing_by omega
def ot_L (H : Nat → Int32) (p : Nat) : Option Nat :=
  if p = 0 then some 4 else match ot_D H ((p - 1) / 4) with
    | none => none
    | some F => ot_tp (ot_col H p) F 5
def ot_S (H : Nat → Int32) (p : Nat) : Nat := match ot_L H p with
  | none => 0
  | some l => if H (85 * l + p) = 1 then 1 else 2
def ot_V (H C : Nat → Int32) (p : Nat) : Int32 := match ot_L H p with
  | none => 0
  | some l => if H (85 * l + p) = 1 then C (85 * l + p) else 0
/-- strictly under -/
def ot_un (p o : Nat) : Bool := if h : p = 0 then false else if (p - 1) / 4 = o then true else ot_un ((p - 1) / 4) o
termination_by p
decreasing_by omega
def ot_ue (p o : Nat) : Prop := p = o ∨ ot_un p o = true
def ot_isd (x : Int32) : Prop := x ≠ 0 ∧ x ≠ 1 ∧ x ≠ 4
def ot_wf (H : Nat → Int32) (B : Nat) : Prop := ∀ q, q ≠ 0 → q < 85 → H (B + q) ≠ 0 → ot_isd (H (B + (q - 1) / 4))
/-- what holds of a mounted tree -/
def ot_I (H : Nat → Int32) : Prop := H 340 = 2 ∧ H 255 = 2 ∧ (∀ q, q < 85 → H (340 + q) = 0 ∨ H (340 + q) = 1 ∨ H (340 + q) = 2 ∨ H (340 + q) = 3 ∨ H (340 + q) = 4) ∧ ot_wf H 340 ∧ ot_wf H 255

theorem ot_ind {P : Nat → Prop} (h : ∀ q, (q ≠ 0 → P ((q - 1) / 4)) → P q) : ∀ q, P q :=
  fun q => Nat.strongRecOn q (fun q ih => h q (fun hq => ih _ (by omega)))

theorem ot_tpC {c c' : Nat → Int32} {F : Nat} : ∀ n, (∀ l, l < n → c l = c' l) → ot_tp c F n = ot_tp c' F n
  | 0, _ => rfl
  | n + 1, h => by
    have e := h n (by omega)
    have ih := ot_tpC (F := F) n (fun l hl => h l (by omega))
    simp only [ot_tp, e, ih]
theorem ot_rfC {c c' : Nat → Int32} {F : Nat} : ∀ n, (∀ l, l < n → c l = c' l) → ot_rf c F n = ot_rf c' F n
  | 0, _ => rfl
  | n + 1, h => by
    have e := h n (by omega)
    have ih := ot_rfC (F := F) n (fun l hl => h l (by omega))
    simp only [ot_rf, e, ih]
theorem ot_tpI {c : Nat → Int32} {F l : Nat} (n : Nat) (h : ot_tp c F n = some l) : F ≤ l ∧ l < n ∧ c l ≠ 0 ∧ c l ≠ 4 := by
  induction n with
  | zero => exact absurd h (by simp [ot_tp])
  | succ n ih =>
    simp only [ot_tp] at h
    by_cases h1 : n < F
    · rw [if_pos h1] at h; exact absurd h (by simp)
    · rw [if_neg h1] at h
      by_cases h2 : c n = 0
      · rw [if_pos h2] at h
        obtain ⟨a, b, d⟩ := ih h
        exact ⟨a, by omega, d⟩
      · rw [if_neg h2] at h
        by_cases h3 : c n = 4
        · rw [if_pos h3] at h; exact absurd h (by simp)
        · rw [if_neg h3] at h
          have e : n = l := Option.some.inj h
          subst e
          exact ⟨by omega, by omega, h2, h3⟩
theorem ot_rfB {c : Nat → Int32} {F : Nat} (n : Nat) (h : F ≤ n) : ot_rf c F n ≤ n := by
  induction n with
  | zero => simp only [ot_rf]; exact h
  | succ n ih =>
    simp only [ot_rf]
    by_cases h1 : n < F
    · rw [if_pos h1]; exact h
    · rw [if_neg h1]
      have := ih (by omega)
      by_cases h2 : c n = 3
      · rw [if_pos h2]; omega
      · rw [if_neg h2]
        by_cases h3 : c n = 1 ∨ c n = 4
        · rw [if_pos h3]; omega
        · rw [if_neg h3]; omega
theorem ot_rfL {c : Nat → Int32} {F l : Nat} (n : Nat) (h : ot_tp c F n = some l) (hl : c l ≠ 1) : ot_rf c F n ≤ l := by
  induction n with
  | zero => exact absurd h (by simp [ot_tp])
  | succ n ih =>
    simp only [ot_tp] at h
    simp only [ot_rf]
    by_cases h1 : n < F
    · rw [if_pos h1] at h; exact absurd h (by simp)
    · rw [if_neg h1] at h
      rw [if_neg h1]
      by_cases h2 : c n = 0
      · rw [if_pos h2] at h
        rw [if_neg (by rw [h2]; decide), if_neg (by rw [h2]; decide)]
        exact ih h
      · rw [if_neg h2] at h
        by_cases h3 : c n = 4
        · rw [if_pos h3] at h; exact absurd h (by simp)
        · rw [if_neg h3] at h
          have e : n = l := Option.some.inj h
          subst e
          have hb := ot_rfB (c := c) (F := F) n (by omega)
          by_cases h4 : c n = 3
          · rw [if_pos h4]; omega
          · rw [if_neg h4, if_neg (fun z => z.elim hl h3)]; exact hb

theorem ot_D0 (H : Nat → Int32) : ot_D H 0 = some 0 := by rw [ot_D]; simp only [dite_true]
theorem ot_Dn {H : Nat → Int32} {p : Nat} (hp : p ≠ 0) (h : ot_D H ((p - 1) / 4) = none) : ot_D H p = none := by
  rw [ot_D, dif_neg hp]; simp only [h]
theorem ot_Ln {H : Nat → Int32} {p : Nat} (hp : p ≠ 0) (h : ot_D H ((p - 1) / 4) = none) : ot_L H p = none := by
  unfold ot_L; rw [if_neg hp]; simp only [h]
theorem ot_L0 (H : Nat → Int32) : ot_L H 0 = some 4 := by unfold ot_L; rw [if_pos rfl]
theorem ot_Ls {H : Nat → Int32} {p F : Nat} (hp : p ≠ 0) (h : ot_D H ((p - 1) / 4) = some F) : ot_L H p = ot_tp (ot_col H p) F 5 := by
  unfold ot_L; rw [if_neg hp]; simp only [h]
theorem ot_Dsn {H : Nat → Int32} {p F : Nat} (hp : p ≠ 0) (h : ot_D H ((p - 1) / 4) = some F) (ht : ot_tp (ot_col H p) F 5 = none) : ot_D H p = none := by
  rw [ot_D, dif_neg hp]; simp only [h, ht]
theorem ot_Dsf {H : Nat → Int32} {p F l : Nat} (hp : p ≠ 0) (h : ot_D H ((p - 1) / 4) = some F) (ht : ot_tp (ot_col H p) F 5 = some l) (h1 : H (85 * l + p) = 1) : ot_D H p = none := by
  rw [ot_D, dif_neg hp]; simp only [h, ht, if_pos h1]
theorem ot_Dss {H : Nat → Int32} {p F l : Nat} (hp : p ≠ 0) (h : ot_D H ((p - 1) / 4) = some F) (ht : ot_tp (ot_col H p) F 5 = some l) (h1 : ¬ H (85 * l + p) = 1) : ot_D H p = some (ot_rf (ot_col H p) F 5) := by
  rw [ot_D, dif_neg hp]; simp only [h, ht, if_neg h1]
theorem ot_Ll {H : Nat → Int32} {p l : Nat} (h : ot_L H p = some l) : l < 5 := by
  by_cases hp : p = 0
  · subst hp
    rw [ot_L0] at h
    have := Option.some.inj h
    omega
  · cases hD : ot_D H ((p - 1) / 4) with
    | none => rw [ot_Ln hp hD] at h; exact absurd h (by simp)
    | some F => rw [ot_Ls hp hD] at h; exact (ot_tpI 5 h).2.1
theorem ot_Sn {H : Nat → Int32} {p : Nat} (h : ot_L H p = none) : ot_S H p = 0 := by unfold ot_S; simp only [h]
theorem ot_S1 {H : Nat → Int32} {p l : Nat} (h : ot_L H p = some l) (h1 : H (85 * l + p) = 1) : ot_S H p = 1 := by unfold ot_S; simp only [h, if_pos h1]
theorem ot_S2 {H : Nat → Int32} {p l : Nat} (h : ot_L H p = some l) (h1 : ¬ H (85 * l + p) = 1) : ot_S H p = 2 := by unfold ot_S; simp only [h, if_neg h1]
theorem ot_Vn {H C : Nat → Int32} {p : Nat} (h : ot_L H p = none) : ot_V H C p = 0 := by unfold ot_V; simp only [h]
theorem ot_V1 {H C : Nat → Int32} {p l : Nat} (h : ot_L H p = some l) (h1 : H (85 * l + p) = 1) : ot_V H C p = C (85 * l + p) := by unfold ot_V; simp only [h, if_pos h1]
theorem ot_V2 {H C : Nat → Int32} {p l : Nat} (h : ot_L H p = some l) (h1 : ¬ H (85 * l + p) = 1) : ot_V H C p = 0 := by unfold ot_V; simp only [h, if_neg h1]
theorem ot_S3 (H : Nat → Int32) (p : Nat) : ot_S H p = 0 ∨ ot_S H p = 1 ∨ ot_S H p = 2 := by
  cases h : ot_L H p with
  | none => exact Or.inl (ot_Sn h)
  | some l =>
    by_cases h1 : H (85 * l + p) = 1
    · exact Or.inr (Or.inl (ot_S1 h h1))
    · exact Or.inr (Or.inr (ot_S2 h h1))
theorem ot_V0 {H C : Nat → Int32} {p : Nat} (h : ot_S H p ≠ 1) : ot_V H C p = 0 := by
  cases hL : ot_L H p with
  | none => exact ot_Vn hL
  | some l =>
    by_cases h1 : H (85 * l + p) = 1
    · exact absurd (ot_S1 hL h1) h
    · exact ot_V2 hL h1
theorem ot_S0L {H : Nat → Int32} {p : Nat} (h : ot_S H p = 0) : ot_L H p = none := by
  cases hL : ot_L H p with
  | none => rfl
  | some l =>
    by_cases h1 : H (85 * l + p) = 1
    · rw [ot_S1 hL h1] at h; omega
    · rw [ot_S2 hL h1] at h; omega
theorem ot_DF {H : Nat → Int32} {p F : Nat} (h : ot_D H p = some F) : F ≤ 4 := by
  by_cases hp : p = 0
  · subst hp
    rw [ot_D0] at h
    have := Option.some.inj h
    omega
  · cases hD : ot_D H ((p - 1) / 4) with
    | none => rw [ot_Dn hp hD] at h; exact absurd h (by simp)
    | some F0 =>
      cases ht : ot_tp (ot_col H p) F0 5 with
      | none => rw [ot_Dsn hp hD ht] at h; exact absurd h (by simp)
      | some l =>
        by_cases h1 : H (85 * l + p) = 1
        · rw [ot_Dsf hp hD ht h1] at h; exact absurd h (by simp)
        · rw [ot_Dss hp hD ht h1] at h
          have e := Option.some.inj h
          have a := ot_rfL 5 ht h1
          have b := (ot_tpI 5 ht).2.1
          omega
theorem ot_root {H : Nat → Int32} (hr : H 340 = 2) : ot_S H 0 = 2 :=
  ot_S2 (ot_L0 H) (by show ¬ H 340 = 1; rw [hr]; decide)
theorem ot_D2 {H : Nat → Int32} (hr : H 340 = 2) {p F : Nat} (h : ot_D H p = some F) : ot_S H p = 2 := by
  by_cases hp : p = 0
  · subst hp; exact ot_root hr
  · cases hD : ot_D H ((p - 1) / 4) with
    | none => rw [ot_Dn hp hD] at h; exact absurd h (by simp)
    | some F0 =>
      cases ht : ot_tp (ot_col H p) F0 5 with
      | none => rw [ot_Dsn hp hD ht] at h; exact absurd h (by simp)
      | some l =>
        by_cases h1 : H (85 * l + p) = 1
        · rw [ot_Dsf hp hD ht h1] at h; exact absurd h (by simp)
        · exact ot_S2 ((ot_Ls hp hD).trans ht) h1
theorem ot_2D {H : Nat → Int32} {p : Nat} (h : ot_S H p = 2) : ∃ F, ot_D H p = some F ∧ F ≤ 4 := by
  have key : ∃ F, ot_D H p = some F := by
    by_cases hp : p = 0
    · subst hp; exact ⟨0, ot_D0 H⟩
    · cases hD : ot_D H ((p - 1) / 4) with
      | none => rw [ot_Sn (ot_Ln hp hD)] at h; omega
      | some F0 =>
        cases ht : ot_tp (ot_col H p) F0 5 with
        | none => rw [ot_Sn ((ot_Ls hp hD).trans ht)] at h; omega
        | some l =>
          by_cases h1 : H (85 * l + p) = 1
          · rw [ot_S1 ((ot_Ls hp hD).trans ht) h1] at h; omega
          · exact ⟨_, ot_Dss hp hD ht h1⟩
  obtain ⟨F, hF⟩ := key
  exact ⟨F, hF, ot_DF hF⟩
theorem ot_n2D {H : Nat → Int32} (hr : H 340 = 2) {p : Nat} (h : ot_S H p ≠ 2) : ot_D H p = none := by
  cases hD : ot_D H p with
  | none => rfl
  | some F => exact absurd (ot_D2 hr hD) h
theorem ot_par2 {H : Nat → Int32} (hr : H 340 = 2) {p : Nat} (hp : p ≠ 0) (h : ot_S H p ≠ 0) : ot_S H ((p - 1) / 4) = 2 := by
  cases hD : ot_D H ((p - 1) / 4) with
  | none => exact absurd (ot_Sn (ot_Ln hp hD)) h
  | some F => exact ot_D2 hr hD

theorem ot_un0 (o : Nat) : ot_un 0 o = false := by rw [ot_un]; simp only [dite_true]
theorem ot_unS {p o : Nat} (hp : p ≠ 0) : ot_un p o = true ↔ ot_ue ((p - 1) / 4) o := by
  rw [ot_un, dif_neg hp]
  unfold ot_ue
  by_cases h : (p - 1) / 4 = o
  · rw [if_pos h]; exact ⟨fun _ => Or.inl h, fun _ => rfl⟩
  · rw [if_neg h]; exact ⟨fun z => Or.inr z, fun z => z.resolve_left h⟩
theorem ot_un_ne {p o : Nat} (h : ot_un p o = true) : p ≠ 0 := fun e => by
  rw [e, ot_un0] at h; exact absurd h (by decide)
theorem ot_un_lt {o : Nat} : ∀ p, ot_un p o = true → o < p :=
  ot_ind (fun q ih h => by
    have hq := ot_un_ne h
    rcases (ot_unS hq).mp h with e | e
    · omega
    · have := ih hq e
      omega)
theorem ot_ue_le {p o : Nat} (h : ot_ue p o) : o ≤ p := by
  rcases h with e | e
  · omega
  · have := ot_un_lt p e; omega
theorem ot_ue_par {p o : Nat} (hp : p ≠ 0) (ho : p ≠ o) : ot_ue p o ↔ ot_ue ((p - 1) / 4) o :=
  ⟨fun h => (ot_unS hp).mp (h.resolve_left ho), fun h => Or.inr ((ot_unS hp).mpr h)⟩
theorem ot_nue_par {p o : Nat} (hp : p ≠ 0) (h : ¬ ot_ue p o) : ¬ ot_ue ((p - 1) / 4) o :=
  fun z => h (Or.inr ((ot_unS hp).mpr z))
theorem ot_nue0 {o : Nat} (ho : o ≠ 0) : ¬ ot_ue 0 o := fun h => by
  rcases h with e | e
  · exact ho e.symm
  · rw [ot_un0] at e; exact absurd e (by decide)
theorem ot_un_ue {p o : Nat} (h : ot_un p o = true) : ot_ue p o := Or.inr h
theorem ot_un_irr (p : Nat) : ot_un p p = false := by
  cases h : ot_un p p with
  | false => rfl
  | true => have := ot_un_lt p h; omega
end
section
/-! how a change of the layers changes what they show -/
/-- one step down: the same column under the same parent -/
theorem ot_one {H H' : Nat → Int32} {q : Nat} (eD : q ≠ 0 → ot_D H' ((q - 1) / 4) = ot_D H ((q - 1) / 4)) (hc : ∀ l, l < 5 → H' (85 * l + q) = H (85 * l + q)) :
    ot_D H' q = ot_D H q ∧ ot_L H' q = ot_L H q := by
  by_cases h0 : q = 0
  · subst h0
    exact ⟨(ot_D0 H').trans (ot_D0 H).symm, (ot_L0 H').trans (ot_L0 H).symm⟩
  · have eD := eD h0
    have ec : ∀ l, l < 5 → ot_col H' q l = ot_col H q l := hc
    have et : ∀ F, ot_tp (ot_col H' q) F 5 = ot_tp (ot_col H q) F 5 := fun F => ot_tpC 5 ec
    have er : ∀ F, ot_rf (ot_col H' q) F 5 = ot_rf (ot_col H q) F 5 := fun F => ot_rfC 5 ec
    cases hD : ot_D H ((q - 1) / 4) with
    | none =>
      have hD' := eD.trans hD
      exact ⟨(ot_Dn h0 hD').trans (ot_Dn h0 hD).symm, (ot_Ln h0 hD').trans (ot_Ln h0 hD).symm⟩
    | some F =>
      have hD' := eD.trans hD
      refine ⟨?_, by rw [ot_Ls h0 hD', ot_Ls h0 hD, et]⟩
      cases ht : ot_tp (ot_col H q) F 5 with
      | none => exact (ot_Dsn h0 hD' ((et F).trans ht)).trans (ot_Dsn h0 hD ht).symm
      | some l =>
        have hl := (ot_tpI 5 ht).2.1
        by_cases h1 : H (85 * l + q) = 1
        · exact (ot_Dsf h0 hD' ((et F).trans ht) ((hc l hl).trans h1)).trans (ot_Dsf h0 hD ht h1).symm
        · rw [ot_Dss h0 hD' ((et F).trans ht) (by rw [hc l hl]; exact h1), ot_Dss h0 hD ht h1, er]
theorem ot_fr {H H' : Nat → Int32} (P : Nat → Prop) (hP : ∀ q, q ≠ 0 → P q → P ((q - 1) / 4)) (hc : ∀ q l, P q → l < 5 → H' (85 * l + q) = H (85 * l + q)) :
    ∀ q, P q → ot_D H' q = ot_D H q ∧ ot_L H' q = ot_L H q :=
  ot_ind (fun q ih hq => ot_one (fun h0 => (ih h0 (hP q h0 hq)).1) (fun l hl => hc q l hq hl))
/-- all columns but one are the same, and that one opens the same -/
theorem ot_swap {H H' : Nat → Int32} {p : Nat} (hc : ∀ q l, q < 85 → q ≠ p → l < 5 → H' (85 * l + q) = H (85 * l + q))
    (hp : (p ≠ 0 → ot_D H' ((p - 1) / 4) = ot_D H ((p - 1) / 4)) → ot_D H' p = ot_D H p) : ∀ q, q < 85 → ot_D H' q = ot_D H q ∧ (q ≠ p → ot_L H' q = ot_L H q) :=
  ot_ind (fun q ih h85 => by
    by_cases e : q = p
    · subst e
      exact ⟨hp (fun h0 => (ih h0 (by omega)).1), fun z => absurd rfl z⟩
    · have m := ot_one (H := H) (H' := H') (fun h0 => (ih h0 (by omega)).1) (fun l hl => hc q l h85 e hl)
      exact ⟨m.1, fun _ => m.2⟩)
theorem ot_SL {H H' : Nat → Int32} {q : Nat} (hL : ot_L H' q = ot_L H q) (hc : ∀ l, ot_L H q = some l → H' (85 * l + q) = H (85 * l + q)) : ot_S H' q = ot_S H q := by
  cases h : ot_L H q with
  | none => rw [ot_Sn h, ot_Sn (hL.trans h)]
  | some l =>
    by_cases h1 : H (85 * l + q) = 1
    · rw [ot_S1 h h1, ot_S1 (hL.trans h) ((hc l h).trans h1)]
    · rw [ot_S2 h h1, ot_S2 (hL.trans h) (by rw [hc l h]; exact h1)]
theorem ot_VL {H H' C C' : Nat → Int32} {q : Nat} (hL : ot_L H' q = ot_L H q) (hc : ∀ l, ot_L H q = some l → H' (85 * l + q) = H (85 * l + q)) (hC : ∀ l, ot_L H q = some l → C' (85 * l + q) = C (85 * l + q)) : ot_V H' C' q = ot_V H C q := by
  cases h : ot_L H q with
  | none => rw [ot_Vn h, ot_Vn (hL.trans h)]
  | some l =>
    by_cases h1 : H (85 * l + q) = 1
    · rw [ot_V1 h h1, ot_V1 (hL.trans h) ((hc l h).trans h1), hC l h]
    · rw [ot_V2 h h1, ot_V2 (hL.trans h) (by rw [hc l h]; exact h1)]
/-- nothing shows under what isn't a directory -/
theorem ot_dead {H : Nat → Int32} {p : Nat} (h : ot_D H p = none) : ∀ q, ot_un q p = true → ot_D H q = none ∧ ot_L H q = none :=
  ot_ind (fun q ih hq => by
    have h0 := ot_un_ne hq
    have hn : ot_D H ((q - 1) / 4) = none := by
      rcases (ot_unS h0).mp hq with e | e
      · rw [e]; exact h
      · exact (ih h0 e).1
    exact ⟨ot_Dn h0 hn, ot_Ln h0 hn⟩)
theorem ot_deadL {H : Nat → Int32} {p : Nat} (hp : p ≠ 0) (h : ot_L H p = none) : ot_D H p = none := by
  cases hD : ot_D H ((p - 1) / 4) with
  | none => exact ot_Dn hp hD
  | some F => exact ot_Dsn hp hD ((ot_Ls hp hD).symm.trans h)
theorem ot_deadS {H : Nat → Int32} {p : Nat} (hp : p ≠ 0) (h : ot_S H p = 0) {q : Nat} (hq : ot_ue q p) : ot_S H q = 0 := by
  rcases hq with e | e
  · rw [e]; exact h
  · exact ot_Sn (ot_dead (ot_deadL hp (ot_S0L h)) q e).2
/-- one step, by what the top layer holds -/
theorem ot_t5 {c : Nat → Int32} {F : Nat} (hF : F ≤ 4) (h0 : ¬ c 4 = 0) (h4 : ¬ c 4 = 4) : ot_tp c F 5 = some 4 := by
  simp only [ot_tp]
  rw [if_neg (by omega), if_neg h0, if_neg h4]
theorem ot_t5h {c : Nat → Int32} {F : Nat} (hF : F ≤ 4) (h4 : c 4 = 4) : ot_tp c F 5 = none := by
  simp only [ot_tp]
  rw [if_neg (by omega), if_neg (by rw [h4]; decide), if_pos h4]
theorem ot_t5z {c : Nat → Int32} (h0 : c 4 = 0) : ot_tp c 4 5 = none := by
  simp only [ot_tp]
  rw [if_neg (by omega), if_pos h0, if_pos (by omega)]
theorem ot_t5s {c : Nat → Int32} {F : Nat} (hF : F ≤ 4) (h0 : c 4 = 0) : ot_tp c F 5 = ot_tp c F 4 := by
  rw [ot_tp]
  rw [if_neg (by omega), if_pos h0]
theorem ot_st {H : Nat → Int32} {q F : Nat} (h0 : q ≠ 0) (hD : ot_D H ((q - 1) / 4) = some F) (hx : ¬ H (340 + q) = 0) (hx4 : ¬ H (340 + q) = 4) : ot_L H q = some 4 := by
  rw [ot_Ls h0 hD]
  exact ot_t5 (ot_DF hD) hx hx4
theorem ot_st1 {H : Nat → Int32} {q F : Nat} (h0 : q ≠ 0) (hD : ot_D H ((q - 1) / 4) = some F) (hx : H (340 + q) = 1) : ot_L H q = some 4 ∧ ot_D H q = none :=
  have t : ot_tp (ot_col H q) F 5 = some 4 := ot_t5 (ot_DF hD) (by show ¬ H (340 + q) = 0; rw [hx]; decide) (by show ¬ H (340 + q) = 4; rw [hx]; decide)
  ⟨(ot_Ls h0 hD).trans t, ot_Dsf h0 hD t hx⟩
theorem ot_st3 {H : Nat → Int32} {q F : Nat} (h0 : q ≠ 0) (hD : ot_D H ((q - 1) / 4) = some F) (hx : H (340 + q) = 3) : ot_L H q = some 4 ∧ ot_D H q = some 4 := by
  have t : ot_tp (ot_col H q) F 5 = some 4 := ot_t5 (ot_DF hD) (by show ¬ H (340 + q) = 0; rw [hx]; decide) (by show ¬ H (340 + q) = 4; rw [hx]; decide)
  refine ⟨(ot_Ls h0 hD).trans t, ?_⟩
  rw [ot_Dss h0 hD t (by show ¬ H (340 + q) = 1; rw [hx]; decide)]
  have hF := ot_DF hD
  have e : ot_rf (ot_col H q) F 5 = 4 := by
    rw [ot_rf, if_neg (by omega), if_pos (show ot_col H q 4 = 3 from hx)]
  rw [e]
theorem ot_st4 {H : Nat → Int32} {q F : Nat} (h0 : q ≠ 0) (hD : ot_D H ((q - 1) / 4) = some F) (hx : H (340 + q) = 4) : ot_L H q = none ∧ ot_D H q = none :=
  have t : ot_tp (ot_col H q) F 5 = none := ot_t5h (ot_DF hD) hx
  ⟨(ot_Ls h0 hD).trans t, ot_Dsn h0 hD t⟩
theorem ot_st0 {H : Nat → Int32} {q : Nat} (h0 : q ≠ 0) (hD : ot_D H ((q - 1) / 4) = some 4) (hx : H (340 + q) = 0) : ot_L H q = none ∧ ot_D H q = none :=
  have t : ot_tp (ot_col H q) 4 5 = none := ot_t5z hx
  ⟨(ot_Ls h0 hD).trans t, ot_Dsn h0 hD t⟩
/-- a part of the tree that the top layer settles -/
theorem ot_top4 {H : Nat → Int32} {p F : Nat} (hp : p ≠ 0) (hD : ot_D H ((p - 1) / 4) = some F)
    (h1 : ∀ q, ot_ue q p → q < 85 → H (340 + q) = 0 ∨ H (340 + q) = 1 ∨ H (340 + q) = 3 ∨ H (340 + q) = 4) (h2 : ¬ H (340 + p) = 0)
    (h3 : ∀ q, ot_un q p = true → q < 85 → ¬ H (340 + q) = 0 → H (340 + (q - 1) / 4) = 3) :
    ∀ q, ot_ue q p → q < 85 → (H (340 + q) = 1 → ot_L H q = some 4 ∧ ot_D H q = none) ∧ (H (340 + q) = 3 → ot_L H q = some 4 ∧ ot_D H q = some 4) ∧ (H (340 + q) = 0 ∨ H (340 + q) = 4 → ot_L H q = none ∧ ot_D H q = none) :=
  ot_ind (fun q ih hq h85 => by
    by_cases e : q = p
    · subst e
      exact ⟨fun h => ot_st1 hp hD h, fun h => ot_st3 hp hD h, fun h => ot_st4 hp hD (h.resolve_left h2)⟩
    · have hu : ot_un q p = true := hq.resolve_left e
      have h0 := ot_un_ne hu
      have hpar : ot_ue ((q - 1) / 4) p := (ot_unS h0).mp hu
      have i := ih h0 hpar (by omega)
      have D3 : H (340 + (q - 1) / 4) = 3 → ot_D H ((q - 1) / 4) = some 4 := fun h => (i.2.1 h).2
      have n1 : H (340 + q) = 1 → ¬ H (340 + q) = 0 := fun h => by rw [h]; decide
      have n3 : H (340 + q) = 3 → ¬ H (340 + q) = 0 := fun h => by rw [h]; decide
      have n4 : H (340 + q) = 4 → ¬ H (340 + q) = 0 := fun h => by rw [h]; decide
      refine ⟨fun h => ot_st1 h0 (D3 (h3 q hu h85 (n1 h))) h, fun h => ot_st3 h0 (D3 (h3 q hu h85 (n3 h))) h, fun h => ?_⟩
      rcases h with h | h
      · by_cases g : H (340 + (q - 1) / 4) = 3
        · exact ot_st0 h0 (D3 g) h
        · have hn : ot_D H ((q - 1) / 4) = none := by
            rcases h1 _ hpar (by omega) with z | z | z | z
            · exact (i.2.2 (Or.inl z)).2
            · exact (i.1 z).2
            · exact absurd z g
            · exact (i.2.2 (Or.inr z)).2
          exact ⟨ot_Ln h0 hn, ot_Dn h0 hn⟩
      · exact ot_st4 h0 (D3 (h3 q hu h85 (n4 h))) h)
/-- a layer holds nothing under what is no directory in it -/
theorem ot_low {H : Nat → Int32} {B p : Nat} (w : ot_wf H B) (hp : ¬ ot_isd (H (B + p))) : ∀ q, ot_un q p = true → q < 85 → H (B + q) = 0 :=
  ot_ind (fun q ih hq h85 => by
    have h0 := ot_un_ne hq
    by_cases hz : H (B + q) = 0
    · exact hz
    · have hd := w q h0 h85 hz
      rcases (ot_unS h0).mp hq with e | e
      · rw [e] at hd; exact absurd hd hp
      · exact absurd (ih h0 e (by omega)) hd.1)
theorem ot_isd2 : ot_isd 2 := ⟨by decide, by decide, by decide⟩
theorem ot_isd3 : ot_isd 3 := ⟨by decide, by decide, by decide⟩
/-- what the top layer holds where nothing shows, and where a file does -/
theorem ot_room {H : Nat → Int32} {p F : Nat} (hp : p ≠ 0) (hD : ot_D H ((p - 1) / 4) = some F) (hS : ot_S H p ≠ 2) : ¬ ot_isd (H (340 + p)) := fun h => by
  have hL := ot_st hp hD h.1 h.2.2
  exact hS (ot_S2 hL h.2.1)
/-- the graft: the top layer is changed at p and under it -/
theorem ot_gr {H H' : Nat → Int32} {p F : Nat} (i : ot_I H) (hp : p ≠ 0) (hp85 : p < 85) (hD : ot_D H ((p - 1) / 4) = some F) (hpar : ot_isd (H (340 + (p - 1) / 4)))
    (g1 : ∀ q l, q < 85 → l < 5 → (l ≠ 4 ∨ ¬ ot_ue q p) → H' (85 * l + q) = H (85 * l + q))
    (g2 : ∀ q, ot_ue q p → q < 85 → H' (340 + q) = 0 ∨ H' (340 + q) = 1 ∨ H' (340 + q) = 3 ∨ H' (340 + q) = 4) (g3 : ¬ H' (340 + p) = 0)
    (g4 : ∀ q, ot_un q p = true → q < 85 → ¬ H' (340 + q) = 0 → H' (340 + (q - 1) / 4) = 3) :
    ot_I H' ∧ (∀ q, q < 85 → ¬ ot_ue q p → ot_L H' q = ot_L H q ∧ ot_S H' q = ot_S H q ∧ ot_D H' q = ot_D H q) ∧
    (∀ q, ot_ue q p → q < 85 → (H' (340 + q) = 1 → ot_L H' q = some 4) ∧ (H' (340 + q) = 3 → ot_L H' q = some 4) ∧ (H' (340 + q) = 0 ∨ H' (340 + q) = 4 → ot_L H' q = none)) := by
  obtain ⟨i1, i2, i3, i4, i5⟩ := i
  have fr := ot_fr (H := H) (H' := H') (fun q => q < 85 ∧ ¬ ot_ue q p) (fun q h0 h => ⟨by omega, ot_nue_par h0 h.2⟩) (fun q l h hl => g1 q l h.1 hl (Or.inr h.2))
  have e4 : ∀ q, q < 85 → ¬ ot_ue q p → H' (340 + q) = H (340 + q) := fun q h h2 => g1 q 4 h (by omega) (Or.inr h2)
  have e3 : ∀ q, q < 85 → H' (255 + q) = H (255 + q) := fun q h => g1 q 3 h (by omega) (Or.inl (by omega))
  have hnp : ¬ ot_ue ((p - 1) / 4) p := fun h => by
    have := ot_ue_le h
    omega
  have hD' : ot_D H' ((p - 1) / 4) = some F := ((fr _ ⟨by omega, hnp⟩).1).trans hD
  have t := ot_top4 hp hD' g2 g3 g4
  refine ⟨⟨(e4 0 (by omega) (ot_nue0 hp)).trans i1, (e3 0 (by omega)).trans i2, fun q hq => ?_, fun q h0 hq hz => ?_, fun q h0 hq hz => ?_⟩, fun q hq hn => ?_, fun q hu hq => ?_⟩
  · by_cases hu : ot_ue q p
    · rcases g2 q hu hq with z | z | z | z
      · exact Or.inl z
      · exact Or.inr (Or.inl z)
      · exact Or.inr (Or.inr (Or.inr (Or.inl z)))
      · exact Or.inr (Or.inr (Or.inr (Or.inr z)))
    · rw [e4 q hq hu]; exact i3 q hq
  · by_cases e : q = p
    · subst e
      rw [e4 _ (by omega) hnp]; exact hpar
    · by_cases hu : ot_ue q p
      · rw [g4 q (hu.resolve_left e) hq hz]; exact ot_isd3
      · rw [e4 _ (by omega) (ot_nue_par h0 hu)]
        rw [e4 q hq hu] at hz
        exact i4 q h0 hq hz
  · rw [e3 _ (by omega)]
    rw [e3 q hq] at hz
    exact i5 q h0 hq hz
  · have f := fr q ⟨hq, hn⟩
    exact ⟨f.2, ot_SL f.2 (fun l hl => g1 q l hq (ot_Ll hl) (Or.inr hn)), f.1⟩
  · have s := t q hu hq
    exact ⟨fun h => (s.1 h).1, fun h => (s.2.1 h).1, fun h => (s.2.2 h).1⟩
/-- a directory that shows gets into the top layer -/
theorem ot_up {H H' : Nat → Int32} {p : Nat} (hr : H 340 = 2) (hp : p ≠ 0) (hp85 : p < 85) (hS : ot_S H p = 2) (hz : H (340 + p) = 0) (h2 : H' (340 + p) = 2)
    (hc : ∀ j, j ≠ 340 + p → H' j = H j) : ∀ q, q < 85 → ot_D H' q = ot_D H q ∧ ot_S H' q = ot_S H q ∧ ∀ C, ot_V H' C q = ot_V H C q := by
  obtain ⟨F, hF, hF4⟩ := ot_2D (ot_par2 hr hp (by rw [hS]; decide))
  have ec : ∀ q l, q < 85 → q ≠ p → l < 5 → H' (85 * l + q) = H (85 * l + q) := fun q l h e hl => hc _ (by omega)
  have t' : ot_tp (ot_col H' p) F 5 = some 4 := ot_t5 hF4 (by show ¬ H' (340 + p) = 0; rw [h2]; decide) (by show ¬ H' (340 + p) = 4; rw [h2]; decide)
  have hf' : ¬ H' (85 * 4 + p) = 1 := by show ¬ H' (340 + p) = 1; rw [h2]; decide
  have key := ot_swap ec (fun eD => by
    have hD' := (eD hp).trans hF
    rw [ot_Dss hp hD' t' hf']
    cases ht : ot_tp (ot_col H p) F 5 with
    | none => rw [ot_Sn ((ot_Ls hp hF).trans ht)] at hS; omega
    | some l =>
      by_cases h1 : H (85 * l + p) = 1
      · rw [ot_S1 ((ot_Ls hp hF).trans ht) h1] at hS; omega
      · rw [ot_Dss hp hF ht h1]
        have r1 : ot_rf (ot_col H' p) F 5 = ot_rf (ot_col H' p) F 4 := by
          have c4 : ot_col H' p 4 = 2 := h2
          rw [ot_rf, if_neg (by omega), if_neg (by rw [c4]; decide), if_neg (by rw [c4]; decide)]
        have r2 : ot_rf (ot_col H p) F 5 = ot_rf (ot_col H p) F 4 := by
          have c4 : ot_col H p 4 = 0 := hz
          rw [ot_rf, if_neg (by omega), if_neg (by rw [c4]; decide), if_neg (by rw [c4]; decide)]
        rw [r1, r2, ot_rfC (c := ot_col H' p) (c' := ot_col H p) 4 (fun l hl => show H' (85 * l + p) = H (85 * l + p) from hc (85 * l + p) (by omega))])
  intro q h85
  obtain ⟨kD, kL⟩ := key q h85
  by_cases e : q = p
  · subst e
    have hpar : ot_D H' ((q - 1) / 4) = some F := ((key ((q - 1) / 4) (by omega)).1).trans hF
    have hS' : ot_S H' q = 2 := ot_S2 ((ot_Ls hp hpar).trans t') hf'
    exact ⟨kD, by rw [hS', hS], fun C => by rw [ot_V0 (by rw [hS']; decide), ot_V0 (by rw [hS]; decide)]⟩
  · have hl : ∀ l, ot_L H q = some l → H' (85 * l + q) = H (85 * l + q) := fun l hl => ec q l h85 e (ot_Ll hl)
    exact ⟨kD, ot_SL (kL e) hl, fun C => ot_VL (kL e) hl (fun l _ => rfl)⟩
end
section
/-! pressing: one path at a time keeps what is shown -/
theorem ot_t5y {c : Nat → Int32} (h4 : c 4 = 0) (h3 : c 3 = 0) : ot_tp c 3 5 = none := by
  rw [ot_t5s (by omega) h4]
  simp only [ot_tp]
  rw [if_neg (by omega), if_pos h3, if_pos (by omega)]
theorem ot_t53 {c : Nat → Int32} {F : Nat} (hF : F ≤ 3) (h4 : c 4 = 0) (h0 : ¬ c 3 = 0) (h3 : ¬ c 3 = 4) : ot_tp c F 5 = some 3 := by
  rw [ot_t5s (by omega) h4]
  simp only [ot_tp]
  rw [if_neg (by omega), if_neg h0, if_neg h3]
theorem ot_t53h {c : Nat → Int32} {F : Nat} (hF : F ≤ 3) (h4 : c 4 = 0) (h3 : c 3 = 4) : ot_tp c F 5 = none := by
  rw [ot_t5s (by omega) h4]
  simp only [ot_tp]
  rw [if_neg (by omega), if_neg (by rw [h3]; decide), if_pos h3]
theorem ot_r5 {c : Nat → Int32} {F : Nat} (hF : F ≤ 4) (h3 : ¬ c 4 = 3) (h1 : ¬ c 4 = 1) (h4 : ¬ c 4 = 4) : ot_rf c F 5 = ot_rf c F 4 := by
  rw [ot_rf, if_neg (by omega), if_neg h3, if_neg (fun z => z.elim h1 h4)]
theorem ot_r4 {c : Nat → Int32} {F : Nat} (hF : F ≤ 3) (h3 : ¬ c 3 = 3) (h1 : ¬ c 3 = 1) (h4 : ¬ c 3 = 4) : ot_rf c F 4 = ot_rf c F 3 := by
  rw [ot_rf, if_neg (by omega), if_neg h3, if_neg (fun z => z.elim h1 h4)]
theorem ot_r4c {c : Nat → Int32} {F : Nat} (hF : F ≤ 3) (h3 : c 3 = 3) : ot_rf c F 4 = 3 := by
  rw [ot_rf, if_neg (by omega), if_pos h3]
theorem ot_r4f {c : Nat → Int32} {F : Nat} (hF : F ≤ 3) (h3 : c 3 = 1 ∨ c 3 = 4) : ot_rf c F 4 = 4 := by
  rw [ot_rf, if_neg (by omega), if_neg (by rcases h3 with z | z <;> rw [z] <;> decide), if_pos h3]
theorem ot_r44 {c : Nat → Int32} : ot_rf c 4 4 = 4 := by
  rw [ot_rf, if_pos (by omega)]
theorem ot_r33 {c : Nat → Int32} : ot_rf c 3 3 = 3 := by
  rw [ot_rf, if_pos (by omega)]
/-- under a path that the top layer closes, and the pressed one closes after: the same shows -/
theorem ot_under {H H' : Nat → Int32} {p : Nat} (hc : ∀ q l, ot_un q p = true → q < 85 → l < 5 → l ≠ 3 → H' (85 * l + q) = H (85 * l + q)) (c3 : ∀ q, ot_un q p = true → q < 85 → H' (255 + q) = 0)
    (hd : (ot_D H p = none ∧ ot_D H' p = none) ∨ (ot_D H p = some 4 ∧ ot_D H' p = some 3)) :
    ∀ q, ot_un q p = true → q < 85 → (ot_L H' q = ot_L H q ∧ (∀ l, ot_L H q = some l → l = 4)) ∧ ((ot_D H q = none ∧ ot_D H' q = none) ∨ (ot_D H q = some 4 ∧ (ot_D H' q = some 3 ∨ ot_D H' q = some 4))) :=
  ot_ind (fun q ih hq h85 => by
    have h0 := ot_un_ne hq
    have hpar : (ot_D H ((q - 1) / 4) = none ∧ ot_D H' ((q - 1) / 4) = none) ∨ (ot_D H ((q - 1) / 4) = some 4 ∧ (ot_D H' ((q - 1) / 4) = some 3 ∨ ot_D H' ((q - 1) / 4) = some 4)) := by
      rcases (ot_unS h0).mp hq with e | e
      · rw [e]
        rcases hd with z | z
        · exact Or.inl z
        · exact Or.inr ⟨z.1, Or.inl z.2⟩
      · exact (ih h0 e (by omega)).2
    rcases hpar with ⟨a, b⟩ | ⟨a, b⟩
    · refine ⟨⟨(ot_Ln h0 b).trans (ot_Ln h0 a).symm, fun l hl => ?_⟩, Or.inl ⟨ot_Dn h0 a, ot_Dn h0 b⟩⟩
      rw [ot_Ln h0 a] at hl; exact absurd hl (by simp)
    · obtain ⟨F', hF', b⟩ : ∃ F', (F' = 3 ∨ F' = 4) ∧ ot_D H' ((q - 1) / 4) = some F' := by
        rcases b with z | z
        · exact ⟨3, Or.inl rfl, z⟩
        · exact ⟨4, Or.inr rfl, z⟩
      have e4 : H' (340 + q) = H (340 + q) := hc q 4 hq h85 (by omega) (by omega)
      have none4 : ∀ {x : Option Nat}, x = none → ∀ l, x = some l → l = 4 := fun hx l hl => by rw [hx] at hl; exact absurd hl (by simp)
      have some4 : ∀ {x : Option Nat}, x = some 4 → ∀ l, x = some l → l = 4 := fun hx l hl => by rw [hx] at hl; exact (Option.some.inj hl).symm
      by_cases x0 : H (340 + q) = 0
      · have s := ot_st0 h0 a x0
        have s' : ot_L H' q = none ∧ ot_D H' q = none := by
          rcases hF' with rfl | rfl
          · have t : ot_tp (ot_col H' q) 3 5 = none := ot_t5y (e4.trans x0) (c3 q hq h85)
            exact ⟨(ot_Ls h0 b).trans t, ot_Dsn h0 b t⟩
          · exact ot_st0 h0 b (e4.trans x0)
        exact ⟨⟨s'.1.trans s.1.symm, none4 s.1⟩, Or.inl ⟨s.2, s'.2⟩⟩
      · by_cases x4 : H (340 + q) = 4
        · have s := ot_st4 h0 a x4
          have s' := ot_st4 h0 b (e4.trans x4)
          exact ⟨⟨s'.1.trans s.1.symm, none4 s.1⟩, Or.inl ⟨s.2, s'.2⟩⟩
        · by_cases x1 : H (340 + q) = 1
          · have s := ot_st1 h0 a x1
            have s' := ot_st1 h0 b (e4.trans x1)
            exact ⟨⟨s'.1.trans s.1.symm, some4 s.1⟩, Or.inl ⟨s.2, s'.2⟩⟩
          · by_cases x3 : H (340 + q) = 3
            · have s := ot_st3 h0 a x3
              have s' := ot_st3 h0 b (e4.trans x3)
              exact ⟨⟨s'.1.trans s.1.symm, some4 s.1⟩, Or.inr ⟨s.2, Or.inr s'.2⟩⟩
            · have hF4 : F' ≤ 4 := by omega
              have t : ot_tp (ot_col H q) 4 5 = some 4 := ot_t5 (by omega) x0 x4
              have t' : ot_tp (ot_col H' q) F' 5 = some 4 := ot_t5 hF4 (by show ¬ H' (340 + q) = 0; rw [e4]; exact x0) (by show ¬ H' (340 + q) = 4; rw [e4]; exact x4)
              have sL := (ot_Ls h0 a).trans t
              refine ⟨⟨((ot_Ls h0 b).trans t').trans sL.symm, some4 sL⟩, Or.inr ⟨?_, ?_⟩⟩
              · rw [ot_Dss h0 a t x1, ot_r5 (by omega) x3 x1 x4, ot_r44]
              · rw [ot_Dss h0 b t' (by show ¬ H' (340 + q) = 1; rw [e4]; exact x1), ot_r5 hF4 (by show ¬ H' (340 + q) = 3; rw [e4]; exact x3) (by show ¬ H' (340 + q) = 1; rw [e4]; exact x1) (by show ¬ H' (340 + q) = 4; rw [e4]; exact x4)]
                rcases hF' with rfl | rfl
                · have z : ot_col H' q 3 = 0 := c3 q hq h85
                  rw [ot_r4 (by omega) (by rw [z]; decide) (by rw [z]; decide) (by rw [z]; decide), ot_r33]
                  exact Or.inl rfl
                · rw [ot_r44]; exact Or.inr rfl)
theorem ot_DF3 {H : Nat → Int32} {p F : Nat} (hp : p ≠ 0) (hz : H (340 + p) = 0) (h : ot_D H p = some F) : F ≤ 3 := by
  cases hD : ot_D H ((p - 1) / 4) with
  | none => rw [ot_Dn hp hD] at h; exact absurd h (by simp)
  | some F0 =>
    cases ht : ot_tp (ot_col H p) F0 5 with
    | none => rw [ot_Dsn hp hD ht] at h; exact absurd h (by simp)
    | some l =>
      by_cases h1 : H (85 * l + p) = 1
      · rw [ot_Dsf hp hD ht h1] at h; exact absurd h (by simp)
      · rw [ot_Dss hp hD ht h1] at h
        have e := Option.some.inj h
        have a := ot_rfL 5 ht h1
        obtain ⟨_, b, b0, _⟩ := ot_tpI 5 ht
        have : l ≠ 4 := fun z => by
          subst z
          exact b0 hz
        omega
/-- what holds between two paths of a pressing -/
def ot_J (H : Nat → Int32) (p : Nat) : Prop := H 340 = 2 ∧ H 255 = 2 ∧ (∀ q, q < 85 → H (340 + q) = 0 ∨ H (340 + q) = 1 ∨ H (340 + q) = 2 ∨ H (340 + q) = 3 ∨ H (340 + q) = 4) ∧ ot_wf H 255 ∧
  (∀ q, q ≠ 0 → q < 85 → H (340 + q) ≠ 0 → p ≤ q ∧ (p ≤ (q - 1) / 4 → ot_isd (H (340 + (q - 1) / 4))) ∧ ((q - 1) / 4 < p → ot_isd (H (255 + (q - 1) / 4))))
theorem ot_J1 {H : Nat → Int32} (i : ot_I H) : ot_J H 1 := by
  obtain ⟨i1, i2, i3, i4, i5⟩ := i
  refine ⟨i1, i2, i3, i5, fun q h0 hq hz => ⟨by omega, fun _ => i4 q h0 hq hz, fun h => ?_⟩⟩
  have e : (q - 1) / 4 = 0 := by omega
  rw [e]
  show ot_isd (H 255)
  rw [i2]; exact ot_isd2
theorem ot_JI {H : Nat → Int32} (j : ot_J H 85) : ot_I H := by
  obtain ⟨i1, i2, i3, i4, i5⟩ := j
  exact ⟨i1, i2, i3, fun q h0 hq hz => absurd (i5 q h0 hq hz).1 (by omega), i4⟩
theorem ot_JF {H : Nat → Int32} {p F : Nat} (j : ot_J H p) (hp : p ≠ 0) (hp85 : p < 85) (h : ot_D H ((p - 1) / 4) = some F) : F ≤ 3 := by
  by_cases e : (p - 1) / 4 = 0
  · rw [e, ot_D0] at h
    have := Option.some.inj h
    omega
  · refine ot_DF3 e ?_ h
    by_cases hz : H (340 + (p - 1) / 4) = 0
    · exact hz
    · have := (j.2.2.2.2 _ e (by omega) hz).1
      omega
/-- the top layer holds a file, a closed directory or a hole there -/
theorem ot_pA {H H' C C' : Nat → Int32} {p : Nat} (j : ot_J H p) (hp : p ≠ 0) (hp85 : p < 85) (hx0 : ¬ H (340 + p) = 0) (hx2 : ¬ H (340 + p) = 2)
    (e4 : H' (340 + p) = 0) (e3 : H' (255 + p) = H (340 + p)) (eu : ∀ q, ot_un q p = true → q < 85 → H' (255 + q) = 0)
    (eo : ∀ q l, q < 85 → l < 5 → (l = 3 → ¬ ot_ue q p) → (l = 4 → q ≠ p) → H' (85 * l + q) = H (85 * l + q)) (c3 : C' (255 + p) = C (340 + p)) (co : ∀ k, k ≠ 255 + p → C' k = C k) :
    ot_J H' (p + 1) ∧ ∀ q, q < 85 → ot_S H' q = ot_S H q ∧ ot_V H' C' q = ot_V H C q := by
  have JF := fun F => ot_JF (F := F) j hp hp85
  obtain ⟨j1, j2, j3, j4, j5⟩ := j
  have hx : H (340 + p) = 1 ∨ H (340 + p) = 3 ∨ H (340 + p) = 4 := by
    rcases j3 p hp85 with z | z | z | z | z
    · exact absurd z hx0
    · exact Or.inl z
    · exact absurd z hx2
    · exact Or.inr (Or.inl z)
    · exact Or.inr (Or.inr z)
  have o4 : ∀ q, q < 85 → q ≠ p → H' (340 + q) = H (340 + q) := fun q hq e => eo q 4 hq (by omega) (fun z => absurd z (by omega)) (fun _ => e)
  have o3 : ∀ q, q < 85 → ¬ ot_ue q p → H' (255 + q) = H (255 + q) := fun q hq e => eo q 3 hq (by omega) (fun _ => e) (fun z => absurd z (by omega))
  have nup : ∀ q, q < p → ¬ ot_ue q p := fun q hq h => by
    have := ot_ue_le h
    omega
  constructor
  · refine ⟨(o4 0 (by omega) (fun z => hp z.symm)).trans j1, (o3 0 (by omega) (ot_nue0 hp)).trans j2, fun q hq => ?_, fun q h0 hq hz => ?_, fun q h0 hq hz => ?_⟩
    · by_cases e : q = p
      · rw [e]; exact Or.inl e4
      · rw [o4 q hq e]; exact j3 q hq
    · by_cases e : q = p
      · subst e
        rw [o3 _ (by omega) (nup _ (by omega))]
        exact (j5 q h0 hq hx0).2.2 (by omega)
      · by_cases u : ot_un q p = true
        · exact absurd (eu q u hq) hz
        · have nu : ¬ ot_ue q p := fun z => z.elim e u
          rw [o3 _ (by omega) (ot_nue_par h0 nu)]
          rw [o3 q hq nu] at hz
          exact j4 q h0 hq hz
    · have e : q ≠ p := fun z => by
        rw [z] at hz
        exact hz e4
      rw [o4 q hq e] at hz
      obtain ⟨k1, k2, k3⟩ := j5 q h0 hq hz
      refine ⟨by omega, fun h => ?_, fun h => ?_⟩
      · rw [o4 _ (by omega) (by omega)]
        exact k2 (by omega)
      · by_cases ep : (q - 1) / 4 = p
        · rw [ep, e3]
          rw [ep] at k2
          exact k2 (by omega)
        · rw [o3 _ (by omega) (nup _ (by omega))]
          exact k3 (by omega)
  · have fr := ot_fr (H := H) (H' := H') (fun q => q < 85 ∧ ¬ ot_ue q p) (fun q h0 h => ⟨by omega, ot_nue_par h0 h.2⟩)
      (fun q l h hl => eo q l h.1 hl (fun _ => h.2) (fun _ z => h.2 (Or.inl z)))
    have hpar := (fr ((p - 1) / 4) ⟨by omega, nup _ (by omega)⟩).1
    have hd : (ot_S H' p = ot_S H p ∧ ot_V H' C' p = ot_V H C p) ∧ ((ot_D H p = none ∧ ot_D H' p = none) ∨ (ot_D H p = some 4 ∧ ot_D H' p = some 3)) := by
      cases hD : ot_D H ((p - 1) / 4) with
      | none =>
        have hD' := hpar.trans hD
        refine ⟨⟨by rw [ot_Sn (ot_Ln hp hD), ot_Sn (ot_Ln hp hD')], by rw [ot_Vn (ot_Ln hp hD), ot_Vn (ot_Ln hp hD')]⟩, Or.inl ⟨ot_Dn hp hD, ot_Dn hp hD'⟩⟩
      | some F =>
        have hD' := hpar.trans hD
        have hF := JF F hD
        have c4' : ot_col H' p 4 = 0 := e4
        have c3' : ot_col H' p 3 = H (340 + p) := e3
        rcases hx with x | x | x
        · have s := ot_st1 hp hD x
          have t' : ot_tp (ot_col H' p) F 5 = some 3 := ot_t53 hF c4' (by rw [c3', x]; decide) (by rw [c3', x]; decide)
          have L' := (ot_Ls hp hD').trans t'
          have f' : H' (85 * 3 + p) = 1 := e3.trans x
          refine ⟨⟨by rw [ot_S1 L' f', ot_S1 s.1 x], ?_⟩, Or.inl ⟨s.2, ot_Dsf hp hD' t' f'⟩⟩
          rw [ot_V1 L' f', ot_V1 s.1 x]
          exact c3
        · have s := ot_st3 hp hD x
          have t' : ot_tp (ot_col H' p) F 5 = some 3 := ot_t53 hF c4' (by rw [c3', x]; decide) (by rw [c3', x]; decide)
          have L' := (ot_Ls hp hD').trans t'
          have f' : ¬ H' (85 * 3 + p) = 1 := by show ¬ H' (255 + p) = 1; rw [e3, x]; decide
          have f : ¬ H (85 * 4 + p) = 1 := by show ¬ H (340 + p) = 1; rw [x]; decide
          refine ⟨⟨by rw [ot_S2 L' f', ot_S2 s.1 f], by rw [ot_V2 L' f', ot_V2 s.1 f]⟩, Or.inr ⟨s.2, ?_⟩⟩
          rw [ot_Dss hp hD' t' f', ot_r5 (by omega) (by rw [c4']; decide) (by rw [c4']; decide) (by rw [c4']; decide), ot_r4c hF (c3'.trans x)]
        · have s := ot_st4 hp hD x
          have t' : ot_tp (ot_col H' p) F 5 = none := ot_t53h hF c4' (c3'.trans x)
          have L' := (ot_Ls hp hD').trans t'
          exact ⟨⟨by rw [ot_Sn L', ot_Sn s.1], by rw [ot_Vn L', ot_Vn s.1]⟩, Or.inl ⟨s.2, ot_Dsn hp hD' t'⟩⟩
    have un := ot_under (H := H) (H' := H') (p := p) (fun q l u hq hl n3 => eo q l hq hl (fun z => absurd z n3) (fun _ z => by
      have := ot_un_lt q u
      omega)) eu hd.2
    intro q hq
    by_cases e : q = p
    · subst e; exact hd.1
    · by_cases u : ot_un q p = true
      · obtain ⟨⟨a, b⟩, _⟩ := un q u hq
        have hh : ∀ l, ot_L H q = some l → H' (85 * l + q) = H (85 * l + q) := fun l hl => by
          rw [b l hl]; exact o4 q hq e
        exact ⟨ot_SL a hh, ot_VL a hh (fun l hl => by rw [b l hl]; exact co _ (by omega))⟩
      · have nu : ¬ ot_ue q p := fun z => z.elim e u
        have f := fr q ⟨hq, nu⟩
        have hh : ∀ l, ot_L H q = some l → H' (85 * l + q) = H (85 * l + q) := fun l hl => eo q l hq (ot_Ll hl) (fun _ => nu) (fun _ => e)
        exact ⟨ot_SL f.2 hh, ot_VL f.2 hh (fun l hl => co _ (by omega))⟩
/-- the top layer holds a directory there through which more shows -/
theorem ot_pB {H H' C : Nat → Int32} {p : Nat} (j : ot_J H p) (hp : p ≠ 0) (hp85 : p < 85) (hx2 : H (340 + p) = 2) (e4 : H' (340 + p) = 0)
    (e3 : H' (255 + p) = if H (255 + p) = 1 ∨ H (255 + p) = 4 then 3 else if H (255 + p) = 3 then 3 else 2)
    (eo : ∀ k, k ≠ 340 + p → k ≠ 255 + p → H' k = H k) :
    ot_J H' (p + 1) ∧ ∀ q, q < 85 → ot_S H' q = ot_S H q ∧ ot_V H' C q = ot_V H C q := by
  have JF := fun F => ot_JF (F := F) j hp hp85
  obtain ⟨j1, j2, j3, j4, j5⟩ := j
  have hx0 : ¬ H (340 + p) = 0 := by rw [hx2]; decide
  have m23 : H' (255 + p) = 2 ∨ H' (255 + p) = 3 := by
    rw [e3]
    by_cases a : H (255 + p) = 1 ∨ H (255 + p) = 4
    · rw [if_pos a]; exact Or.inr rfl
    · rw [if_neg a]
      by_cases b : H (255 + p) = 3
      · rw [if_pos b]; exact Or.inr rfl
      · rw [if_neg b]; exact Or.inl rfl
  have mi : ot_isd (H' (255 + p)) := by
    rcases m23 with z | z <;> rw [z]
    · exact ot_isd2
    · exact ot_isd3
  have o4 : ∀ q, q < 85 → q ≠ p → H' (340 + q) = H (340 + q) := fun q hq e => eo _ (by omega) (by omega)
  have o3 : ∀ q, q < 85 → q ≠ p → H' (255 + q) = H (255 + q) := fun q hq e => eo _ (by omega) (by omega)
  have ec : ∀ q l, q < 85 → q ≠ p → l < 5 → H' (85 * l + q) = H (85 * l + q) := fun q l hq e hl => eo _ (by omega) (by omega)
  constructor
  · refine ⟨(o4 0 (by omega) (fun z => hp z.symm)).trans j1, (o3 0 (by omega) (fun z => hp z.symm)).trans j2, fun q hq => ?_, fun q h0 hq hz => ?_, fun q h0 hq hz => ?_⟩
    · by_cases e : q = p
      · rw [e]; exact Or.inl e4
      · rw [o4 q hq e]; exact j3 q hq
    · by_cases ep : (q - 1) / 4 = p
      · rw [ep]; exact mi
      · rw [o3 _ (by omega) ep]
        by_cases e : q = p
        · subst e
          exact (j5 q h0 hq hx0).2.2 (by omega)
        · rw [o3 q hq e] at hz
          exact j4 q h0 hq hz
    · have e : q ≠ p := fun z => by
        rw [z] at hz
        exact hz e4
      rw [o4 q hq e] at hz
      obtain ⟨k1, k2, k3⟩ := j5 q h0 hq hz
      refine ⟨by omega, fun h => ?_, fun h => ?_⟩
      · rw [o4 _ (by omega) (by omega)]
        exact k2 (by omega)
      · by_cases ep : (q - 1) / 4 = p
        · rw [ep]; exact mi
        · rw [o3 _ (by omega) ep]
          exact k3 (by omega)
  · have c4 : ot_col H p 4 = 2 := hx2
    have c4' : ot_col H' p 4 = 0 := e4
    have n0 : ¬ ot_col H' p 3 = 0 := mi.1
    have n4 : ¬ ot_col H' p 3 = 4 := mi.2.2
    have f' : ¬ H' (85 * 3 + p) = 1 := mi.2.1
    have f : ¬ H (85 * 4 + p) = 1 := by show ¬ H (340 + p) = 1; rw [hx2]; decide
    have at1 : ∀ F, ot_D H ((p - 1) / 4) = some F → ot_D H' ((p - 1) / 4) = some F →
        (ot_S H' p = ot_S H p ∧ ot_V H' C p = ot_V H C p) ∧ ot_D H p = some (ot_rf (ot_col H p) F 4) ∧ ot_D H' p = some (ot_rf (ot_col H' p) F 4) := by
      intro F hD hD'
      have hF := JF F hD
      have t : ot_tp (ot_col H p) F 5 = some 4 := ot_t5 (by omega) (by rw [c4]; decide) (by rw [c4]; decide)
      have t' : ot_tp (ot_col H' p) F 5 = some 3 := ot_t53 hF c4' n0 n4
      have L := (ot_Ls hp hD).trans t
      have L' := (ot_Ls hp hD').trans t'
      refine ⟨⟨by rw [ot_S2 L' f', ot_S2 L f], by rw [ot_V2 L' f', ot_V2 L f]⟩, ?_, ?_⟩
      · rw [ot_Dss hp hD t f, ot_r5 (by omega) (by rw [c4]; decide) (by rw [c4]; decide) (by rw [c4]; decide)]
      · rw [ot_Dss hp hD' t' f', ot_r5 (by omega) (by rw [c4']; decide) (by rw [c4']; decide) (by rw [c4']; decide)]
    by_cases a : H (255 + p) = 1 ∨ H (255 + p) = 4
    · have low := ot_low j4 (p := p) (fun z => a.elim z.2.1 z.2.2)
      have m3 : ot_col H' p 3 = 3 := by
        show H' (255 + p) = 3
        rw [e3, if_pos a]
      have fr := ot_fr (H := H) (H' := H') (fun q => q < 85 ∧ ¬ ot_ue q p) (fun q h0 h => ⟨by omega, ot_nue_par h0 h.2⟩)
        (fun q l h hl => ec q l h.1 (fun z => h.2 (Or.inl z)) hl)
      have hpar := (fr ((p - 1) / 4) ⟨by omega, fun h => by
        have := ot_ue_le h
        omega⟩).1
      have hd : (ot_S H' p = ot_S H p ∧ ot_V H' C p = ot_V H C p) ∧ ((ot_D H p = none ∧ ot_D H' p = none) ∨ (ot_D H p = some 4 ∧ ot_D H' p = some 3)) := by
        cases hD : ot_D H ((p - 1) / 4) with
        | none =>
          have hD' := hpar.trans hD
          exact ⟨⟨by rw [ot_Sn (ot_Ln hp hD), ot_Sn (ot_Ln hp hD')], by rw [ot_Vn (ot_Ln hp hD), ot_Vn (ot_Ln hp hD')]⟩, Or.inl ⟨ot_Dn hp hD, ot_Dn hp hD'⟩⟩
        | some F =>
          have hD' := hpar.trans hD
          have hF := JF F hD
          obtain ⟨s, d, d'⟩ := at1 F hD hD'
          rw [ot_r4f hF a] at d
          rw [ot_r4c hF m3] at d'
          exact ⟨s, Or.inr ⟨d, d'⟩⟩
      have un := ot_under (H := H) (H' := H') (p := p) (fun q l u hq hl n3 => ec q l hq (by
        have := ot_un_lt q u
        omega) hl) (fun q u hq => by
        have := ot_un_lt q u
        rw [o3 q hq (by omega)]; exact low q u hq) hd.2
      intro q hq
      by_cases e : q = p
      · subst e; exact hd.1
      · have hh : ∀ l, ot_L H q = some l → H' (85 * l + q) = H (85 * l + q) := fun l hl => ec q l hq e (ot_Ll hl)
        by_cases u : ot_un q p = true
        · obtain ⟨⟨a, b⟩, _⟩ := un q u hq
          exact ⟨ot_SL a hh, ot_VL a hh (fun l hl => rfl)⟩
        · have g := fr q ⟨hq, fun z => z.elim e u⟩
          exact ⟨ot_SL g.2 hh, ot_VL g.2 hh (fun l hl => rfl)⟩
    · have a1 : ¬ H (255 + p) = 1 := fun z => a (Or.inl z)
      have a4 : ¬ H (255 + p) = 4 := fun z => a (Or.inr z)
      have m : ot_col H' p 3 = if H (255 + p) = 3 then 3 else 2 := by
        show H' (255 + p) = _
        rw [e3, if_neg a]
      have key := ot_swap (H := H) (H' := H') (p := p) ec (fun eD => by
        cases hD : ot_D H ((p - 1) / 4) with
        | none => rw [ot_Dn hp hD, ot_Dn hp ((eD hp).trans hD)]
        | some F =>
          have hD' := (eD hp).trans hD
          have hF := JF F hD
          obtain ⟨_, d, d'⟩ := at1 F hD hD'
          rw [d, d']
          by_cases b : H (255 + p) = 3
          · rw [if_pos b] at m
            rw [ot_r4c hF m, ot_r4c hF (show ot_col H p 3 = 3 from b)]
          · rw [if_neg b] at m
            rw [ot_r4 hF (by rw [m]; decide) (by rw [m]; decide) (by rw [m]; decide), ot_r4 hF (show ¬ ot_col H p 3 = 3 from b) a1 a4]
            rw [ot_rfC (c := ot_col H' p) (c' := ot_col H p) 3 (fun l hl => show H' (85 * l + p) = H (85 * l + p) from eo _ (by omega) (by omega))])
      intro q hq
      obtain ⟨kD, kL⟩ := key q hq
      by_cases e : q = p
      · subst e
        cases hD : ot_D H ((q - 1) / 4) with
        | none =>
          have hD' := ((key ((q - 1) / 4) (by omega)).1).trans hD
          exact ⟨by rw [ot_Sn (ot_Ln hp hD), ot_Sn (ot_Ln hp hD')], by rw [ot_Vn (ot_Ln hp hD), ot_Vn (ot_Ln hp hD')]⟩
        | some F => exact (at1 F hD (((key ((q - 1) / 4) (by omega)).1).trans hD)).1
      · have hh : ∀ l, ot_L H q = some l → H' (85 * l + q) = H (85 * l + q) := fun l hl => ec q l hq e (ot_Ll hl)
        exact ⟨ot_SL (kL e) hh, ot_VL (kL e) hh (fun l hl => rfl)⟩
/-- the top layer holds nothing there -/
theorem ot_pC {H : Nat → Int32} {p : Nat} (j : ot_J H p) (hx : H (340 + p) = 0) : ot_J H (p + 1) := by
  obtain ⟨j1, j2, j3, j4, j5⟩ := j
  refine ⟨j1, j2, j3, j4, fun q h0 hq hz => ?_⟩
  obtain ⟨k1, k2, k3⟩ := j5 q h0 hq hz
  have e : q ≠ p := fun z => by
    rw [z] at hz
    exact hz hx
  refine ⟨by omega, fun h => k2 (by omega), fun h => ?_⟩
  by_cases ep : (q - 1) / 4 = p
  · rw [ep] at k2
    exact absurd hx (k2 (by omega)).1
  · exact k3 (by omega)
end
section
/-! counting what is shown; places -/
def ot_sm (f : Nat → Nat) : Nat → Nat
  | 0 => 0
  | n + 1 => ot_sm f n + f n
def ot_one1 (S : Nat → Nat) (q : Nat) : Nat := if q = 0 ∨ S q = 0 then 0 else 1
def ot_tot (S : Nat → Nat) (n : Nat) : Nat := ot_sm (ot_one1 S) n
def ot_in (S : Nat → Nat) (q : Nat) : Nat := if q < 85 ∧ S q ≠ 0 then 1 else 0
def ot_en (S : Nat → Nat) (p : Nat) : Nat → Nat := ot_sm (fun i => ot_in S (4 * p + 1 + i))
def ot_ei (S : Nat → Nat) (p : Nat) : Int32 := if S p = 2 then nI (ot_en S p 4) else -1
def ot_st5 (S : Nat → Nat) (V : Nat → Int32) : Nat → Int32
  | 0 => nI (ot_tot S 85)
  | n + 1 => (((ot_st5 S V n * 31) + (7 * nI (S n))) + V n) + (3 * ot_ei S n)
theorem ot_smC {f g : Nat → Nat} (n : Nat) (h : ∀ q, q < n → f q = g q) : ot_sm f n = ot_sm g n := by
  induction n with
  | zero => rfl
  | succ n ih =>
    show ot_sm f n + f n = ot_sm g n + g n
    rw [ih (fun q hq => h q (by omega)), h n (by omega)]
theorem ot_smU {f g : Nat → Nat} {a : Nat} (n : Nat) (ha : a < n) (h : ∀ q, q < n → q ≠ a → f q = g q) : ot_sm f n + g a = ot_sm g n + f a := by
  induction n with
  | zero => omega
  | succ n ih =>
    show ot_sm f n + f n + g a = ot_sm g n + g n + f a
    by_cases e : a = n
    · subst e
      rw [ot_smC a (fun q hq => h q (by omega) (by omega))]
      omega
    · have i := ih (by omega) (fun q hq => h q (by omega))
      have := h n (by omega) (fun z => e z.symm)
      omega
theorem ot_smB {f : Nat → Nat} {b : Nat} (h : ∀ q, f q ≤ b) (n : Nat) : ot_sm f n ≤ b * n := by
  induction n with
  | zero => exact Nat.le_refl 0
  | succ n ih =>
    show ot_sm f n + f n ≤ b * (n + 1)
    have := h n
    rw [Nat.mul_add]
    omega
theorem ot_inB (S : Nat → Nat) (q : Nat) : ot_in S q ≤ 1 := by
  unfold ot_in
  by_cases h : q < 85 ∧ S q ≠ 0
  · rw [if_pos h]; omega
  · rw [if_neg h]; omega
theorem ot_in0 {S : Nat → Nat} {q : Nat} (h : 85 ≤ q ∨ S q = 0) : ot_in S q = 0 := by
  unfold ot_in
  rw [if_neg (fun z => h.elim (fun h => absurd z.1 (by omega)) (fun h => z.2 h))]
theorem ot_in1 {S : Nat → Nat} {q : Nat} (h : q < 85) (hS : S q ≠ 0) : ot_in S q = 1 := by
  unfold ot_in
  rw [if_pos ⟨h, hS⟩]
theorem ot_oneB (S : Nat → Nat) (q : Nat) : ot_one1 S q ≤ 1 := by
  unfold ot_one1
  by_cases h : q = 0 ∨ S q = 0
  · rw [if_pos h]; omega
  · rw [if_neg h]; omega
theorem ot_enB (S : Nat → Nat) (p : Nat) : ot_en S p 4 ≤ 4 := ot_smB (f := fun i => ot_in S (4 * p + 1 + i)) (b := 1) (fun q => ot_inB S _) 4
theorem ot_totB (S : Nat → Nat) (n : Nat) : ot_tot S n ≤ n := by
  have := ot_smB (f := ot_one1 S) (b := 1) (fun q => ot_oneB S q) n
  unfold ot_tot
  omega
theorem ot_enZ {S : Nat → Nat} {p i : Nat} (hi : i ≤ 4) (h : 85 ≤ 4 * p + 1 + i) : ot_en S p i = ot_en S p 4 := by
  have key : ∀ k, ot_en S p (i + k) = ot_en S p i := by
    intro k
    induction k with
    | zero => rfl
    | succ k ih =>
      show ot_en S p (i + k) + ot_in S (4 * p + 1 + (i + k)) = ot_en S p i
      rw [ih, ot_in0 (Or.inl (by omega)), Nat.add_zero]
  have e := key (4 - i)
  rw [show i + (4 - i) = 4 by omega] at e
  exact e.symm
theorem ot_enC {S S' : Nat → Nat} (h : ∀ q, q < 85 → S' q = S q) (p : Nat) : ot_en S' p 4 = ot_en S p 4 :=
  ot_smC 4 (fun i _ => by
    show ot_in S' (4 * p + 1 + i) = ot_in S (4 * p + 1 + i)
    by_cases z : 4 * p + 1 + i < 85
    · unfold ot_in; rw [h _ z]
    · rw [ot_in0 (Or.inl (by omega)), ot_in0 (Or.inl (by omega))])
theorem ot_totC {S S' : Nat → Nat} (h : ∀ q, q < 85 → S' q = S q) : ot_tot S' 85 = ot_tot S 85 :=
  ot_smC 85 (fun q hq => by unfold ot_one1; rw [h q hq])
theorem ot_stC {S S' : Nat → Nat} {V V' : Nat → Int32} (h : ∀ q, q < 85 → S' q = S q) (hV : ∀ q, q < 85 → V' q = V q) (n : Nat) (hn : n ≤ 85) : ot_st5 S' V' n = ot_st5 S V n := by
  induction n with
  | zero =>
    show nI (ot_tot S' 85) = nI (ot_tot S 85)
    rw [ot_totC h]
  | succ n ih =>
    show (((ot_st5 S' V' n * 31) + (7 * nI (S' n))) + V' n) + (3 * ot_ei S' n) = (((ot_st5 S V n * 31) + (7 * nI (S n))) + V n) + (3 * ot_ei S n)
    have e : ot_ei S' n = ot_ei S n := by
      unfold ot_ei
      rw [h n (by omega), ot_enC h]
    rw [ih (by omega), h n (by omega), hV n (by omega), e]
/-- the directories' entries add up -/
def ot_e2 (S : Nat → Nat) (p : Nat) : Nat := if S p = 2 then ot_en S p 4 else 0
theorem ot_e2E {S : Nat → Nat} (hS : ∀ q, q < 85 → q ≠ 0 → S q ≠ 0 → S ((q - 1) / 4) = 2) (p : Nat) : ot_e2 S p = ot_en S p 4 := by
  unfold ot_e2
  by_cases h : S p = 2
  · rw [if_pos h]
  · rw [if_neg h]
    have z : ∀ i, i < 4 → ot_in S (4 * p + 1 + i) = 0 := fun i hi => by
      by_cases g : 4 * p + 1 + i < 85
      · by_cases s : S (4 * p + 1 + i) = 0
        · exact ot_in0 (Or.inr s)
        · have t := hS _ g (by omega) s
          rw [show (4 * p + 1 + i - 1) / 4 = p by omega] at t
          exact absurd t h
      · exact ot_in0 (Or.inl (by omega))
    show 0 = 0 + ot_in S (4 * p + 1 + 0) + ot_in S (4 * p + 1 + 1) + ot_in S (4 * p + 1 + 2) + ot_in S (4 * p + 1 + 3)
    rw [z 0 (by omega), z 1 (by omega), z 2 (by omega), z 3 (by omega)]
theorem ot_sm4 (g : Nat → Nat) (n : Nat) : ot_sm (fun p => ot_sm (fun i => g (4 * p + 1 + i)) 4) n = ot_sm (fun q => g (q + 1)) (4 * n) := by
  induction n with
  | zero => rfl
  | succ n ih =>
    show ot_sm (fun p => ot_sm (fun i => g (4 * p + 1 + i)) 4) n + (0 + g (4 * n + 1 + 0) + g (4 * n + 1 + 1) + g (4 * n + 1 + 2) + g (4 * n + 1 + 3)) = _
    rw [ih, show 4 * (n + 1) = 4 * n + 1 + 1 + 1 + 1 by omega]
    show _ = ot_sm (fun q => g (q + 1)) (4 * n) + g (4 * n + 1) + g (4 * n + 1 + 1) + g (4 * n + 1 + 1 + 1) + g (4 * n + 1 + 1 + 1 + 1)
    rw [show 4 * n + 1 + 0 = 4 * n + 1 by omega, show 4 * n + 1 + 2 = 4 * n + 1 + 1 + 1 by omega, show 4 * n + 1 + 3 = 4 * n + 1 + 1 + 1 + 1 by omega]
    omega
theorem ot_sum {S : Nat → Nat} (hS : ∀ q, q < 85 → q ≠ 0 → S q ≠ 0 → S ((q - 1) / 4) = 2) : ot_sm (ot_e2 S) 85 = ot_tot S 85 := by
  have a : ot_sm (ot_e2 S) 85 = ot_sm (fun p => ot_sm (fun i => ot_in S (4 * p + 1 + i)) 4) 85 := ot_smC 85 (fun p _ => ot_e2E hS p)
  rw [a, ot_sm4 (ot_in S) 85]
  have b : ∀ k, ot_sm (fun q => ot_in S (q + 1)) (84 + k) = ot_sm (fun q => ot_in S (q + 1)) 84 := by
    intro k
    induction k with
    | zero => rfl
    | succ k ih =>
      show ot_sm (fun q => ot_in S (q + 1)) (84 + k) + ot_in S (84 + k + 1) = _
      rw [ih, ot_in0 (Or.inl (by omega))]
      rfl
  have c : ∀ n, n ≤ 84 → ot_sm (fun q => ot_in S (q + 1)) n = ot_tot S (n + 1) := by
    intro n hn
    induction n with
    | zero => rfl
    | succ n ih =>
      show ot_sm (fun q => ot_in S (q + 1)) n + ot_in S (n + 1) = ot_tot S (n + 1) + ot_one1 S (n + 1)
      rw [ih (by omega)]
      have e : ot_in S (n + 1) = ot_one1 S (n + 1) := by
        by_cases s : S (n + 1) = 0
        · rw [ot_in0 (Or.inr s)]
          unfold ot_one1
          rw [if_pos (Or.inr s)]
        · rw [ot_in1 (by omega) s]
          unfold ot_one1
          rw [if_neg (fun z => z.elim (fun z => absurd z (by omega)) s)]
      rw [e]
  rw [show 4 * 85 = 84 + 256 by omega, b 256]
  exact c 84 (Nat.le_refl 84)
/-- one thing more, one thing less -/
theorem ot_more {S S' : Nat → Nat} {a : Nat} (ha : a ≠ 0) (h85 : a < 85) (h : ∀ q, q < 85 → q ≠ a → S' q = S q) (h0 : S a = 0) (h1 : S' a ≠ 0) : ot_tot S' 85 = ot_tot S 85 + 1 := by
  have e := ot_smU (f := ot_one1 S') (g := ot_one1 S) 85 h85 (fun q hq hn => by unfold ot_one1; rw [h q hq hn])
  have f1 : ot_one1 S' a = 1 := by
    unfold ot_one1
    rw [if_neg (fun z => z.elim ha h1)]
  have f0 : ot_one1 S a = 0 := by
    unfold ot_one1
    rw [if_pos (Or.inr h0)]
  unfold ot_tot
  omega
/-- places -/
def ot_pl (p a b : Nat) : Nat := if p = a then b else if h : p = 0 then 0 else 4 * ot_pl ((p - 1) / 4) a b + 1 + (p - 1) % 4
termination_by p
decreasing_by omega
theorem ot_pla (a b : Nat) : ot_pl a a b = b := by rw [ot_pl, if_pos rfl]
theorem ot_plS {p a b : Nat} (hp : p ≠ 0) (ha : p ≠ a) : ot_pl p a b = 4 * ot_pl ((p - 1) / 4) a b + 1 + (p - 1) % 4 := by
  rw [ot_pl, if_neg ha, dif_neg hp]
theorem ot_plB {a b : Nat} (hb : b < 85) : ∀ p, ot_pl p a b + 2 ≤ 86 * (3 * p + 1) :=
  ot_ind (fun p ih => by
    by_cases e : p = a
    · rw [e, ot_pla]; omega
    · by_cases h0 : p = 0
      · subst h0
        rw [ot_pl, if_neg e, dif_pos rfl]; omega
      · rw [ot_plS h0 e]
        have := ih h0
        omega)
theorem ot_plU {a b : Nat} : ∀ p, ot_ue p a → ot_ue (ot_pl p a b) b ∧ (p ≠ a → ot_un (ot_pl p a b) b = true ∧ (ot_pl p a b - 1) / 4 = ot_pl ((p - 1) / 4) a b) :=
  ot_ind (fun p ih hp => by
    by_cases e : p = a
    · rw [e, ot_pla]; exact ⟨Or.inl rfl, fun z => absurd rfl z⟩
    · have hu := hp.resolve_left e
      have h0 := ot_un_ne hu
      have i := (ih h0 ((ot_unS h0).mp hu)).1
      have es := ot_plS (b := b) h0 e
      have ep : (ot_pl p a b - 1) / 4 = ot_pl ((p - 1) / 4) a b := by rw [es]; omega
      have un : ot_un (ot_pl p a b) b = true := (ot_unS (by rw [es]; omega)).mpr (by rw [ep]; exact i)
      exact ⟨Or.inr un, fun _ => ⟨un, ep⟩⟩)
theorem ot_plI {a b : Nat} : ∀ p, ot_ue p a → ot_pl (ot_pl p a b) b a = p :=
  ot_ind (fun p ih hp => by
    by_cases e : p = a
    · rw [e, ot_pla, ot_pla]
    · have hu := hp.resolve_left e
      have h0 := ot_un_ne hu
      have i := ih h0 ((ot_unS h0).mp hu)
      have u := (ot_plU (b := b) p hp).2 e
      have lt := ot_un_lt _ u.1
      rw [ot_plS (by omega) (by omega), u.2, i, ot_plS h0 e]
      omega)
theorem ot_plJ {a b p p' : Nat} (h : ot_ue p a) (h' : ot_ue p' a) (e : ot_pl p a b = ot_pl p' a b) : p = p' := by
  rw [← ot_plI (b := b) p h, ← ot_plI (b := b) p' h', e]
/-- counting with an array: a new place -/
def ot_cn (f : Nat → Int32) : Nat → Nat := ot_sm (fun q => if f q = 0 then 0 else 1)
theorem ot_cnU {f : Nat → Int32} {k : Nat} {x : Int32} (hk : k < 85) (h0 : f k = 0) (hx : ¬ x = 0) : ot_cn (upd f k x) 85 = ot_cn f 85 + 1 := by
  have e := ot_smU (f := fun q => if upd f k x q = 0 then 0 else 1) (g := fun q => if f q = 0 then 0 else 1) 85 hk (fun q hq hn => by
    show (if upd f k x q = 0 then 0 else 1) = (if f q = 0 then 0 else 1)
    rw [pk_un hn])
  have e1 : (if upd f k x k = 0 then 0 else 1) = 1 := by rw [pk_us, if_neg hx]
  have e2 : (if f k = 0 then 0 else 1) = 0 := by rw [if_pos h0]
  rw [e1, e2] at e
  exact e
theorem ot_cn0 {f : Nat → Int32} (n : Nat) (h : ∀ q, q < n → f q = 0) : ot_cn f n = 0 := by
  induction n with
  | zero => rfl
  | succ n ih =>
    show ot_cn f n + (if f n = 0 then 0 else 1) = 0
    rw [ih (fun q hq => h q (by omega)), if_pos (h n (by omega))]
end
section
/-! walks: paths, and going down through the layers -/
theorem ot_ix (l p : Nat) : (85 : Int32) * nI l + nI p = nI (85 * l + p) := by
  rw [show (85 : Int32) = nI 85 from rfl, pk_mul, nI_add]
theorem ot_i4 (p : Nat) : (340 : Int32) + nI p = nI (340 + p) := nI_add 340 p
theorem ot_i3 (p : Nat) : (255 : Int32) + nI p = nI (255 + p) := nI_add 255 p
theorem ot_pr {p : Nat} (hp : p ≠ 0) (h : p < 2 ^ 31) : (nI p - 1) / 4 = nI ((p - 1) / 4) := by
  obtain ⟨k, rfl⟩ : ∃ k, p = k + 1 := ⟨p - 1, by omega⟩
  rw [nI_pred, Nat.add_sub_cancel]
  exact pk_div (a := k) (d := 4) (by omega) (by omega) (by omega)
theorem ot_sub1 (x : Int32) : x - 1 = x + (-1) := Int32.sub_eq_add_neg x 1
theorem ot_m1lt {F : Nat} (h : F < 2 ^ 31) : (-1 : Int32) < nI F := by
  apply Int32.lt_iff_toInt_lt.mpr
  rw [nI_toInt h, show (-1 : Int32).toInt = -1 from by decide]
  omega
theorem ot_m1lt0 {F : Nat} (h : F < 2 ^ 31) : nI 0 + (-1 : Int32) < nI F := ot_m1lt h
theorem ot_dlt {n k : Nat} (hk : n ≤ k) (h : k < 2 ^ 31) : nI n + (-1) < nI k := by
  cases n with
  | zero => exact ot_m1lt h
  | succ n => rw [pk_m1]; exact nI_lt (by omega) h
def ot_fc : Option Nat → Int32
  | none => -1
  | some l => nI l
def ot_B : Nat → Nat
  | 0 => 0
  | k + 1 => 4 * ot_B k + 4
theorem ot_wpar {post : Int32 → Prop} {p : Nat} (hp : p ≠ 0) (h : p < 2 ^ 31) (K : post (nI ((p - 1) / 4))) : wpX_parentOf post () (nI p) := by
  unfold wpX_parentOf
  rw [ot_pr hp h]
  exact ⟨by decide, K⟩
theorem ot_wun4 {post : Int32 → Prop} {o : Nat} (ho : o < 85) : ∀ k p, p ≤ ot_B k → k ≤ 3 → p < 85 → (ot_un p o = true → post 1) → (¬ ot_un p o = true → post 0) → wX_isUnder_4 post (nI o) (k + 1) (nI p) (nI (3 - k)) := by
  intro k
  induction k with
  | zero =>
    intro p hp _ _ K1 K0
    have e : p = 0 := Nat.le_zero.mp hp
    subst e
    exact pk_le 3 3 (fun _ => K0 (by rw [ot_un0]; decide)) (fun z => absurd z (by omega))
  | succ k ih =>
    intro p hp hk h85 K1 K0
    have hB : p ≤ 4 * ot_B k + 4 := hp
    refine pk_le 3 (3 - (k + 1)) (fun z => absurd z (by omega)) (fun _ => pk_le p 0 (fun z => K0 ?_) (fun z => ?_))
    · rw [show p = 0 by omega, ot_un0]; decide
    · have h0 : p ≠ 0 := by omega
      refine ot_wpar h0 (by omega) ?_
      refine pk_eq ((p - 1) / 4) o (fun e => K1 ((ot_unS h0).mpr (Or.inl e))) (fun e => ?_)
      refine nm_r (show nI (3 - (k + 1)) + 1 = nI (3 - k) by rw [nI_1, show 3 - (k + 1) + 1 = 3 - k by omega]) ?_
      exact ih _ (by omega) (by omega) (by omega) (fun u => K1 ((ot_unS h0).mpr (Or.inr u))) (fun u => K0 (fun w => ((ot_unS h0).mp w).elim e u))
theorem ot_wun {post : Int32 → Prop} {p o : Nat} (hp : p < 85) (ho : o < 85) (K1 : ot_un p o = true → post 1) (K0 : ¬ ot_un p o = true → post 0) : wpX_isUnder post () (nI p) (nI o) :=
  ⟨4, ot_wun4 ho 3 p (by show p ≤ 84; omega) (by omega) hp K1 K0⟩
theorem ot_wclr {post : St1 → Prop} {m fl fo : Int32} {H C W PS PV : Nat → Int32} {l p : Nat} (hl : l < 5) (hp : p < 85)
    (K : ∀ H' : Nat → Int32, (∀ q, ot_un q p = true → q < 85 → H' (85 * l + q) = 0) → (∀ j, (∀ q, ot_un q p = true → q < 85 → j ≠ 85 * l + q) → H' j = H j) → post (m, fl, fo, H', C, W, PS, PV)) :
    wpX_clearUnder post (m, fl, fo, H, C, W, PS, PV) (nI l) (nI p) := by
  unfold wpX_clearUnder
  refine nm_r (nI_1 p) ?_
  refine pk_loop (fun n i s => wX_clearUnder_4 post (nI l) (nI p) m fl fo n (nI i) s C W PS PV)
    (fun i s => (∀ q, ot_un q p = true → q < i → s (85 * l + q) = 0) ∧ (∀ j, (∀ q, ot_un q p = true → q < i → j ≠ 85 * l + q) → s j = H j)) 85 (p + 1) H (by omega)
    ⟨fun q u hq => absurd (ot_un_lt q u) (by omega), fun j _ => rfl⟩ (fun n s h => ?_) (fun n i s hi h hw => ?_)
  · exact pk_le 85 85 (fun _ => K s h.1 h.2) (fun z => absurd z (by omega))
  · refine pk_le 85 i (fun z => absurd z (by omega)) (fun _ => ?_)
    refine ot_wun hi hp (fun u => ?_) (fun u => ?_)
    · refine br_f (by decide) ⟨pk_in (85 * l + i) 425 (by omega) (ot_ix l i), ?_⟩
      rw [ot_ix, nI_clamp (by omega)]
      refine nm_e (nm_r (nI_1 i) (hw _ ⟨fun q uq hq => ?_, fun j hj => ?_⟩))
      · by_cases e : q = i
        · rw [e, pk_us]
        · rw [pk_un (by omega)]
          exact h.1 q uq (by omega)
      · rw [pk_un (hj i u (by omega))]
        exact h.2 j (fun q uq hq => hj q uq (by omega))
    · refine br_t rfl (nm_r (nI_1 i) (hw _ ⟨fun q uq hq => ?_, fun j hj => h.2 j (fun q uq hq => hj q uq (by omega))⟩))
      have e : q ≠ i := fun z => by
        rw [z] at uq
        exact u uq
      exact h.1 q uq (by omega)
theorem ot_ws7 {post : St1 → Prop} {m : Int32} {H C W PS PV : Nat → Int32} {F p : Nat} (hp : p < 85) (hF : F < 2 ^ 31) : ∀ n, n ≤ 5 → post (m, ot_fc (ot_tp (ot_col H p) F n), nI F, H, C, W, PS, PV) →
    wX_settle_7 post (nI p) m (nI F) H C W PS PV (n + 2) (nI n + (-1)) (-1) := by
  intro n
  induction n with
  | zero => intro _ K; exact br_t (ot_m1lt0 hF) (br_t (by decide) K)
  | succ n ih =>
    intro hn K
    rw [pk_m1]
    simp only [ot_tp] at K
    refine pk_lt n F (fun z => br_t (by decide) ?_) (fun z => br_f (by decide) ⟨pk_in (85 * n + p) 425 (by omega) (ot_ix n p), ?_⟩)
    · rw [if_pos z] at K; exact K
    · rw [if_neg (show ¬ n < F by omega)] at K
      rw [ot_ix, nI_clamp (by omega)]
      by_cases h0 : H (85 * n + p) = 0
      · rw [if_pos (show ot_col H p n = 0 from h0)] at K
        exact br_t h0 (nm_e (ih (by omega) K))
      · rw [if_neg (show ¬ ot_col H p n = 0 from h0)] at K
        have T : wX_settle_51 post (nI p) m (nI n) (nI F) H C W PS PV := by
          unfold wX_settle_51
          rw [ot_ix, nI_clamp (by omega)]
          refine br_f (nI_pos (by omega)) ⟨vp_in_nI (by omega) (by omega), ?_⟩
          by_cases h4 : H (85 * n + p) = 4
          · rw [if_pos (show ot_col H p n = 4 from h4)] at K
            exact br_t h4 K
          · rw [if_neg (show ¬ ot_col H p n = 4 from h4)] at K
            exact br_f h4 K
        exact br_f h0 (nm_e (br_c (fun _ => T) (fun _ => br_t (nI_pos' (by omega)) T)))
theorem ot_wset {post : St1 → Prop} {m fl : Int32} {H C W PS PV : Nat → Int32} {F p : Nat} (hp : p < 85) (hF : F < 2 ^ 31) (Kn : ot_tp (ot_col H p) F 5 = none → post (m, -1, nI F, H, C, W, PS, PV))
    (Ks : ∀ l, ot_tp (ot_col H p) F 5 = some l → post (m, nI l, nI F, H, C, W, PS, PV)) : wpX_settle post (m, fl, nI F, H, C, W, PS, PV) (nI p) := by
  refine ⟨7, ot_ws7 hp hF 5 (by omega) ?_⟩
  cases ht : ot_tp (ot_col H p) F 5 with
  | none => exact Kn ht
  | some l => exact Ks l ht
theorem ot_wr2 {post : St1 → Prop} {m fl : Int32} {H C W PS PV : Nat → Int32} {F p : Nat} (hp : p < 85) (hF : F < 2 ^ 31) : ∀ n, n ≤ 5 → post (m, fl, nI (ot_rf (ot_col H p) F n), H, C, W, PS, PV) →
    wX_raiseFloor_2 post (nI p) m fl H C W PS PV (n + 2) (nI n + (-1)) (nI F) := by
  intro n
  induction n with
  | zero => intro _ K; exact br_t (ot_m1lt0 hF) K
  | succ n ih =>
    intro hn K
    rw [pk_m1]
    simp only [ot_rf] at K
    refine pk_lt n F (fun z => ?_) (fun z => ⟨pk_in (85 * n + p) 425 (by omega) (ot_ix n p), ?_⟩)
    · rw [if_pos z] at K; exact K
    · rw [if_neg (show ¬ n < F by omega)] at K
      rw [ot_ix, nI_clamp (by omega)]
      refine nm_e ?_
      by_cases h3 : H (85 * n + p) = 3
      · rw [if_pos (show ot_col H p n = 3 from h3)] at K
        exact br_t h3 (nm_e (br_t (ot_dlt (Nat.le_refl n) (by omega)) K))
      · rw [if_neg (show ¬ ot_col H p n = 3 from h3)] at K
        refine br_f h3 ?_
        by_cases h1 : H (85 * n + p) = 1
        · rw [if_pos (show ot_col H p n = 1 ∨ ot_col H p n = 4 from Or.inl h1)] at K
          exact br_t h1 (nm_r (nI_1 n) (nm_e (br_t (ot_dlt (by omega) (by omega)) K)))
        · refine br_f h1 ?_
          by_cases h4 : H (85 * n + p) = 4
          · rw [if_pos (show ot_col H p n = 1 ∨ ot_col H p n = 4 from Or.inr h4)] at K
            exact br_t h4 (nm_r (nI_1 n) (nm_e (br_t (ot_dlt (by omega) (by omega)) K)))
          · rw [if_neg (show ¬ (ot_col H p n = 1 ∨ ot_col H p n = 4) from fun w => w.elim h1 h4)] at K
            exact br_f h4 (nm_e (ih (by omega) K))
theorem ot_wrf {post : St1 → Prop} {m fl : Int32} {H C W PS PV : Nat → Int32} {F p : Nat} (hp : p < 85) (hF : F < 2 ^ 31) (K : post (m, fl, nI (ot_rf (ot_col H p) F 5), H, C, W, PS, PV)) :
    wpX_raiseFloor post (m, fl, nI F, H, C, W, PS, PV) (nI p) :=
  ⟨7, ot_wr2 hp hF 5 (by omega) K⟩
def ot_an (p : Nat) : Nat → Nat
  | 0 => p
  | k + 1 => (ot_an p k - 1) / 4
theorem ot_an_le (p k : Nat) : ot_an p k ≤ p := by
  induction k with
  | zero => exact Nat.le_refl p
  | succ k ih =>
    show (ot_an p k - 1) / 4 ≤ p
    omega
theorem ot_anL {H : Nat → Int32} {p : Nat} : ∀ k, (∀ i, i ≤ k → ot_an p i ≠ 0) → ot_D H (ot_an p (k + 1)) = none → ot_L H p = none := by
  intro k
  induction k with
  | zero => intro h hD; exact ot_Ln (h 0 (by omega)) hD
  | succ k ih => intro h hD; exact ih (fun i hi => h i (by omega)) (ot_Dn (h (k + 1) (by omega)) hD)
theorem ot_w46 {post : St1 → Prop} {m : Int32} {H C W PS PV : Nat → Int32} {p d : Nat} (hp : p < 85) (hd : d ≤ 3) (hW : ∀ i, i < d → W i = nI (ot_an p i) ∧ ot_an p i ≠ 0)
    (Kn : ot_L H p = none → ∀ fo, post (m, -1, fo, H, C, W, PS, PV)) (Ks : ∀ l, ot_L H p = some l → ∀ fo, post (m, nI l, fo, H, C, W, PS, PV)) : ∀ k, k < d → ∀ fl fo, ((ot_D H (ot_an p (k + 1)) = none ∧ fl = -1) ∨ (∃ F, ot_D H (ot_an p (k + 1)) = some F ∧ ¬ fl < 0 ∧ fo = nI F)) →
    wX_look_46 post (k + 2) (nI k) m fl fo H C W PS PV := by
  intro k
  induction k with
  | zero =>
    intro hk fl fo hc
    refine br_f (nI_pos (by omega)) ?_
    rcases hc with ⟨hD, rfl⟩ | ⟨F, hD, hfl, rfl⟩
    · exact br_t (by decide) (Kn (ot_anL 0 (fun i hi => (hW i (by omega)).2) hD) fo)
    · have hF := ot_DF hD
      have hL : ot_L H p = ot_tp (ot_col H p) F 5 := ot_Ls (hW 0 hk).2 hD
      have hw : W 0 = nI p := (hW 0 hk).1
      refine br_f hfl ⟨vp_in_nI (by omega) (by omega), ?_⟩
      rw [nI_clamp (show 0 < 2 ^ 31 by omega), hw]
      refine ot_wset hp (by omega) (fun ht => ?_) (fun l ht => ?_)
      · exact br_t (by decide) (nm_e (br_t (by decide) (Kn (hL.trans ht) _)))
      · have hl := (ot_tpI 5 ht).2.1
        exact br_f (nI_pos (by omega)) (br_t (by decide) (nm_e (br_t (by decide) (Ks l (hL.trans ht) _))))
  | succ k ih =>
    intro hk fl fo hc
    refine br_f (nI_pos (by omega)) ?_
    rcases hc with ⟨hD, rfl⟩ | ⟨F, hD, hfl, rfl⟩
    · exact br_t (by decide) (Kn (ot_anL (k + 1) (fun i hi => (hW i (by omega)).2) hD) fo)
    · have hF := ot_DF hD
      have hq : ot_an p (k + 1) < 85 := Nat.lt_of_le_of_lt (ot_an_le p (k + 1)) hp
      have h0 := (hW (k + 1) hk).2
      have hw := (hW (k + 1) hk).1
      have hD' : ot_D H ((ot_an p (k + 1) - 1) / 4) = some F := hD
      have ihk := ih (by omega)
      generalize hqq : ot_an p (k + 1) = q at hq h0 hw hD' ihk
      have cl : (nI (k + 1)).toNatClampNeg = k + 1 := nI_clamp (by omega)
      refine br_f hfl ⟨vp_in_nI (by omega) (by omega), ?_⟩
      rw [cl, hw]
      refine ot_wset hq (by omega) (fun ht => ?_) (fun l ht => ?_)
      · exact br_t (by decide) (nm_r (pk_m1 k) (ihk _ _ (Or.inl ⟨ot_Dsn h0 hD' ht, rfl⟩)))
      · have hl := (ot_tpI 5 ht).2.1
        refine br_f (nI_pos (by omega)) (pk_le (k + 1) 0 (fun z => absurd z (by omega)) (fun _ => ⟨vp_in_nI (by omega) (by omega), ?_⟩))
        rw [hw, ot_ix, nI_clamp (by omega)]
        refine ⟨vp_in_nI (by omega) (by omega), ?_⟩
        by_cases h1 : H (85 * l + q) = 1
        · refine br_t h1 ⟨vp_in_nI (by omega) (by omega), ?_⟩
          rw [cl, hw]
          refine ot_wrf hq (by omega) ?_
          exact nm_r (pk_m1 k) (ihk _ _ (Or.inl ⟨ot_Dsf h0 hD' ht h1, rfl⟩))
        · refine br_f h1 ⟨vp_in_nI (by omega) (by omega), ?_⟩
          rw [cl, hw]
          refine ot_wrf hq (by omega) ?_
          exact nm_r (pk_m1 k) (ihk _ _ (Or.inr ⟨_, ot_Dss h0 hD' ht h1, nI_pos (by omega), rfl⟩))
theorem ot_w32 {post : St1 → Prop} {m fl fo : Int32} {H C W PS PV : Nat → Int32} {p d : Nat} (hp : p < 85) (hd : d ≤ 3) (h0 : ot_an p d = 0) (hW : ∀ i, i < d → W i = nI (ot_an p i) ∧ ot_an p i ≠ 0)
    (Kn : ot_L H p = none → ∀ fo, post (m, -1, fo, H, C, W, PS, PV)) (Ks : ∀ l, ot_L H p = some l → ∀ fo, post (m, nI l, fo, H, C, W, PS, PV)) : wX_look_32 post (nI d) m fl fo H C W PS PV := by
  unfold wX_look_32
  cases d with
  | zero =>
    have e : p = 0 := h0
    subst e
    exact nm_e ⟨1, br_t (by decide) (Ks 4 (ot_L0 H) 0)⟩
  | succ d =>
    refine nm_r (nI_pred d) ⟨d + 2, ot_w46 hp hd hW Kn Ks d (by omega) _ _ (Or.inr ⟨0, ?_, by decide, rfl⟩)⟩
    rw [h0]; exact ot_D0 H
theorem ot_w4 {post : St1 → Prop} {m fl fo : Int32} {H C PS PV : Nat → Int32} {p : Nat} (hp : p < 85) (Kn : ot_L H p = none → ∀ fo W, post (m, -1, fo, H, C, W, PS, PV)) (Ks : ∀ l, ot_L H p = some l → ∀ fo W, post (m, nI l, fo, H, C, W, PS, PV)) :
    ∀ k d W, ot_an p d ≤ ot_B k → d + k = 3 → (∀ i, i < d → W i = nI (ot_an p i) ∧ ot_an p i ≠ 0) → wX_look_4 post m fl fo (k + 1) (nI d) (nI (ot_an p d)) H C W PS PV := by
  intro k
  induction k with
  | zero =>
    intro d W hB hd hW
    have h0 : ot_an p d = 0 := Nat.le_zero.mp hB
    rw [h0]
    exact pk_le 0 0 (fun _ => ot_w32 hp (by omega) h0 hW (fun h fo => Kn h fo W) (fun l h fo => Ks l h fo W)) (fun z => absurd z (by omega))
  | succ k ih =>
    intro d W hB hd hW
    have hB' : ot_an p d ≤ 4 * ot_B k + 4 := hB
    have h85 : ot_an p d < 85 := Nat.lt_of_le_of_lt (ot_an_le p d) hp
    refine pk_le (ot_an p d) 0 (fun z => ot_w32 hp (by omega) (by omega) hW (fun h fo => Kn h fo W) (fun l h fo => Ks l h fo W)) (fun z => pk_le 4 d (fun w => absurd w (by omega)) (fun _ => ⟨vp_in_nI (by omega) (by omega), ?_⟩))
    refine nm_e (nm_r (nI_1 d) ⟨by decide, nm_r (ot_pr (by omega) (by omega)) ?_⟩)
    rw [nI_clamp (show d < 2 ^ 31 by omega)]
    refine ih (d + 1) _ (by show (ot_an p d - 1) / 4 ≤ ot_B k; omega) (by omega) (fun i hi => ?_)
    by_cases e : i = d
    · rw [e, pk_us]; exact ⟨rfl, by omega⟩
    · rw [pk_un e]; exact hW i (by omega)
theorem ot_wlook {post : St1 → Prop} {m fl fo : Int32} {H C W PS PV : Nat → Int32} {p : Nat} (hp : p < 85) (Kn : ot_L H p = none → ∀ fo W, post (m, -1, fo, H, C, W, PS, PV)) (Ks : ∀ l, ot_L H p = some l → ∀ fo W, post (m, nI l, fo, H, C, W, PS, PV)) :
    wpX_look post (m, fl, fo, H, C, W, PS, PV) (nI p) :=
  ⟨4, ot_w4 hp Kn Ks 3 0 W (by show p ≤ 84; omega) rfl (fun i hi => absurd hi (by omega))⟩
/-- sort, with the layer that was found -/
theorem ot_wsortL {post : Int32 → St1 → Prop} {fl fo : Int32} {H C W PS PV : Nat → Int32} {p : Nat} (hp : p < 85) (Kn : ot_L H p = none → ∀ fo W, post 0 (1, -1, fo, H, C, W, PS, PV))
    (Ks : ∀ l, l < 5 → ot_L H p = some l → ∀ fo W, post (nI (ot_S H p)) (1, nI l, fo, H, C, W, PS, PV)) : wpX_sort post (1, fl, fo, H, C, W, PS, PV) (nI p) := by
  unfold wpX_sort
  refine br_f (nI_pos (by omega)) (pk_le p 84 (fun _ => br_f (by decide) (ot_wlook hp (fun hL fo W => ?_) (fun l hL fo W => ?_))) (fun z => absurd z (by omega)))
  · exact br_f (by decide) (Kn hL fo W)
  · have hl := ot_Ll hL
    have K' := Ks l hl hL fo W
    refine br_t (nI_pos' (by omega)) ⟨pk_in (85 * l + p) 425 (by omega) (ot_ix l p), ?_⟩
    rw [ot_ix, nI_clamp (by omega)]
    by_cases h1 : H (85 * l + p) = 1
    · rw [ot_S1 hL h1] at K'
      exact br_t h1 K'
    · rw [ot_S2 hL h1] at K'
      exact br_f h1 K'
theorem ot_wsort {post : Int32 → St1 → Prop} {fl fo : Int32} {H C W PS PV : Nat → Int32} {p : Nat} (hp : p < 85) (K : ∀ fl fo W, post (nI (ot_S H p)) (1, fl, fo, H, C, W, PS, PV)) :
    wpX_sort post (1, fl, fo, H, C, W, PS, PV) (nI p) :=
  ot_wsortL hp (fun hL fo W => by
    have K' := K (-1) fo W
    rw [ot_Sn hL] at K'
    exact K') (fun l _ _ fo W => K _ fo W)
theorem ot_wsort0 {post : Int32 → St1 → Prop} {fl fo : Int32} {H C W PS PV : Nat → Int32} {p : Nat} (hp : p < 85) (K : post 0 (0, fl, fo, H, C, W, PS, PV)) :
    wpX_sort post (0, fl, fo, H, C, W, PS, PV) (nI p) := by
  unfold wpX_sort
  exact br_f (nI_pos (by omega)) (pk_le p 84 (fun _ => br_t rfl K) (fun z => absurd z (by omega)))
end
section
/-! walks: value, total, entries, the law's state and summed -/
theorem ot_wval {post : Int32 → St1 → Prop} {fl fo : Int32} {H C W PS PV : Nat → Int32} {p : Nat} (hp : p < 85) (K : ∀ fl fo W, post (ot_V H C p) (1, fl, fo, H, C, W, PS, PV)) :
    wpX_value post (1, fl, fo, H, C, W, PS, PV) (nI p) := by
  unfold wpX_value
  refine ot_wsortL hp (fun hL fo W => ?_) (fun l hl hL fo W => ?_)
  · have K' := K (-1) fo W
    rw [ot_Vn hL] at K'
    exact br_f (by decide) K'
  · by_cases h1 : H (85 * l + p) = 1
    · rw [ot_S1 hL h1]
      refine br_t rfl ⟨pk_in (85 * l + p) 425 (by omega) (ot_ix l p), ?_⟩
      rw [ot_ix, nI_clamp (by omega), ← ot_V1 (C := C) hL h1]
      exact K _ _ _
    · rw [ot_S2 hL h1]
      have K' := K (nI l) fo W
      rw [ot_V2 hL h1] at K'
      exact br_f (by decide) K'
theorem ot_tot1 (S : Nat → Nat) (i : Nat) : ot_tot S (i + 1) = ot_tot S i + ot_one1 S i := rfl
theorem ot_wtotG {post : Int32 → St1 → Prop} {m fl fo : Int32} {H C W PS PV : Nat → Int32} {S : Nat → Nat}
    (hs : ∀ (post : Int32 → St1 → Prop) (fl fo : Int32) (W : Nat → Int32) (p : Nat), p < 85 → (∀ fl fo W, post (nI (S p)) (m, fl, fo, H, C, W, PS, PV)) → wpX_sort post (m, fl, fo, H, C, W, PS, PV) (nI p)) (hS : ∀ q, S q ≤ 2)
    (K : ∀ fl fo W, post (nI (ot_tot S 85)) (m, fl, fo, H, C, W, PS, PV)) : wpX_total post (m, fl, fo, H, C, W, PS, PV) := by
  unfold wpX_total
  refine pk_loop (σ := Int32 × Int32 × (Nat → Int32)) (fun n i s => wX_total_4 post n (nI (ot_tot S i)) (nI i) m s.1 s.2.1 H C s.2.2 PS PV) (fun i _ => 1 ≤ i) 85 1 (fl, fo, W) (by omega) (Nat.le_refl 1) (fun n s h => ?_) (fun n i s hi h hw => ?_)
  · exact pk_le 85 85 (fun _ => K _ _ _) (fun z => absurd z (by omega))
  · refine pk_le 85 i (fun z => absurd z (by omega)) (fun _ => hs _ _ _ _ i hi (fun fl fo W => ?_))
    have b := hS i
    refine pk_le (S i) 0 (fun z => nm_r (e' := nI (ot_tot S (i + 1))) ?_ (nm_r (nI_1 i) (hw (fl, fo, W) (by omega)))) (fun z => nm_r (e' := nI (ot_tot S (i + 1))) ?_ (nm_r (nI_1 i) (hw (fl, fo, W) (by omega))))
    · rw [ot_tot1]
      unfold ot_one1
      rw [if_pos (Or.inr (by omega))]
      exact nI_add _ 0
    · rw [ot_tot1]
      unfold ot_one1
      rw [if_neg (by omega)]
      exact nI_1 _
theorem ot_S2le (H : Nat → Int32) (q : Nat) : ot_S H q ≤ 2 := by
  rcases ot_S3 H q with z | z | z <;> omega
theorem ot_wtot {post : Int32 → St1 → Prop} {fl fo : Int32} {H C W PS PV : Nat → Int32} (K : ∀ fl fo W, post (nI (ot_tot (ot_S H) 85)) (1, fl, fo, H, C, W, PS, PV)) : wpX_total post (1, fl, fo, H, C, W, PS, PV) :=
  ot_wtotG (fun post fl fo W p hp K => ot_wsort hp K) (ot_S2le H) K
theorem ot_tot0 (n : Nat) : ot_tot (fun _ => 0) n = 0 := by
  induction n with
  | zero => rfl
  | succ n ih =>
    rw [ot_tot1, ih]
    unfold ot_one1
    rw [if_pos (Or.inr rfl)]
theorem ot_wtot0 {post : Int32 → St1 → Prop} {fl fo : Int32} {H C W PS PV : Nat → Int32} (K : ∀ fl fo W, post 0 (0, fl, fo, H, C, W, PS, PV)) : wpX_total post (0, fl, fo, H, C, W, PS, PV) :=
  ot_wtotG (S := fun _ => 0) (fun post fl fo W p hp K => ot_wsort0 hp (K _ _ _)) (fun _ => by omega) (fun fl fo W => by
    rw [ot_tot0]
    exact K fl fo W)
theorem ot_m4 (p : Nat) : (4 : Int32) * nI p + 4 = nI (4 * p + 4) := by
  rw [show (4 : Int32) = nI 4 from rfl, pk_mul, nI_add]
theorem ot_m41 (p : Nat) : (4 : Int32) * nI p + 1 = nI (4 * p + 1) := by
  rw [show (4 : Int32) = nI 4 from rfl, pk_mul, nI_1]
theorem ot_en1 (S : Nat → Nat) (p i : Nat) : ot_en S p (i + 1) = ot_en S p i + ot_in S (4 * p + 1 + i) := rfl
theorem ot_went {post : Int32 → St1 → Prop} {fl fo : Int32} {H C W PS PV : Nat → Int32} {p : Nat} (hp : p < 85) (K : ∀ fl fo W, post (ot_ei (ot_S H) p) (1, fl, fo, H, C, W, PS, PV)) :
    wpX_entries post (1, fl, fo, H, C, W, PS, PV) (nI p) := by
  unfold wpX_entries
  refine ot_wsort hp (fun fl fo W => ?_)
  by_cases h2 : ot_S H p = 2
  · rw [h2]
    unfold ot_ei at K
    rw [if_pos h2] at K
    refine br_t rfl (nm_r (ot_m41 p) ?_)
    refine pk_loop (σ := Int32 × Int32 × (Nat → Int32)) (fun n i s => wX_entries_19 post (nI p) n (nI (ot_en (ot_S H) p i)) (nI (4 * p + 1 + i)) 1 s.1 s.2.1 H C s.2.2 PS PV) (fun _ _ => True) 4 0 (fl, fo, W) (by omega) trivial (fun n s h => ?_) (fun n i s hi h hw => ?_)
    · exact pk_lt (4 * p + 4) (4 * p + 1 + 4) (fun _ => K _ _ _) (fun z => absurd z (by omega)) (ot_m4 p)
    · refine pk_lt (4 * p + 4) (4 * p + 1 + i) (fun z => absurd z (by omega)) (fun _ => pk_le 85 (4 * p + 1 + i) (fun z => ?_) (fun z => ot_wsort z (fun fl fo W => ?_))) (ot_m4 p)
      · rw [ot_enZ (by omega) z]
        exact K _ _ _
      · have b := ot_S2le H (4 * p + 1 + i)
        refine pk_le (ot_S H (4 * p + 1 + i)) 0 (fun z0 => nm_r (e' := nI (ot_en (ot_S H) p (i + 1))) ?_ (nm_r (nI_1 _) (hw (fl, fo, W) trivial))) (fun z0 => nm_r (e' := nI (ot_en (ot_S H) p (i + 1))) ?_ (nm_r (nI_1 _) (hw (fl, fo, W) trivial)))
        · rw [ot_en1, ot_in0 (Or.inr (by omega))]
          exact nI_add _ 0
        · rw [ot_en1, ot_in1 z (by omega)]
          exact nI_1 _
  · unfold ot_ei at K
    rw [if_neg h2] at K
    have b := ot_S2le H p
    exact pk_eq (ot_S H p) 2 (fun z => absurd z h2) (fun _ => K _ _ _)
theorem ot_wstate {post : Int32 → St1 → Prop} {fl fo : Int32} {H C W PS PV : Nat → Int32} (K : ∀ fl fo W, post (ot_st5 (ot_S H) (ot_V H C) 85) (1, fl, fo, H, C, W, PS, PV)) :
    wpL_state post (1, fl, fo, H, C, W, PS, PV) := by
  unfold wpL_state
  refine ot_wtot (fun fl fo W => ?_)
  refine pk_loop (σ := Int32 × Int32 × (Nat → Int32)) (fun n i s => wL_state_7 post n (ot_st5 (ot_S H) (ot_V H C) i) (nI i) 1 s.1 s.2.1 H C s.2.2 PS PV) (fun _ _ => True) 85 0 (fl, fo, W) (by omega) trivial (fun n s h => ?_) (fun n i s hi h hw => ?_)
  · exact pk_le 85 85 (fun _ => K _ _ _) (fun z => absurd z (by omega))
  · refine pk_le 85 i (fun z => absurd z (by omega)) (fun _ => ot_wsort hi (fun fl fo W => ot_wval hi (fun fl fo W => ot_went hi (fun fl fo W => ?_))))
    exact nm_e (nm_r (nI_1 i) (hw (fl, fo, W) trivial))
theorem ot_e21 (S : Nat → Nat) (i : Nat) : ot_sm (ot_e2 S) (i + 1) = ot_sm (ot_e2 S) i + ot_e2 S i := rfl
theorem ot_ws66 {post : Int32 → St1 → Prop} {J : Int32 → Int32 → Int32 → Int32 → Int32 → Int32 → (Nat → Int32) → (Nat → Int32) → (Nat → Int32) → (Nat → Int32) → (Nat → Int32) → Prop} {S : Nat → Nat} {i e : Nat} {m fl fo : Int32} {H C W PS PV : Nat → Int32} (hi : i < 85) (hS : S i ≤ 2)
    (he : ot_e2 S i = e) (K : J (nI (ot_sm (ot_e2 S) (i + 1))) (nI (ot_tot S (i + 1))) (nI (i + 1)) m fl fo H C W PS PV) :
    wL_summed_66 post J (nI (ot_tot S i)) (nI i) (nI (S i)) (nI e) (nI (ot_sm (ot_e2 S) i)) m fl fo H C W PS PV := by
  unfold wL_summed_66
  refine nm_r (show nI (ot_sm (ot_e2 S) i) + nI e = nI (ot_sm (ot_e2 S) (i + 1)) by rw [ot_e21, he, nI_add]) ?_
  have e0 : i = 0 ∨ S i = 0 → nI (ot_tot S i) + 0 = nI (ot_tot S (i + 1)) := fun h => by
    rw [ot_tot1]
    unfold ot_one1
    rw [if_pos h]
    exact nI_add _ 0
  refine pk_eq (S i) 0 (fun z => nm_r (e0 (Or.inr z)) (nm_r (nI_1 i) K)) (fun z => pk_le i 0 (fun z1 => nm_r (e0 (Or.inl (by omega))) (nm_r (nI_1 i) K)) (fun z1 => nm_r (e' := nI (ot_tot S (i + 1))) ?_ (nm_r (nI_1 i) K)))
  rw [ot_tot1]
  unfold ot_one1
  rw [if_neg (by omega)]
  exact nI_1 _
theorem ot_wsummed {post : Int32 → St1 → Prop} {fl fo : Int32} {H C W PS PV : Nat → Int32} (hr : H 340 = 2) (K : ∀ fl fo W, post 1 (1, fl, fo, H, C, W, PS, PV)) :
    wpL_summed post (1, fl, fo, H, C, W, PS, PV) := by
  unfold wpL_summed
  refine pk_loop (σ := Int32 × Int32 × (Nat → Int32)) (fun n i s => wL_summed_6 post n (nI (ot_sm (ot_e2 (ot_S H)) i)) (nI (ot_tot (ot_S H) i)) (nI i) 1 s.1 s.2.1 H C s.2.2 PS PV) (fun _ _ => True) 85 0 (fl, fo, W) (by omega) trivial (fun n s h => ?_) (fun n i s hi h hw => ?_)
  · refine pk_le 85 85 (fun _ => ot_wtot (fun fl fo W => ?_)) (fun z => absurd z (by omega))
    rw [ot_sum (S := ot_S H) (fun q _ h0 hs => ot_par2 hr h0 hs)]
    exact br_t rfl (br_t rfl (K _ _ _))
  · refine pk_le 85 i (fun z => absurd z (by omega)) (fun _ => ot_wsort hi (fun fl fo W => ot_went hi (fun fl fo W => ?_)))
    have b := ot_S2le H i
    have J := hw (fl, fo, W) trivial
    by_cases h2 : ot_S H i = 2
    · have hb := ot_enB (ot_S H) i
      have e1 : ot_ei (ot_S H) i = nI (ot_en (ot_S H) i 4) := by
        unfold ot_ei
        rw [if_pos h2]
      have e2 : ot_e2 (ot_S H) i = ot_en (ot_S H) i 4 := by
        unfold ot_e2
        rw [if_pos h2]
      rw [e1]
      refine pk_eq (ot_S H i) 2 (fun _ => br_f (nI_pos (by omega)) (pk_le (ot_en (ot_S H) i 4) 4 (fun _ => ?_) (fun z => absurd z (by omega)))) (fun z => absurd h2 z)
      unfold wL_summed_54
      refine pk_le (ot_en (ot_S H) i 4) 0 (fun z => ?_) (fun z => ?_)
      · exact ot_ws66 (e := 0) hi b (by omega) J
      · exact ot_ws66 hi b e2 J
    · have e1 : ot_ei (ot_S H) i = -1 := by
        unfold ot_ei
        rw [if_neg h2]
      have e2 : ot_e2 (ot_S H) i = 0 := by
        unfold ot_e2
        rw [if_neg h2]
      rw [e1]
      refine pk_eq (ot_S H i) 2 (fun z => absurd z h2) (fun _ => br_t rfl ?_)
      unfold wL_summed_54
      exact br_t (by decide) (ot_ws66 (e := 0) hi b e2 J)
end
section
/-! walks that change: put, copyUpTo, isRoom, takeAway, press -/
theorem ot_wput {post : St1 → Prop} {m fl fo x v : Int32} {H C W PS PV : Nat → Int32} {p : Nat} (hp : p < 85) (K : post (m, fl, fo, upd H (340 + p) x, upd C (340 + p) v, W, PS, PV)) :
    wpX_put post (m, fl, fo, H, C, W, PS, PV) (nI p) x v := by
  unfold wpX_put
  rw [ot_i4, nI_clamp (by omega)]
  exact ⟨vp_in_nI (by omega) (by omega), nm_e ⟨vp_in_nI (by omega) (by omega), nm_e K⟩⟩
/-- on the way of copyUpTo -/
def ot_CU (H H' : Nat → Int32) (t p : Nat) : Prop := (∀ q, q < 85 → ot_D H' q = ot_D H q ∧ ot_S H' q = ot_S H q ∧ ∀ C, ot_V H' C q = ot_V H C q) ∧ H' 340 = 2 ∧ (∀ j, j < 340 → H' j = H j) ∧
  (∀ q, q < 85 → H' (340 + q) = H (340 + q) ∨ H' (340 + q) = 2) ∧ (∀ q, t < q → q < 85 → H' (340 + q) = H (340 + q)) ∧ (∀ q, q ≠ 0 → q < 85 → ¬ H' (340 + q) = 0 → ot_isd (H' (340 + (q - 1) / 4)) ∨ (q - 1) / 4 = p) ∧
  (p = t ∨ ot_isd (H' (340 + t))) ∧ p ≤ t ∧ ot_S H p = 2
theorem ot_isdS {H : Nat → Int32} {p : Nat} (hr : H 340 = 2) (hp : p ≠ 0) (hS : ot_S H p = 2) (hz : ¬ H (340 + p) = 0) : ot_isd (H (340 + p)) := by
  obtain ⟨F, hF, _⟩ := ot_2D (ot_par2 hr hp (by rw [hS]; decide))
  refine ⟨hz, fun h1 => ?_, fun h4 => ?_⟩
  · rw [ot_S1 (ot_st1 hp hF h1).1 h1] at hS; omega
  · rw [ot_Sn (ot_st4 hp hF h4).1] at hS; omega
theorem ot_cu0 {H : Nat → Int32} {t : Nat} (i : ot_I H) (hS : ot_S H t = 2) : ot_CU H H t t :=
  ⟨fun q _ => ⟨rfl, rfl, fun _ => rfl⟩, i.1, fun j _ => rfl, fun q _ => Or.inl rfl, fun q _ _ => rfl, fun q h0 hq hz => Or.inl (i.2.2.2.1 q h0 hq hz), Or.inl rfl, Nat.le_refl t, hS⟩
theorem ot_cuS {H H' : Nat → Int32} {t p : Nat} (hr : H 340 = 2) (ht : t < 85) (hp : p ≠ 0) (c : ot_CU H H' t p) :
    (H' (340 + p) = 0 → ot_CU H (upd H' (340 + p) 2) t ((p - 1) / 4)) ∧ (¬ H' (340 + p) = 0 → ot_CU H H' t ((p - 1) / 4)) := by
  obtain ⟨c1, c2, c3, c4, c5, c6, c7, c8, c9⟩ := c
  have hS' : ot_S H' p = 2 := (c1 p (by omega)).2.1.trans c9
  have hpar : ot_S H ((p - 1) / 4) = 2 := ot_par2 hr hp (by rw [c9]; decide)
  constructor
  · intro hz
    have us : upd H' (340 + p) 2 (340 + p) = 2 := pk_us
    have un : ∀ j, j ≠ 340 + p → upd H' (340 + p) 2 j = H' j := fun j hj => pk_un hj
    have u := ot_up c2 hp (by omega) hS' hz us un
    refine ⟨fun q hq => ?_, (un 340 (by omega)).trans c2, fun j hj => (un j (by omega)).trans (c3 j hj), fun q hq => ?_, fun q h1 hq => (un _ (by omega)).trans (c5 q h1 hq), fun q h0 hq h => ?_, Or.inr ?_, by omega, hpar⟩
    · obtain ⟨a, b, d⟩ := u q hq
      obtain ⟨a', b', d'⟩ := c1 q hq
      exact ⟨a.trans a', b.trans b', fun C => (d C).trans (d' C)⟩
    · by_cases e : q = p
      · rw [e]; exact Or.inr us
      · rw [un _ (by omega)]; exact c4 q hq
    · by_cases e : q = p
      · rw [e]; exact Or.inr rfl
      · by_cases ep : (q - 1) / 4 = p
        · rw [ep, us]; exact Or.inl ot_isd2
        · rw [un _ (by omega)] at h
          rw [un _ (by omega)]
          exact Or.inl ((c6 q h0 hq h).resolve_right ep)
    · rcases c7 with z | z
      · rw [← z, us]; exact ot_isd2
      · by_cases e : t = p
        · rw [e, us]; exact ot_isd2
        · rw [un _ (by omega)]; exact z
  · intro hz
    have hd := ot_isdS c2 hp hS' hz
    refine ⟨c1, c2, c3, c4, c5, fun q h0 hq h => ?_, Or.inr ?_, by omega, hpar⟩
    · rcases c6 q h0 hq h with z | z
      · exact Or.inl z
      · rw [z]; exact Or.inl hd
    · rcases c7 with z | z
      · rw [← z]; exact hd
      · exact z
theorem ot_cuE {H H' : Nat → Int32} {t : Nat} (i : ot_I H) (ht : t < 85) (c : ot_CU H H' t 0) : ot_I H' ∧ ot_isd (H' (340 + t)) := by
  obtain ⟨c1, c2, c3, c4, c5, c6, c7, c8, c9⟩ := c
  obtain ⟨i1, i2, i3, i4, i5⟩ := i
  have d0 : ot_isd (H' (340 + 0)) := by
    show ot_isd (H' 340)
    rw [c2]; exact ot_isd2
  refine ⟨⟨c2, (c3 255 (by omega)).trans i2, fun q hq => ?_, fun q h0 hq h => ?_, fun q h0 hq h => ?_⟩, ?_⟩
  · rcases c4 q hq with z | z
    · rw [z]; exact i3 q hq
    · exact Or.inr (Or.inr (Or.inl z))
  · rcases c6 q h0 hq h with z | z
    · exact z
    · rw [z]; exact d0
  · rw [c3 _ (by omega)] at h
    rw [c3 _ (by omega)]
    exact i5 q h0 hq h
  · rcases c7 with z | z
    · rw [← z]; exact d0
    · exact z
theorem ot_wcu4 {post : St1 → Prop} {m fl fo : Int32} {H C W PS PV : Nat → Int32} {t : Nat} (hr : H 340 = 2) (ht : t < 85) (K : ∀ H', ot_CU H H' t 0 → post (m, fl, fo, H', C, W, PS, PV)) :
    ∀ k p H', p ≤ ot_B k → k ≤ 3 → p < 85 → ot_CU H H' t p → wX_copyUpTo_4 post m fl fo (k + 1) (nI p) (nI (3 - k)) H' C W PS PV := by
  intro k
  induction k with
  | zero =>
    intro p H' hp _ _ c
    have e : p = 0 := Nat.le_zero.mp hp
    subst e
    exact pk_le 3 3 (fun _ => K H' c) (fun z => absurd z (by omega))
  | succ k ih =>
    intro p H' hp hk h85 c
    have hB : p ≤ 4 * ot_B k + 4 := hp
    refine pk_le 3 (3 - (k + 1)) (fun z => absurd z (by omega)) (fun _ => pk_le p 0 (fun z => ?_) (fun z => ?_))
    · have e : p = 0 := by omega
      subst e
      exact K H' c
    · have h0 : p ≠ 0 := by omega
      have s := ot_cuS hr ht h0 c
      have es : nI (3 - (k + 1)) + 1 = nI (3 - k) := by rw [nI_1, show 3 - (k + 1) + 1 = 3 - k by omega]
      rw [ot_i4, nI_clamp (by omega)]
      refine ⟨vp_in_nI (by omega) (by omega), ?_⟩
      by_cases hz : H' (340 + p) = 0
      · refine br_t hz ⟨vp_in_nI (by omega) (by omega), nm_e ?_⟩
        unfold wX_copyUpTo_37
        exact ot_wpar h0 (by omega) (nm_r es (ih _ _ (by omega) (by omega) (by omega) (s.1 hz)))
      · refine br_f hz ?_
        unfold wX_copyUpTo_37
        exact ot_wpar h0 (by omega) (nm_r es (ih _ _ (by omega) (by omega) (by omega) (s.2 hz)))
theorem ot_wcu {post : St1 → Prop} {m fl fo : Int32} {H C W PS PV : Nat → Int32} {t : Nat} (i : ot_I H) (ht : t < 85) (hS : ot_S H t = 2)
    (K : ∀ H', ot_I H' → (∀ q, q < 85 → ot_D H' q = ot_D H q ∧ ot_S H' q = ot_S H q ∧ ∀ C, ot_V H' C q = ot_V H C q) → ot_isd (H' (340 + t)) → (∀ q, t < q → q < 85 → H' (340 + q) = H (340 + q)) → post (m, fl, fo, H', C, W, PS, PV)) :
    wpX_copyUpTo post (m, fl, fo, H, C, W, PS, PV) (nI t) :=
  ⟨4, ot_wcu4 i.1 ht (fun H' c => K H' (ot_cuE i ht c).1 c.1 (ot_cuE i ht c).2 c.2.2.2.2.1) 3 t H (by show t ≤ 84; omega) (by omega) ht (ot_cu0 i hS)⟩
theorem ot_wroom {post : Int32 → St1 → Prop} {fl fo : Int32} {H C W PS PV : Nat → Int32} {p : Nat} (hp : p < 85) (K1 : p ≠ 0 → ot_S H p = 0 → ot_S H ((p - 1) / 4) = 2 → ∀ fl fo W, post 1 (1, fl, fo, H, C, W, PS, PV))
    (K0 : ∀ fl fo W, post 0 (1, fl, fo, H, C, W, PS, PV)) : wpX_isRoom post (1, fl, fo, H, C, W, PS, PV) (nI p) := by
  unfold wpX_isRoom
  refine br_f (by decide) (pk_lt p 1 (fun _ => K0 _ _ _) (fun z => pk_lt 84 p (fun z2 => absurd z2 (by omega)) (fun _ => ot_wsort hp (fun fl fo W => ?_))))
  have b := ot_S2le H p
  refine pk_eq (ot_S H p) 0 (fun e => ot_wpar (by omega) (by omega) (ot_wsort (by omega) (fun fl fo W => ?_))) (fun _ => K0 _ _ _)
  have b2 := ot_S2le H ((p - 1) / 4)
  exact pk_eq (ot_S H ((p - 1) / 4)) 2 (fun e2 => K1 (by omega) e e2 _ _ _) (fun _ => K0 _ _ _)
/-- a file or a closed directory is put where nothing or a file showed -/
theorem ot_place {H H2 C : Nat → Int32} {p : Nat} {x v : Int32} (hr : H 340 = 2) (hp : p ≠ 0) (hp85 : p < 85) (hpar : ot_S H ((p - 1) / 4) = 2) (hn : ot_S H p ≠ 2) (i2 : ot_I H2)
    (vw : ∀ q, q < 85 → ot_D H2 q = ot_D H q ∧ ot_S H2 q = ot_S H q ∧ ∀ C, ot_V H2 C q = ot_V H C q) (hd : ot_isd (H2 (340 + (p - 1) / 4))) (hx : x = 1 ∨ x = 3) :
    ot_I (upd H2 (340 + p) x) ∧ (∀ q, q < 85 → q ≠ p → ot_S (upd H2 (340 + p) x) q = ot_S H q ∧ ot_V (upd H2 (340 + p) x) (upd C (340 + p) v) q = ot_V H C q) ∧
    (x = 1 → ot_S (upd H2 (340 + p) x) p = 1 ∧ ot_V (upd H2 (340 + p) x) (upd C (340 + p) v) p = v) ∧ (x = 3 → ot_S (upd H2 (340 + p) x) p = 2) := by
  obtain ⟨F, hF, _⟩ := ot_2D (((vw _ (by omega : (p - 1) / 4 < 85)).2.1).trans hpar)
  have hn2 : ot_S H2 p ≠ 2 := by rw [(vw p hp85).2.1]; exact hn
  have low := ot_low i2.2.2.2.1 (ot_room hp hF hn2)
  have us : upd H2 (340 + p) x (340 + p) = x := pk_us
  have un : ∀ j, j ≠ 340 + p → upd H2 (340 + p) x j = H2 j := fun j hj => pk_un hj
  have lowu : ∀ q, ot_un q p = true → q < 85 → upd H2 (340 + p) x (340 + q) = 0 := fun q u hq => by
    have := ot_un_lt q u
    rw [un _ (by omega)]; exact low q u hq
  have nx0 : ¬ x = 0 := by rcases hx with z | z <;> rw [z] <;> decide
  obtain ⟨g, gf, gt⟩ := ot_gr (H' := upd H2 (340 + p) x) i2 hp hp85 hF hd (fun q l hq hl h => un _ (fun z => by
      rcases h with h | h
      · omega
      · exact h (Or.inl (by omega)))) (fun q u hq => by
      by_cases e : q = p
      · rw [e, us]
        rcases hx with z | z
        · exact Or.inr (Or.inl z)
        · exact Or.inr (Or.inr (Or.inl z))
      · exact Or.inl (lowu q (u.resolve_left e) hq)) (by rw [us]; exact nx0) (fun q u hq h => absurd (lowu q u hq) h)
  refine ⟨g, fun q hq e => ?_, fun e => ?_, fun e => ?_⟩
  · by_cases u : ot_ue q p
    · have hu := u.resolve_left e
      have L' := (gt q u hq).2.2 (Or.inl (lowu q hu hq))
      have Dn : ot_D H p = none := ot_n2D hr hn
      have L := (ot_dead Dn q hu).2
      exact ⟨by rw [ot_Sn L', ot_Sn L], by rw [ot_Vn L', ot_Vn L]⟩
    · obtain ⟨a, b, _⟩ := gf q hq u
      refine ⟨b.trans (vw q hq).2.1, Eq.trans (ot_VL a (fun l hl => un _ ?_) (fun l hl => pk_un ?_)) ((vw q hq).2.2 C)⟩
      · have := ot_Ll hl
        omega
      · have := ot_Ll hl
        omega
  · have L' := (gt p (Or.inl rfl) hp85).1 (us.trans e)
    exact ⟨ot_S1 L' (us.trans e), (ot_V1 L' (us.trans e)).trans pk_us⟩
  · have L' := (gt p (Or.inl rfl) hp85).2.1 (us.trans e)
    exact ot_S2 L' (by show ¬ upd H2 (340 + p) x (340 + p) = 1; rw [us, e]; decide)
/-- the top layer loses a part -/
theorem ot_take1 {H H' : Nat → Int32} {p : Nat} (i : ot_I H) (hp : p ≠ 0) (hz : ∀ q, ot_ue q p → q < 85 → H' (340 + q) = 0) (ho : ∀ j, (∀ q, ot_ue q p → q < 85 → j ≠ 340 + q) → H' j = H j) :
    ot_I H' ∧ (∀ q, q < 85 → ¬ ot_ue q p → ot_D H' q = ot_D H q ∧ ot_L H' q = ot_L H q ∧ ∀ l, l < 5 → H' (85 * l + q) = H (85 * l + q)) := by
  obtain ⟨i1, i2, i3, i4, i5⟩ := i
  have fr0 : ∀ q l, q < 85 → l < 5 → ¬ ot_ue q p → H' (85 * l + q) = H (85 * l + q) := fun q l hq hl hu => ho _ (fun q' u' hq' e => hu (by
    have : q = q' := by omega
    rw [this]; exact u'))
  have fr4 : ∀ q, q < 85 → ¬ ot_ue q p → H' (340 + q) = H (340 + q) := fun q hq hu => fr0 q 4 hq (by omega) hu
  have fr3 : ∀ j, j < 340 → H' j = H j := fun j hj => ho j (fun q _ _ => by omega)
  have fr := ot_fr (H := H) (H' := H') (fun q => q < 85 ∧ ¬ ot_ue q p) (fun q h0 h => ⟨by omega, ot_nue_par h0 h.2⟩) (fun q l h hl => fr0 q l h.1 hl h.2)
  refine ⟨⟨(fr4 0 (by omega) (ot_nue0 hp)).trans i1, (fr3 255 (by omega)).trans i2, fun q hq => ?_, fun q h0 hq h => ?_, fun q h0 hq h => ?_⟩, fun q hq hu => ⟨(fr q ⟨hq, hu⟩).1, (fr q ⟨hq, hu⟩).2, fun l hl => fr0 q l hq hl hu⟩⟩
  · by_cases u : ot_ue q p
    · exact Or.inl (hz q u hq)
    · rw [fr4 q hq u]; exact i3 q hq
  · by_cases u : ot_ue q p
    · exact absurd (hz q u hq) h
    · rw [fr4 q hq u] at h
      rw [fr4 _ (by omega) (ot_nue_par h0 u)]
      exact i4 q h0 hq h
  · rw [fr3 _ (by omega)] at h
    rw [fr3 _ (by omega)]
    exact i5 q h0 hq h
theorem ot_wtake {post : St1 → Prop} {fl fo : Int32} {H C W PS PV : Nat → Int32} {p : Nat} (i : ot_I H) (hp : p ≠ 0) (hp85 : p < 85)
    (K : ∀ fl fo H' C' W, ot_I H' → (∀ q, q < 85 → ¬ ot_ue q p → ot_S H' q = ot_S H q ∧ ot_V H' C' q = ot_V H C q) → (∀ q, q < 85 → ot_ue q p → ot_S H' q = 0) → post (1, fl, fo, H', C', W, PS, PV)) :
    wpX_takeAway post (1, fl, fo, H, C, W, PS, PV) (nI p) := by
  unfold wpX_takeAway
  refine ot_wclr (l := 4) (by omega) hp85 (fun H0 h0 h1 => ?_)
  refine ⟨pk_in (340 + p) 425 (by omega) (ot_i4 p), ?_⟩
  rw [ot_i4, nI_clamp (by omega)]
  refine nm_e ?_
  have us : upd H0 (340 + p) 0 (340 + p) = 0 := pk_us
  have un : ∀ j, j ≠ 340 + p → upd H0 (340 + p) 0 j = H0 j := fun j hj => pk_un hj
  have hz : ∀ q, ot_ue q p → q < 85 → upd H0 (340 + p) 0 (340 + q) = 0 := fun q u hq => by
    by_cases e : q = p
    · rw [e]; exact us
    · rw [un _ (by omega)]; exact h0 q (u.resolve_left e) hq
  have ho : ∀ j, (∀ q, ot_ue q p → q < 85 → j ≠ 340 + q) → upd H0 (340 + p) 0 j = H j := fun j hj => by
    rw [un j (hj p (Or.inl rfl) hp85)]
    exact h1 j (fun q u hq => hj q (Or.inr u) hq)
  generalize upd H0 (340 + p) 0 = H1 at us un hz ho
  obtain ⟨i1, f1⟩ := ot_take1 i hp hz ho
  have v1 : ∀ q, q < 85 → ¬ ot_ue q p → ot_S H1 q = ot_S H q ∧ ot_V H1 C q = ot_V H C q := fun q hq u => by
    obtain ⟨_, b, c⟩ := f1 q hq u
    exact ⟨ot_SL b (fun l hl => c l (ot_Ll hl)), ot_VL b (fun l hl => c l (ot_Ll hl)) (fun l _ => rfl)⟩
  refine ot_wsort hp85 (fun fl fo W => ?_)
  have b := ot_S2le H1 p
  refine pk_le (ot_S H1 p) 0 (fun z => K fl fo H1 C W i1 v1 (fun q hq u => ot_deadS hp (by omega) u)) (fun z => ?_)
  have hpar := ot_par2 i1.1 hp (show ot_S H1 p ≠ 0 by omega)
  refine ot_wpar hp (by omega) (ot_wcu i1 (by omega) hpar (fun H2 i2 vw hd fr => ot_wput hp85 ?_))
  obtain ⟨F, hF, _⟩ := ot_2D (((vw _ (by omega : (p - 1) / 4 < 85)).2.1).trans hpar)
  have us3 : upd H2 (340 + p) 4 (340 + p) = 4 := pk_us
  have un3 : ∀ j, j ≠ 340 + p → upd H2 (340 + p) 4 j = H2 j := fun j hj => pk_un hj
  have lowu : ∀ q, ot_un q p = true → q < 85 → upd H2 (340 + p) 4 (340 + q) = 0 := fun q u hq => by
    have := ot_un_lt q u
    rw [un3 _ (by omega), fr q (by omega) hq]
    exact hz q (Or.inr u) hq
  obtain ⟨g, gf, gt⟩ := ot_gr (H' := upd H2 (340 + p) 4) i2 hp hp85 hF hd (fun q l hq hl h => un3 _ (fun z => by
      rcases h with h | h
      · omega
      · exact h (Or.inl (by omega)))) (fun q u hq => by
      by_cases e : q = p
      · rw [e]; exact Or.inr (Or.inr (Or.inr us3))
      · exact Or.inl (lowu q (u.resolve_left e) hq)) (by rw [us3]; decide) (fun q u hq h => absurd (lowu q u hq) h)
  refine K _ _ _ _ _ g (fun q hq u => ?_) (fun q hq u => ?_)
  · obtain ⟨a, b, _⟩ := gf q hq u
    obtain ⟨s1, w1⟩ := v1 q hq u
    have e : q ≠ p := fun z => u (Or.inl z)
    refine ⟨(b.trans (vw q hq).2.1).trans s1, Eq.trans (ot_VL a (fun l hl => un3 _ ?_) (fun l hl => pk_un ?_)) (((vw q hq).2.2 C).trans w1)⟩
    · have := ot_Ll hl
      omega
    · have := ot_Ll hl
      omega
  · refine ot_Sn ((gt q u hq).2.2 ?_)
    by_cases e : q = p
    · rw [e]; exact Or.inr us3
    · exact Or.inl (lowu q (u.resolve_left e) hq)
end
section
/-! walks: make, makeDir, write, remove, press -/
theorem ot_wmake {post : Int32 → St1 → Prop} {fl fo v : Int32} {H C W PS PV : Nat → Int32} {p : Nat} (i : ot_I H) (hp : p < 85)
    (K1 : ∀ fl fo H' C' W, ot_I H' → ot_tot (ot_S H') 85 = ot_tot (ot_S H) 85 + 1 → ot_V H' C' p = v → post 0 (1, fl, fo, H', C', W, PS, PV)) (K0 : ∀ fl fo W, post (-1) (1, fl, fo, H, C, W, PS, PV)) :
    wpX_make post (1, fl, fo, H, C, W, PS, PV) (nI p) v := by
  unfold wpX_make
  refine ot_wroom hp (fun h0 hS hpar fl fo W => br_f (by decide) ?_) (fun fl fo W => br_t rfl (K0 fl fo W))
  refine ot_wpar h0 (by omega) (ot_wcu i (by omega) hpar (fun H2 i2 vw hd fr => ot_wput hp ?_))
  obtain ⟨a, b, c, _⟩ := ot_place (C := C) (x := 1) (v := v) i.1 h0 hp hpar (by omega) i2 vw hd (Or.inl rfl)
  exact K1 _ _ _ _ _ a (ot_more h0 hp (fun q hq e => (b q hq e).1) hS (by rw [(c rfl).1]; decide)) (c rfl).2
theorem ot_wmakeDir {post : Int32 → St1 → Prop} {fl fo : Int32} {H C W PS PV : Nat → Int32} {p : Nat} (i : ot_I H) (hp : p < 85)
    (K1 : ∀ fl fo H' C' W, ot_I H' → ot_tot (ot_S H') 85 = ot_tot (ot_S H) 85 + 1 → post 0 (1, fl, fo, H', C', W, PS, PV)) (K0 : ∀ fl fo W, post (-1) (1, fl, fo, H, C, W, PS, PV)) :
    wpX_makeDir post (1, fl, fo, H, C, W, PS, PV) (nI p) := by
  unfold wpX_makeDir
  refine ot_wroom hp (fun h0 hS hpar fl fo W => br_f (by decide) ?_) (fun fl fo W => br_t rfl (K0 fl fo W))
  refine ot_wpar h0 (by omega) (ot_wcu i (by omega) hpar (fun H2 i2 vw hd fr => ot_wput hp ?_))
  obtain ⟨a, b, _, c⟩ := ot_place (C := C) (x := 3) (v := 0) i.1 h0 hp hpar (by omega) i2 vw hd (Or.inr rfl)
  exact K1 _ _ _ _ _ a (ot_more h0 hp (fun q hq e => (b q hq e).1) hS (by rw [c rfl]; decide))
theorem ot_wwrite {post : Int32 → St1 → Prop} {fl fo v : Int32} {H C W PS PV : Nat → Int32} {p : Nat} (i : ot_I H) (hp : p < 85)
    (K : ∀ r fl fo H' C' W, ot_I H' → post r (1, fl, fo, H', C', W, PS, PV)) : wpX_write post (1, fl, fo, H, C, W, PS, PV) (nI p) v := by
  unfold wpX_write
  refine ot_wsort hp (fun fl fo W => ?_)
  have b := ot_S2le H p
  refine pk_eq (ot_S H p) 1 (fun e => ot_wval hp (fun fl fo W => ?_)) (fun _ => K _ _ _ _ _ _ i)
  have h0 : p ≠ 0 := fun z => by
    rw [z, ot_root i.1] at e
    omega
  have hpar := ot_par2 i.1 h0 (by omega)
  refine ot_wpar h0 (by omega) (ot_wcu i (by omega) hpar (fun H2 i2 vw hd fr => ot_wput hp ?_))
  exact K _ _ _ _ _ _ (ot_place (C := C) (x := 1) (v := v) i.1 h0 hp hpar (by omega) i2 vw hd (Or.inl rfl)).1
/-- a file, or a directory without entries: nothing shows under it -/
theorem ot_bare {H : Nat → Int32} {p : Nat} (hr : H 340 = 2) (h : ot_S H p = 2 → ot_en (ot_S H) p 4 = 0) : ∀ q, ot_un q p = true → q < 85 → ot_S H q = 0 := by
  by_cases h2 : ot_S H p = 2
  · have hz := h h2
    have z : ∀ k, k < 4 → ot_in (ot_S H) (4 * p + 1 + k) = 0 := by
      have e : ot_en (ot_S H) p 4 = 0 + ot_in (ot_S H) (4 * p + 1 + 0) + ot_in (ot_S H) (4 * p + 1 + 1) + ot_in (ot_S H) (4 * p + 1 + 2) + ot_in (ot_S H) (4 * p + 1 + 3) := rfl
      rw [e] at hz
      intro k hk
      match k, hk with
      | 0, _ => omega
      | 1, _ => omega
      | 2, _ => omega
      | 3, _ => omega
    refine ot_ind (fun q ih u hq => ?_)
    have h0 := ot_un_ne u
    by_cases hs : ot_S H q = 0
    · exact hs
    · rcases (ot_unS h0).mp u with e | e
      · have t := z ((q - 1) % 4) (by omega)
        rw [show 4 * p + 1 + (q - 1) % 4 = q by omega, ot_in1 hq hs] at t
        omega
      · have a := ih h0 e (by omega)
        rw [ot_par2 hr h0 hs] at a
        omega
  · intro q u _
    exact ot_Sn (ot_dead (ot_n2D hr h2) q u).2
theorem ot_wremove {post : Int32 → St1 → Prop} {fl fo : Int32} {H C W PS PV : Nat → Int32} {p : Nat} (i : ot_I H) (hp : p < 85)
    (K1 : ∀ fl fo H' C' W, ot_I H' → ot_S H' p = 0 → ot_tot (ot_S H) 85 = ot_tot (ot_S H') 85 + 1 → post 0 (1, fl, fo, H', C', W, PS, PV)) (K0 : ∀ fl fo W, post (-1) (1, fl, fo, H, C, W, PS, PV)) :
    wpX_remove post (1, fl, fo, H, C, W, PS, PV) (nI p) := by
  unfold wpX_remove
  refine ot_wsort hp (fun fl fo W => ?_)
  have b := ot_S2le H p
  refine pk_le (ot_S H p) 0 (fun _ => K0 _ _ _) (fun hs => pk_eq p 0 (fun _ => K0 _ _ _) (fun h0 => ?_))
  have go : (ot_S H p = 2 → ot_en (ot_S H) p 4 = 0) → ∀ fl fo W, wX_remove_29 post (nI p) 1 fl fo H C W PS PV := by
    intro hb fl fo W
    unfold wX_remove_29
    refine ot_wtake i h0 hp (fun fl fo H' C' W i' v1 v0 => ?_)
    have hp0 := v0 p hp (Or.inl rfl)
    refine K1 _ _ _ _ _ i' hp0 (ot_more h0 hp (fun q hq e => ?_) hp0 (by omega))
    by_cases u : ot_ue q p
    · rw [v0 q hq u, ot_bare i.1 hb q (u.resolve_left e) hq]
    · exact (v1 q hq u).1.symm
  refine pk_eq (ot_S H p) 2 (fun h2 => ot_went hp (fun fl fo W => ?_)) (fun h2 => go (fun z => absurd z h2) _ _ _)
  have e1 : ot_ei (ot_S H) p = nI (ot_en (ot_S H) p 4) := by
    unfold ot_ei
    rw [if_pos h2]
  rw [e1]
  have hb := ot_enB (ot_S H) p
  exact pk_le (ot_en (ot_S H) p 4) 0 (fun z => go (fun _ => by omega) _ _ _) (fun _ => K0 _ _ _)
theorem ot_updid {f : Nat → Int32} {k : Nat} {x : Int32} (h : f k = x) : upd f k x = f := by
  funext j
  by_cases e : j = k
  · rw [e, pk_us, h]
  · rw [pk_un e]
theorem ot_w134 {post : Int32 → St1 → Prop} {J : Int32 → Int32 → Int32 → Int32 → (Nat → Int32) → (Nat → Int32) → (Nat → Int32) → (Nat → Int32) → (Nat → Int32) → Prop} {m fl fo : Int32} {H C W PS PV : Nat → Int32} {i : Nat} (hi : i < 85)
    (K : J (nI (i + 1)) m fl fo (upd H (340 + i) 0) C W PS PV) : wX_press_134 post J (nI i) m fl fo H C W PS PV := by
  unfold wX_press_134
  rw [ot_i4, nI_clamp (by omega)]
  exact ⟨vp_in_nI (by omega) (by omega), nm_e (nm_r (nI_1 i) K)⟩
theorem ot_w89 {post : Int32 → St1 → Prop} {J : Int32 → Int32 → Int32 → Int32 → (Nat → Int32) → (Nat → Int32) → (Nat → Int32) → (Nat → Int32) → (Nat → Int32) → Prop} {m fl fo z : Int32} {H C W PS PV : Nat → Int32} {i : Nat} (hi : i < 85)
    (K : J (nI (i + 1)) m fl fo (upd (upd H (255 + i) z) (340 + i) 0) C W PS PV) : wX_press_89 post J (nI i) z (255 + nI i) m fl fo H C W PS PV := by
  unfold wX_press_89
  rw [ot_i3, nI_clamp (by omega)]
  exact ⟨vp_in_nI (by omega) (by omega), nm_e (ot_w134 hi K)⟩
theorem ot_wpress {post : Int32 → St1 → Prop} {fl fo : Int32} {H C W PS PV : Nat → Int32} (i0 : ot_I H)
    (K : ∀ H' C', ot_I H' → (∀ q, q < 85 → ot_S H' q = ot_S H q ∧ ot_V H' C' q = ot_V H C q) → post 0 (1, fl, fo, H', C', W, PS, PV)) : wpX_press post (1, fl, fo, H, C, W, PS, PV) := by
  unfold wpX_press
  refine br_f (by decide) ?_
  refine pk_loop (σ := (Nat → Int32) × (Nat → Int32)) (fun n i s => wX_press_11 post n (nI i) 1 fl fo s.1 s.2 W PS PV)
    (fun i s => 1 ≤ i ∧ ot_J s.1 i ∧ ∀ q, q < 85 → ot_S s.1 q = ot_S H q ∧ ot_V s.1 s.2 q = ot_V H C q) 85 1 (H, C) (by omega) ⟨Nat.le_refl 1, ot_J1 i0, fun q _ => ⟨rfl, rfl⟩⟩ (fun n s h => ?_) (fun n i s hi h hw => ?_)
  · exact pk_le 85 85 (fun _ => K _ _ (ot_JI h.2.1) h.2.2) (fun z => absurd z (by omega))
  · obtain ⟨X, Y⟩ := s
    obtain ⟨h1, j, vw⟩ := h
    have j : ot_J X i := j
    have vw : ∀ q, q < 85 → ot_S X q = ot_S H q ∧ ot_V X Y q = ot_V H C q := vw
    have h0 : i ≠ 0 := by omega
    show wX_press_11 post (n + 1) (nI i) 1 fl fo X Y W PS PV
    refine pk_le 85 i (fun z => absurd z (by omega)) (fun _ => ⟨pk_in (340 + i) 425 (by omega) (ot_i4 i), nm_r (e' := X (340 + i)) (by rw [ot_i4, nI_clamp (by omega)]) ⟨pk_in (255 + i) 425 (by omega) (ot_i3 i), nm_r (e' := X (255 + i)) (by rw [ot_i3, nI_clamp (by omega)]) ?_⟩⟩)
    have hw' : ∀ X' Y' : Nat → Int32, (ot_J X' (i + 1) ∧ ∀ q, q < 85 → ot_S X' q = ot_S X q ∧ ot_V X' Y' q = ot_V X Y q) → wX_press_11 post n (nI (i + 1)) 1 fl fo X' Y' W PS PV := fun X' Y' g =>
      hw (X', Y') ⟨by omega, g.1, fun q hq => ⟨(g.2 q hq).1.trans (vw q hq).1, (g.2 q hq).2.trans (vw q hq).2⟩⟩
    by_cases x2 : X (340 + i) = 2
    · refine br_t x2 ?_
      have go : ∀ z : Int32, z = (if X (255 + i) = 1 ∨ X (255 + i) = 4 then 3 else if X (255 + i) = 3 then 3 else 2) → wX_press_89 post (wX_press_11 post n) (nI i) z (255 + nI i) 1 fl fo X Y W PS PV := fun z hz =>
        ot_w89 hi (hw' _ _ (ot_pB j h0 hi x2 pk_us (by rw [pk_un (by omega), pk_us]; exact hz) (fun k k1 k2 => by rw [pk_un k1, pk_un k2])))
      by_cases b1 : X (255 + i) = 1
      · refine br_t b1 ?_
        unfold wX_press_54 wX_press_59
        exact br_f (by decide) (go 3 (by rw [if_pos (Or.inl b1)]))
      · refine br_f b1 ?_
        by_cases b4 : X (255 + i) = 4
        · refine br_t b4 ?_
          unfold wX_press_54 wX_press_59
          exact br_f (by decide) (go 3 (by rw [if_pos (Or.inr b4)]))
        · refine br_f b4 ?_
          unfold wX_press_59
          refine br_t rfl ?_
          by_cases b3 : X (255 + i) = 3
          · exact br_t b3 (go 3 (by rw [if_neg (fun z => z.elim b1 b4), if_pos b3]))
          · exact br_f b3 (go 2 (by rw [if_neg (fun z => z.elim b1 b4), if_neg b3]))
    · refine br_f x2 ?_
      by_cases x0 : X (340 + i) = 0
      · refine br_t x0 (ot_w134 hi (hw' _ _ ?_))
        rw [ot_updid x0]
        exact ⟨ot_pC j x0, fun q _ => ⟨rfl, rfl⟩⟩
      · refine br_f x0 (ot_wclr (l := 3) (by omega) hi (fun X1 g0 g1 => ⟨pk_in (255 + i) 425 (by omega) (ot_i3 i), ?_⟩))
        rw [ot_i3, nI_clamp (by omega)]
        refine nm_e ⟨pk_in (340 + i) 425 (by omega) (ot_i4 i), vp_in_nI (by omega) (by omega), ?_⟩
        rw [ot_i4, nI_clamp (by omega)]
        refine nm_e (ot_w134 hi (hw' _ _ (ot_pA j h0 hi x0 x2 pk_us ?_ ?_ ?_ pk_us (fun k hk => pk_un hk))))
        · rw [pk_un (by omega), pk_us]
        · intro q u hq
          have := ot_un_lt q u
          rw [pk_un (by omega), pk_un (by omega)]
          exact g0 q u hq
        · intro q l hq hl n3 n4
          have k1 : 85 * l + q ≠ 340 + i := fun z => n4 (by omega) (by omega)
          have k2 : 85 * l + q ≠ 255 + i := fun z => n3 (by omega) (Or.inl (by omega))
          rw [pk_un k1, pk_un k2]
          exact g1 _ (fun q' u' hq' z => n3 (by omega) (Or.inr (by
            have : q = q' := by omega
            rw [this]; exact u')))
end
section
/-! walks: placeAfter, copyPart -/
theorem ot_rem4 {q : Nat} (hq : q ≠ 0) (h : q < 2 ^ 31) : (nI q - 1) - (nI q - 1) / 4 * 4 = nI ((q - 1) % 4) := by
  obtain ⟨k, rfl⟩ : ∃ k, q = k + 1 := ⟨q - 1, by omega⟩
  rw [nI_pred, Nat.add_sub_cancel]
  exact pk_rem (a := k) (d := 4) (by omega) (by omega) (by omega)
theorem ot_wp60 {post : Int32 → St1 → Prop} {m fl fo : Int32} {H C W PS PV : Nat → Int32} {p a b d : Nat} (hd : d ≤ 3) (hW : ∀ i, i < d → W i = nI ((ot_an p i - 1) % 4) ∧ ot_an p i ≠ 0 ∧ ot_an p i ≠ a)
    (K : post (nI (ot_pl p a b)) (m, fl, fo, H, C, W, PS, PV)) : ∀ j, j ≤ d → wX_placeAfter_60 post m fl fo H C W PS PV (j + 1) (nI (ot_pl (ot_an p j) a b)) (nI j + (-1)) := by
  intro j
  induction j with
  | zero => intro _; exact br_t (ot_m1lt0 (F := 0) (by omega)) K
  | succ j ih =>
    intro hj
    rw [pk_m1]
    obtain ⟨w, n0, na⟩ := hW j (by omega)
    refine br_f (nI_pos (by omega)) ⟨vp_in_nI (by omega) (by omega), nm_r (e' := nI (ot_pl (ot_an p j) a b)) ?_ (nm_e (ih (by omega)))⟩
    rw [nI_clamp (show j < 2 ^ 31 by omega), w, ot_m41, nI_add, ot_plS n0 na]
    rfl
theorem ot_wplc {post : Int32 → St1 → Prop} {m fl fo : Int32} {H C W PS PV : Nat → Int32} {p a b : Nat} (hp : p < 85) (ha : a ≠ 0) (ha85 : a < 85) (hu : ot_ue p a) (K : ∀ W, post (nI (ot_pl p a b)) (m, fl, fo, H, C, W, PS, PV)) :
    wpX_placeAfter post (m, fl, fo, H, C, W, PS, PV) (nI p) (nI a) (nI b) := by
  have key : ∀ k d W, ot_an p d ≤ ot_B k → d + k = 3 → ot_ue (ot_an p d) a → (∀ i, i < d → W i = nI ((ot_an p i - 1) % 4) ∧ ot_an p i ≠ 0 ∧ ot_an p i ≠ a) →
      wX_placeAfter_9 post (nI a) (nI b) m fl fo (k + 1) (nI d) (nI (ot_an p d)) (nI d) H C W PS PV := by
    intro k
    induction k with
    | zero =>
      intro d W hB hd hu hW
      have h0 : ot_an p d = 0 := Nat.le_zero.mp hB
      rw [h0] at hu
      exact absurd hu (ot_nue0 ha)
    | succ k ih =>
      intro d W hB hd hu hW
      have hB' : ot_an p d ≤ 4 * ot_B k + 4 := hB
      have h85 : ot_an p d < 85 := Nat.lt_of_le_of_lt (ot_an_le p d) hp
      refine pk_le 3 d (fun z => absurd z (by omega)) (fun _ => pk_eq (ot_an p d) a (fun e => ?_) (fun e => ?_))
      · refine nm_r (ot_sub1 _) ⟨d + 1, ?_⟩
        have t := ot_wp60 (b := b) (by omega) hW (K W) d (Nat.le_refl d)
        rw [e, ot_pla] at t
        exact t
      · have hun := hu.resolve_left e
        have h0 := ot_un_ne hun
        refine ⟨by decide, vp_in_nI (by omega) (by omega), nm_e (nm_r (nI_1 d) ⟨by decide, nm_r (ot_pr h0 (by omega)) (nm_r (nI_1 d) ?_)⟩)⟩
        rw [nI_clamp (show d < 2 ^ 31 by omega), ot_rem4 h0 (by omega)]
        refine ih (d + 1) _ (by show (ot_an p d - 1) / 4 ≤ ot_B k; omega) (by omega) ((ot_unS h0).mp hun) (fun i hi => ?_)
        by_cases ei : i = d
        · rw [ei, pk_us]; exact ⟨rfl, h0, e⟩
        · rw [pk_un ei]; exact hW i (by omega)
  exact ⟨4, key 3 0 W (by show p ≤ 84; omega) rfl hu (fun i hi => absurd hi (by omega))⟩
/-- how much shows at a and under it, among the paths below i -/
def ot_cs (S : Nat → Nat) (a : Nat) : Nat → Nat := ot_sm (fun q => if (q = a ∨ ot_un q a = true) ∧ S q ≠ 0 then 1 else 0)
theorem ot_cs1 {S : Nat → Nat} {a i : Nat} (h : ot_ue i a) (hS : S i ≠ 0) : ot_cs S a (i + 1) = ot_cs S a i + 1 := by
  show ot_cs S a i + (if (i = a ∨ ot_un i a = true) ∧ S i ≠ 0 then 1 else 0) = _
  rw [if_pos ⟨h, hS⟩]
theorem ot_cs0 {S : Nat → Nat} {a i : Nat} (h : ¬ ot_ue i a ∨ S i = 0) : ot_cs S a (i + 1) = ot_cs S a i := by
  show ot_cs S a i + (if (i = a ∨ ot_un i a = true) ∧ S i ≠ 0 then 1 else 0) = _
  rw [if_neg (fun z => h.elim (fun w => w z.1) (fun w => z.2 w)), Nat.add_zero]
theorem ot_csz {S : Nat → Nat} {a : Nat} : ∀ i, i ≤ a → ot_cs S a i = 0 := by
  intro i
  induction i with
  | zero => intro _; rfl
  | succ i ih =>
    intro h
    rw [ot_cs0 (Or.inl (fun z => by
      have := ot_ue_le z
      omega)), ih (by omega)]
theorem ot_csB {S : Nat → Nat} {a : Nat} (n : Nat) : ot_cs S a n ≤ n := by
  have := ot_smB (f := fun q => if (q = a ∨ ot_un q a = true) ∧ S q ≠ 0 then 1 else 0) (b := 1) (fun q => by
    by_cases h : (q = a ∨ ot_un q a = true) ∧ S q ≠ 0
    · show (if (q = a ∨ ot_un q a = true) ∧ S q ≠ 0 then 1 else 0) ≤ 1
      rw [if_pos h]; omega
    · show (if (q = a ∨ ot_un q a = true) ∧ S q ≠ 0 then 1 else 0) ≤ 1
      rw [if_neg h]; omega) n
  unfold ot_cs
  omega
/-- the part that is listed -/
def ot_CP (H C : Nat → Int32) (a b i n : Nat) (PS PV : Nat → Int32) : Prop := n = ot_cn PS 85 ∧ n = ot_cs (ot_S H) a i ∧
  (∀ p, p < i → ot_ue p a → ot_S H p ≠ 0 → ot_pl p a b < 85 ∧ PS (ot_pl p a b) = nI (ot_S H p) ∧ PV (ot_pl p a b) = ot_V H C p) ∧
  (∀ q, q < 85 → ¬ PS q = 0 → ∃ p, p < i ∧ ot_ue p a ∧ ot_S H p ≠ 0 ∧ q = ot_pl p a b)
theorem ot_cpN {H C : Nat → Int32} {a b i n : Nat} {PS PV : Nat → Int32} (c : ot_CP H C a b i n PS PV) (h : ¬ ot_ue i a ∨ ot_S H i = 0) : ot_CP H C a b (i + 1) n PS PV := by
  obtain ⟨c1, c2, c3, c4⟩ := c
  refine ⟨c1, by rw [ot_cs0 h]; exact c2, fun p hp u hs => ?_, fun q hq hz => ?_⟩
  · have e : p ≠ i := fun z => by
      rw [z] at u hs
      exact h.elim (fun w => w u) (fun w => hs w)
    exact c3 p (by omega) u hs
  · obtain ⟨p, h1, h2⟩ := c4 q hq hz
    exact ⟨p, by omega, h2⟩
theorem ot_nz {n : Nat} (h : n ≠ 0) (h2 : n ≤ 2) : ¬ nI n = 0 := nI_ne0 (by omega) (by omega)
theorem ot_cpS {H C : Nat → Int32} {a b i n : Nat} {PS PV : Nat → Int32} (c : ot_CP H C a b i n PS PV) (u : ot_ue i a) (hs : ot_S H i ≠ 0) (hpl : ot_pl i a b < 85) :
    ot_CP H C a b (i + 1) (n + 1) (upd PS (ot_pl i a b) (nI (ot_S H i))) (upd PV (ot_pl i a b) (ot_V H C i)) := by
  obtain ⟨c1, c2, c3, c4⟩ := c
  have hz : PS (ot_pl i a b) = 0 := by
    by_cases z : PS (ot_pl i a b) = 0
    · exact z
    · obtain ⟨p, h1, h2, _, h4⟩ := c4 _ hpl z
      have := ot_plJ h2 u h4.symm
      omega
  refine ⟨by rw [ot_cnU hpl hz (ot_nz hs (ot_S2le H i)), c1], by rw [ot_cs1 u hs, c2], fun p hp up hsp => ?_, fun q hq hq0 => ?_⟩
  · by_cases e : p = i
    · rw [e, pk_us, pk_us]; exact ⟨hpl, rfl, rfl⟩
    · have ne : ot_pl p a b ≠ ot_pl i a b := fun z => e (ot_plJ up u z)
      rw [pk_un ne, pk_un ne]
      exact c3 p (by omega) up hsp
  · by_cases e : q = ot_pl i a b
    · exact ⟨i, by omega, u, hs, e⟩
    · rw [pk_un e] at hq0
      obtain ⟨p, h1, h2⟩ := c4 q hq hq0
      exact ⟨p, by omega, h2⟩
theorem ot_wc58 {post : Int32 → St1 → Prop} {J : Int32 → Int32 → Int32 → Int32 → Int32 → (Nat → Int32) → (Nat → Int32) → (Nat → Int32) → (Nat → Int32) → (Nat → Int32) → Prop} {fo : Int32} {H C W PS PV : Nat → Int32} {a b i n l : Nat} (ha : a ≠ 0) (ha85 : a < 85) (hb : b < 85) (hi : i < 85) (u : ot_ue i a) (hL : ot_L H i = some l)
    (Km : ∀ fl fo W PS PV, post (-1) (1, fl, fo, H, C, W, PS, PV)) (c : ot_CP H C a b i n PS PV)
    (K : ∀ n fl fo W PS PV, ot_CP H C a b (i + 1) n PS PV → J (nI n) (nI (i + 1)) 1 fl fo H C W PS PV) :
    wX_copyPart_58 post J (nI a) (nI b) (nI n) (nI i) (nI (ot_S H i)) 1 (nI l) fo H C W PS PV := by
  unfold wX_copyPart_58
  have hl := ot_Ll hL
  have b2 := ot_S2le H i
  have hs : ot_S H i ≠ 0 := fun z => by
    rw [ot_S0L z] at hL
    exact absurd hL (by simp)
  refine pk_le (ot_S H i) 0 (fun z => absurd z (by omega)) (fun _ => ot_wplc hi ha ha85 u (fun W => ?_))
  have hB := ot_plB (a := a) hb i
  refine pk_le (ot_pl i a b) 84 (fun z => ⟨vp_in_nI (by omega) (by omega), ?_⟩) (fun z => Km _ _ _ _ _)
  rw [nI_clamp (show ot_pl i a b < 2 ^ 31 by omega)]
  refine nm_e ?_
  have S := ot_cpS c u hs (by omega)
  refine pk_eq (ot_S H i) 1 (fun e => ⟨pk_in (85 * l + i) 425 (by omega) (ot_ix l i), vp_in_nI (by omega) (by omega), ?_⟩) (fun e => ⟨vp_in_nI (by omega) (by omega), ?_⟩)
  · have h1 : H (85 * l + i) = 1 := by
      by_cases h1 : H (85 * l + i) = 1
      · exact h1
      · rw [ot_S2 hL h1] at e; omega
    rw [ot_ix, nI_clamp (show 85 * l + i < 2 ^ 31 by omega), ← ot_V1 (C := C) hL h1]
    exact nm_e (nm_r (nI_1 n) (nm_r (nI_1 i) (K _ _ _ _ _ _ S)))
  · rw [ot_V0 e] at S
    exact nm_e (nm_r (nI_1 n) (nm_r (nI_1 i) (K _ _ _ _ _ _ S)))
theorem ot_wcopy {post : Int32 → St1 → Prop} {fl fo : Int32} {H C W PS PV : Nat → Int32} {a b : Nat} (ha : a ≠ 0) (ha85 : a < 85) (hb : b < 85) (Km : ∀ fl fo W PS PV, post (-1) (1, fl, fo, H, C, W, PS, PV))
    (K : ∀ n fl fo W PS PV, ot_CP H C a b 85 n PS PV → post (nI n) (1, fl, fo, H, C, W, PS, PV)) : wpX_copyPart post (1, fl, fo, H, C, W, PS, PV) (nI a) (nI b) := by
  unfold wpX_copyPart
  refine pk_loop (fun n i s => wX_copyPart_2 post (nI a) (nI b) 1 fl fo n (nI i) H C W s PV) (fun i s => ∀ q, q < i → s q = 0) 85 0 PS (by omega) (fun q hq => absurd hq (by omega)) (fun n s h => ?_) (fun n i s hi h hw => ?_)
  · refine pk_le 85 85 (fun _ => ?_) (fun z => absurd z (by omega))
    refine pk_loop (σ := Nat × Int32 × Int32 × (Nat → Int32) × (Nat → Int32) × (Nat → Int32)) (fun n i s => wX_copyPart_26 post (nI a) (nI b) n (nI s.1) (nI i) 1 s.2.1 s.2.2.1 H C s.2.2.2.1 s.2.2.2.2.1 s.2.2.2.2.2)
      (fun i s => ot_CP H C a b i s.1 s.2.2.2.2.1 s.2.2.2.2.2) 85 a (0, fl, fo, W, s, PV) (by omega) ⟨(ot_cn0 85 h).symm, (ot_csz a (Nat.le_refl a)).symm, fun p hp u _ => ?_, fun q hq hz => absurd (h q hq) hz⟩ (fun n s h => ?_) (fun n i s hi h hw => ?_)
    · have := ot_ue_le u
      omega
    · exact pk_le 85 85 (fun _ => K _ _ _ _ _ _ h) (fun z => absurd z (by omega))
    · obtain ⟨n0, fl, fo, W, PS, PV⟩ := s
      have h : ot_CP H C a b i n0 PS PV := h
      have hw' : ∀ n1 fl fo W PS PV, ot_CP H C a b (i + 1) n1 PS PV → wX_copyPart_26 post (nI a) (nI b) n (nI n1) (nI (i + 1)) 1 fl fo H C W PS PV := fun n1 fl fo W PS PV c => hw (n1, fl, fo, W, PS, PV) c
      show wX_copyPart_26 post (nI a) (nI b) (n + 1) (nI n0) (nI i) 1 fl fo H C W PS PV
      have go : ot_ue i a → wX_copyPart_48 post (wX_copyPart_26 post (nI a) (nI b) n) (nI a) (nI b) (nI n0) (nI i) 1 fl fo H C W PS PV := by
        intro u
        unfold wX_copyPart_48
        refine ot_wsortL hi (fun hL fo W => ?_) (fun l hl hL fo W => ot_wc58 ha ha85 hb hi u hL Km h hw')
        unfold wX_copyPart_58
        exact br_t (by decide) (nm_r (nI_1 i) (hw' _ _ _ _ _ _ (ot_cpN h (Or.inr (ot_Sn hL)))))
      refine pk_le 85 i (fun z => absurd z (by omega)) (fun _ => pk_eq i a (fun e => go (Or.inl e)) (fun e => ot_wun hi ha85 (fun u => br_f (by decide) (go (Or.inr u))) (fun u => br_t rfl ?_)))
      unfold wX_copyPart_58
      exact br_t (by decide) (nm_r (nI_1 i) (hw' _ _ _ _ _ _ (ot_cpN h (Or.inl (fun z => z.elim e u)))))
  · refine pk_le 85 i (fun z => absurd z (by omega)) (fun _ => ⟨vp_in_nI hi (by omega), ?_⟩)
    rw [nI_clamp (show i < 2 ^ 31 by omega)]
    refine nm_e (nm_r (nI_1 i) (hw _ (fun q hq => ?_)))
    by_cases e : q = i
    · rw [e, pk_us]
    · rw [pk_un e]; exact h q (by omega)
end
section
/-! move, and the law's moved -/
/-- what a move does to what is shown -/
def ot_MR (H C H' C' : Nat → Int32) (a b n : Nat) : Prop :=
  (∀ q, q < 85 → ot_ue q a → ot_S H q ≠ 0 → ot_pl q a b < 85 ∧ ot_S H' (ot_pl q a b) = ot_S H q ∧ ot_V H' C' (ot_pl q a b) = ot_V H C q) ∧
  (∀ q, q < 85 → ot_ue q b → ot_S H' q ≠ 0 → ∃ p, p < 85 ∧ ot_ue p a ∧ ot_S H p ≠ 0 ∧ q = ot_pl p a b) ∧
  (∀ q, q < 85 → ot_ue q a → ¬ ot_ue q b → ot_S H' q = 0) ∧
  (∀ q, q < 85 → ¬ ot_ue q a → ¬ ot_ue q b → ot_S H' q = ot_S H q ∧ ot_V H' C' q = ot_V H C q) ∧
  n = ot_cs (ot_S H') b 85 ∧ n = ot_cs (ot_S H) a 85 ∧ (∀ q, q < 85 → ot_ue q b → ot_S H q = 0)
/-- there and back -/
theorem ot_back {H C H' C' H2 C2 : Nat → Int32} {a b n k : Nat} (m : ot_MR H C H' C' a b n) (w : ot_MR H' C' H2 C2 b a k) : k = n ∧ ∀ q, q < 85 → ot_S H2 q = ot_S H q ∧ ot_V H2 C2 q = ot_V H C q := by
  obtain ⟨m1, m2, m3, m4, m5, m6, m7⟩ := m
  obtain ⟨w1, w2, w3, w4, w5, w6, w7⟩ := w
  refine ⟨by rw [w6, m5], fun q hq => ?_⟩
  by_cases ua : ot_ue q a
  · by_cases hs : ot_S H q = 0
    · have z : ot_S H2 q = 0 := by
        by_cases h2 : ot_S H2 q = 0
        · exact h2
        · obtain ⟨p, p85, pu, ps, pe⟩ := w2 q hq ua h2
          obtain ⟨r, r85, ru, rs, re⟩ := m2 p p85 pu ps
          rw [pe, re, ot_plI r ru] at hs
          exact absurd hs rs
      exact ⟨by rw [z, hs], by rw [ot_V0 (by rw [z]; decide), ot_V0 (by rw [hs]; decide)]⟩
    · obtain ⟨x1, x2, x3⟩ := m1 q hq ua hs
      obtain ⟨y1, y2, y3⟩ := w1 _ x1 (ot_plU (b := b) q ua).1 (by rw [x2]; exact hs)
      rw [ot_plI q ua] at y2 y3
      exact ⟨y2.trans x2, y3.trans x3⟩
  · by_cases ub : ot_ue q b
    · have hs := m7 q hq ub
      have z := w3 q hq ub ua
      exact ⟨by rw [z, hs], by rw [ot_V0 (by rw [z]; decide), ot_V0 (by rw [hs]; decide)]⟩
    · obtain ⟨x1, x2⟩ := m4 q hq ua ub
      obtain ⟨y1, y2⟩ := w4 q hq ub ua
      exact ⟨y1.trans x1, y2.trans x2⟩
/-- the listed part is put -/
def ot_PT (H C PS PV : Nat → Int32) (i : Nat) (H' C' : Nat → Int32) : Prop := (∀ j, j < 340 → H' j = H j ∧ C' j = C j) ∧
  (∀ q, q < i → (PS q = 1 → H' (340 + q) = 1 ∧ C' (340 + q) = PV q) ∧ (PS q = 2 → H' (340 + q) = 3) ∧ (¬ PS q = 1 → ¬ PS q = 2 → H' (340 + q) = H (340 + q) ∧ C' (340 + q) = C (340 + q))) ∧
  (∀ q, i ≤ q → H' (340 + q) = H (340 + q) ∧ C' (340 + q) = C (340 + q))
theorem ot_ptU {H C PS PV H' C' : Nat → Int32} {i : Nat} {x v : Int32} (t : ot_PT H C PS PV i H' C') (h1 : PS i = 1 → x = 1 ∧ v = PV i) (h2 : PS i = 2 → x = 3) (h : PS i = 1 ∨ PS i = 2) :
    ot_PT H C PS PV (i + 1) (upd H' (340 + i) x) (upd C' (340 + i) v) := by
  obtain ⟨t1, t2, t3⟩ := t
  refine ⟨fun j hj => ?_, fun q hq => ?_, fun q hq => ?_⟩
  · rw [pk_un (by omega), pk_un (by omega)]; exact t1 j hj
  · by_cases e : q = i
    · rw [e, pk_us, pk_us]
      exact ⟨h1, h2, fun n1 n2 => (h.elim n1 n2).elim⟩
    · rw [pk_un (by omega), pk_un (by omega)]; exact t2 q (by omega)
  · rw [pk_un (by omega), pk_un (by omega)]; exact t3 q (by omega)
theorem ot_ptN {H C PS PV H' C' : Nat → Int32} {i : Nat} (t : ot_PT H C PS PV i H' C') (h1 : ¬ PS i = 1) (h2 : ¬ PS i = 2) : ot_PT H C PS PV (i + 1) H' C' := by
  obtain ⟨t1, t2, t3⟩ := t
  refine ⟨t1, fun q hq => ?_, fun q hq => t3 q (by omega)⟩
  by_cases e : q = i
  · rw [e]
    exact ⟨fun z => absurd z h1, fun z => absurd z h2, fun _ _ => t3 i (Nat.le_refl i)⟩
  · exact t2 q (by omega)
theorem ot_w59 {post : Int32 → St1 → Prop} {r m fl fo : Int32} {H C W PS PV : Nat → Int32} (K : ∀ H' C', ot_PT H C PS PV 85 H' C' → post r (m, fl, fo, H', C', W, PS, PV)) : ∃ n, wX_move_59 post r n 0 m fl fo H C W PS PV := by
  refine pk_loop (σ := (Nat → Int32) × (Nat → Int32)) (fun n i s => wX_move_59 post r n (nI i) m fl fo s.1 s.2 W PS PV) (fun i s => ot_PT H C PS PV i s.1 s.2) 85 0 (H, C) (by omega)
    ⟨fun j _ => ⟨rfl, rfl⟩, fun q hq => absurd hq (by omega), fun q _ => ⟨rfl, rfl⟩⟩ (fun n s h => ?_) (fun n i s hi h hw => ?_)
  · exact pk_le 85 85 (fun _ => K _ _ h) (fun z => absurd z (by omega))
  · obtain ⟨X, Y⟩ := s
    have h : ot_PT H C PS PV i X Y := h
    have hw' : ∀ X' Y', ot_PT H C PS PV (i + 1) X' Y' → wX_move_59 post r n (nI (i + 1)) m fl fo X' Y' W PS PV := fun X' Y' g => hw (X', Y') g
    show wX_move_59 post r (n + 1) (nI i) m fl fo X Y W PS PV
    refine pk_le 85 i (fun z => absurd z (by omega)) (fun _ => ⟨vp_in_nI hi (by omega), ?_⟩)
    rw [nI_clamp (show i < 2 ^ 31 by omega)]
    by_cases h1 : PS i = 1
    · refine br_t h1 ⟨vp_in_nI hi (by omega), ot_wput hi (nm_r (nI_1 i) (hw' _ _ (ot_ptU h (fun _ => ⟨rfl, rfl⟩) (fun z => ?_) (Or.inl h1))))⟩
      rw [h1] at z
      exact absurd z (by decide)
    · refine br_f h1 ⟨vp_in_nI hi (by omega), ?_⟩
      by_cases h2 : PS i = 2
      · exact br_t h2 (ot_wput hi (nm_r (nI_1 i) (hw' _ _ (ot_ptU h (fun z => absurd z h1) (fun _ => rfl) (Or.inr h2)))))
      · exact br_f h2 (nm_r (nI_1 i) (hw' _ _ (ot_ptN h h1 h2)))
theorem ot_mv {H C H1 C1 H2 H3 C3 PS PV : Nat → Int32} {a b n : Nat} (i : ot_I H) (ha : a ≠ 0) (ha85 : a < 85) (hb : b ≠ 0) (hb85 : b < 85) (hSa : ot_S H a ≠ 0) (hSb : ot_S H b = 0) (hSp : ot_S H ((b - 1) / 4) = 2) (hnu : ¬ ot_un b a = true)
    (c : ot_CP H C a b 85 n PS PV) (v1 : ∀ q, q < 85 → ¬ ot_ue q a → ot_S H1 q = ot_S H q ∧ ot_V H1 C1 q = ot_V H C q) (v0 : ∀ q, q < 85 → ot_ue q a → ot_S H1 q = 0)
    (i2 : ot_I H2) (vw : ∀ q, q < 85 → ot_D H2 q = ot_D H1 q ∧ ot_S H2 q = ot_S H1 q ∧ ∀ C, ot_V H2 C q = ot_V H1 C q) (hd : ot_isd (H2 (340 + (b - 1) / 4))) (t : ot_PT H2 C1 PS PV 85 H3 C3) :
    ot_I H3 ∧ ot_MR H C H3 C3 a b n := by
  obtain ⟨c1, c2, c3, c4⟩ := c
  obtain ⟨t1, t2, _⟩ := t
  have npa : ¬ ot_ue ((b - 1) / 4) a := fun z => hnu ((ot_unS hb).mpr z)
  have hSp2 : ot_S H2 ((b - 1) / 4) = 2 := ((vw _ (by omega)).2.1).trans ((v1 _ (by omega) npa).1.trans hSp)
  have hSb2 : ot_S H2 b = 0 := by
    rw [(vw b hb85).2.1]
    by_cases u : ot_ue b a
    · exact v0 b hb85 u
    · rw [(v1 b hb85 u).1]; exact hSb
  obtain ⟨F, hF, _⟩ := ot_2D hSp2
  have low := ot_low i2.2.2.2.1 (ot_room hb hF (by rw [hSb2]; decide))
  have p12 : ∀ p, ot_S H p ≠ 0 → ot_S H p = 1 ∨ ot_S H p = 2 := fun p h => (ot_S3 H p).resolve_left h
  have ps3 : ∀ q, q < 85 → PS q = 0 ∨ PS q = 1 ∨ PS q = 2 := fun q hq => by
    by_cases z : PS q = 0
    · exact Or.inl z
    · obtain ⟨p, p85, pu, ps, pe⟩ := c4 q hq z
      have e := (c3 p p85 pu ps).2.1
      rw [← pe] at e
      rcases p12 p ps with w | w
      · rw [w] at e; exact Or.inr (Or.inl e)
      · rw [w] at e; exact Or.inr (Or.inr e)
  have psu : ∀ q, q < 85 → ¬ PS q = 0 → ot_ue q b := fun q hq z => by
    obtain ⟨p, p85, pu, ps, pe⟩ := c4 q hq z
    rw [pe]; exact (ot_plU p pu).1
  have psb : ¬ PS b = 0 := by
    have e := (c3 a ha85 (Or.inl rfl) hSa).2.1
    rw [ot_pla] at e
    rw [e]
    exact ot_nz hSa (ot_S2le H a)
  have n01 : ¬ (0 : Int32) = 1 := by decide
  have n02 : ¬ (0 : Int32) = 2 := by decide
  have z3 : ∀ q, q < 85 → PS q = 0 → H3 (340 + q) = H2 (340 + q) ∧ C3 (340 + q) = C1 (340 + q) := fun q hq z => (t2 q hq).2.2 (by rw [z]; exact n01) (by rw [z]; exact n02)
  have top0 : ∀ q, q < 85 → ot_ue q b → PS q = 0 → H3 (340 + q) = 0 := fun q hq u z => by
    have e : q ≠ b := fun w => by
      rw [w] at z
      exact psb z
    rw [(z3 q hq z).1]
    exact low q (u.resolve_left e) hq
  have col : ∀ q l, q < 85 → l < 5 → (l ≠ 4 ∨ ¬ ot_ue q b) → H3 (85 * l + q) = H2 (85 * l + q) ∧ C3 (85 * l + q) = C1 (85 * l + q) := fun q l hq hl h => by
    by_cases l4 : l = 4
    · rw [l4]
      have nb := h.resolve_left (fun z => z l4)
      have z : PS q = 0 := by
        by_cases z : PS q = 0
        · exact z
        · exact absurd (psu q hq z) nb
      exact z3 q hq z
    · exact t1 _ (by omega)
  obtain ⟨g, gf, gt⟩ := ot_gr (H' := H3) i2 hb hb85 hF hd (fun q l hq hl h => (col q l hq hl h).1) (fun q u hq => by
      rcases ps3 q hq with z | z | z
      · exact Or.inl (top0 q hq u z)
      · exact Or.inr (Or.inl ((t2 q hq).1 z).1)
      · exact Or.inr (Or.inr (Or.inl ((t2 q hq).2.1 z)))) (by
      rcases ps3 b hb85 with z | z | z
      · exact absurd z psb
      · rw [((t2 b hb85).1 z).1]; decide
      · rw [(t2 b hb85).2.1 z]; decide) (fun q u hq hz => by
      have nz : ¬ PS q = 0 := fun z => hz (top0 q hq (Or.inr u) z)
      obtain ⟨p, p85, pu, ps, pe⟩ := c4 q hq nz
      have pa : p ≠ a := fun z => by
        rw [pe, z, ot_pla, ot_un_irr] at u
        exact absurd u (by decide)
      have hu := pu.resolve_left pa
      have p0 := ot_un_ne hu
      have ep := ((ot_plU (b := b) p pu).2 pa).2
      have s2 := ot_par2 i.1 p0 ps
      have cc := c3 _ (by omega : (p - 1) / 4 < 85) ((ot_unS p0).mp hu) (by rw [s2]; decide)
      rw [pe, ep]
      exact (t2 _ cc.1).2.1 (by rw [cc.2.1, s2]; rfl))
  have s0 : ∀ q, q < 85 → ot_ue q b → PS q = 0 → ot_S H3 q = 0 := fun q hq u z => ot_Sn ((gt q u hq).2.2 (Or.inl (top0 q hq u z)))
  have s1 : ∀ q, q < 85 → PS q = 1 → ot_S H3 q = 1 ∧ ot_V H3 C3 q = PV q := fun q hq z => by
    have u := psu q hq (by rw [z]; decide)
    obtain ⟨e, ec⟩ := (t2 q hq).1 z
    have L := (gt q u hq).1 e
    exact ⟨ot_S1 L e, (ot_V1 L e).trans ec⟩
  have s2 : ∀ q, q < 85 → PS q = 2 → ot_S H3 q = 2 ∧ ot_V H3 C3 q = 0 := fun q hq z => by
    have u := psu q hq (by rw [z]; decide)
    have e := (t2 q hq).2.1 z
    have L := (gt q u hq).2.1 e
    have nf : ¬ H3 (85 * 4 + q) = 1 := by show ¬ H3 (340 + q) = 1; rw [e]; decide
    exact ⟨ot_S2 L nf, ot_V2 L nf⟩
  have snz : ∀ q, q < 85 → ¬ PS q = 0 → ot_S H3 q ≠ 0 := fun q hq z => by
    rcases ps3 q hq with w | w | w
    · exact absurd w z
    · rw [(s1 q hq w).1]; decide
    · rw [(s2 q hq w).1]; decide
  refine ⟨g, fun q hq u hs => ?_, fun q hq u hs => ?_, fun q hq u nb => ?_, fun q hq na nb => ?_, ?_, c2, fun q hq u => ot_deadS hb hSb u⟩
  · obtain ⟨x1, x2, x3⟩ := c3 q hq u hs
    refine ⟨x1, ?_⟩
    rcases p12 q hs with w | w
    · rw [w] at x2
      have y := s1 _ x1 x2
      exact ⟨y.1.trans w.symm, y.2.trans x3⟩
    · rw [w] at x2
      have y := s2 _ x1 x2
      exact ⟨y.1.trans w.symm, by rw [y.2, ot_V0 (by rw [w]; decide)]⟩
  · exact c4 q hq (fun z => hs (s0 q hq u z))
  · rw [(gf q hq nb).2.1, (vw q hq).2.1]
    exact v0 q hq u
  · obtain ⟨fL, fS, _⟩ := gf q hq nb
    refine ⟨(fS.trans (vw q hq).2.1).trans (v1 q hq na).1, ?_⟩
    exact (ot_VL fL (fun l hl => (col q l hq (ot_Ll hl) (Or.inr nb)).1) (fun l hl => (col q l hq (ot_Ll hl) (Or.inr nb)).2)).trans (((vw q hq).2.2 C1).trans (v1 q hq na).2)
  · rw [c1]
    refine ot_smC 85 (fun q hq => ?_)
    show (if PS q = 0 then 0 else 1) = (if (q = b ∨ ot_un q b = true) ∧ ot_S H3 q ≠ 0 then 1 else 0)
    by_cases z : PS q = 0
    · rw [if_pos z, if_neg (fun w => w.2 (s0 q hq w.1 z))]
    · rw [if_neg z, if_pos ⟨psu q hq z, snz q hq z⟩]
theorem ot_wmove {post : Int32 → St1 → Prop} {fl fo : Int32} {H C W PS PV : Nat → Int32} {a b : Nat} (i : ot_I H) (ha85 : a < 85) (hb85 : b < 85) (Km : ∀ fl fo W PS PV, post (-1) (1, fl, fo, H, C, W, PS, PV))
    (K : ∀ n fl fo H' C' W PS PV, 1 ≤ n → n ≤ 85 → ot_I H' → ot_MR H C H' C' a b n → ot_S H a ≠ 0 → b ≠ 0 → post (nI n) (1, fl, fo, H', C', W, PS, PV)) :
    wpX_move post (1, fl, fo, H, C, W, PS, PV) (nI a) (nI b) := by
  unfold wpX_move
  refine ot_wsort ha85 (fun fl fo W => ?_)
  have ba := ot_S2le H a
  refine pk_le (ot_S H a) 0 (fun _ => Km _ _ _ _ _) (fun hs => pk_eq a 0 (fun _ => Km _ _ _ _ _) (fun ha => ?_))
  refine ot_wroom hb85 (fun hb hSb hSp fl fo W => br_f (by decide) ?_) (fun fl fo W => br_t rfl (Km _ _ _ _ _))
  refine ot_wun hb85 ha85 (fun _ => br_f (by decide) (Km _ _ _ _ _)) (fun hnu => br_t rfl ?_)
  refine ot_wcopy ha ha85 hb85 (fun fl fo W PS PV => br_f (by decide) (Km _ _ _ _ _)) (fun n fl fo W PS PV c => ?_)
  have hn : n ≤ 85 := by
    rw [c.2.1]
    exact ot_csB 85
  have hn1 : 1 ≤ n := by
    obtain ⟨c1, c2, c3, c4⟩ := c
    have e := (c3 a ha85 (Or.inl rfl) (by omega)).2.1
    rw [ot_pla] at e
    have := ot_smU (f := fun q => if PS q = 0 then 0 else 1) (g := fun q => if q = b then 0 else if PS q = 0 then 0 else 1) 85 hb85 (fun q _ hq => by
      show _ = (if q = b then 0 else if PS q = 0 then 0 else 1)
      rw [if_neg hq])
    have e1 : (if PS b = 0 then 0 else 1) = 1 := by rw [if_neg (by rw [e]; exact ot_nz (by omega) ba)]
    have e2 : (if b = b then 0 else if PS b = 0 then 0 else 1) = 0 := by rw [if_pos rfl]
    rw [e2, e1] at this
    unfold ot_cn at c1
    omega
  refine br_t (nI_pos' (by omega)) (ot_wtake i ha ha85 (fun fl fo H1 C1 W i1 v1 v0 => ot_wpar hb (by omega) ?_))
  have npa : ¬ ot_ue ((b - 1) / 4) a := fun z => hnu ((ot_unS hb).mpr z)
  refine ot_wcu i1 (by omega) ((v1 _ (by omega) npa).1.trans hSp) (fun H2 i2 vw hd _ => ot_w59 (fun H3 C3 t => ?_))
  obtain ⟨g, m⟩ := ot_mv i ha ha85 hb hb85 (by omega) hSb hSp hnu c v1 v0 i2 vw hd t
  exact K n _ _ _ _ _ _ _ hn1 hn g m (by omega) hb
theorem ot_nm1 {n : Nat} (h : n < 2 ^ 31) : ¬ nI n = -1 := fun e => by
  have := nI_pos h
  rw [e] at this
  exact this (by decide)
theorem ot_wmoved {post : Int32 → St1 → Prop} {fl fo : Int32} {H C W PS PV : Nat → Int32} {a b : Nat} (i : ot_I H) (ha85 : a < 85) (hb85 : b < 85)
    (K : ∀ fl fo H' C' W PS PV, ot_I H' → post 1 (1, fl, fo, H', C', W, PS, PV)) : wpL_moved post (1, fl, fo, H, C, W, PS, PV) (nI a) (nI b) := by
  unfold wpL_moved
  refine ot_wstate (fun fl fo W => ot_wmove i ha85 hb85 (fun fl fo W PS PV => ?_) (fun n fl fo H1 C1 W PS PV n1 n85 i1 m hsa hb => ?_))
  · exact br_t rfl (ot_wstate (fun fl fo W => br_t rfl (K _ _ _ _ _ _ _ i)))
  · refine br_f (ot_nm1 (by omega)) (pk_lt n 1 (fun z => absurd z (by omega)) (fun _ => ot_wsort ha85 (fun fl fo W => ?_)))
    have nab : ¬ ot_ue a b := fun u => hsa (m.2.2.2.2.2.2 a ha85 u)
    rw [m.2.2.1 a ha85 (Or.inl rfl) nab]
    refine br_t rfl (ot_wsort hb85 (fun fl fo W => ?_))
    have e := (m.1 a ha85 (Or.inl rfl) hsa).2.1
    rw [ot_pla] at e
    rw [e]
    refine br_f (ot_nz hsa (ot_S2le H a)) (ot_wmove i1 hb85 ha85 (fun fl fo W PS PV => br_t rfl (K _ _ _ _ _ _ _ i1)) (fun k fl fo H2 C2 W PS PV k1 k85 i2 w _ _ => ?_))
    obtain ⟨ek, vw⟩ := ot_back m w
    rw [ek]
    refine br_f (ot_nm1 (by omega)) (br_t rfl (ot_wstate (fun fl fo W => br_t ?_ (K _ _ _ _ _ _ _ i2))))
    exact ot_stC (fun q hq => (vw q hq).1) (fun q hq => (vw q hq).2) 85 (Nat.le_refl 85)
end
section
/-! fill, mount, init, and the law's loop -/
/-- a tree that is not mounted: the two upper layers are empty -/
def ot_U (H : Nat → Int32) : Prop := H 340 = 2 ∧ H 255 = 2 ∧ ∀ q, q ≠ 0 → q < 85 → H (340 + q) = 0 ∧ H (255 + q) = 0
theorem ot_UI {H : Nat → Int32} (u : ot_U H) : ot_I H := by
  obtain ⟨u1, u2, u3⟩ := u
  refine ⟨u1, u2, fun q hq => ?_, fun q h0 hq h => absurd (u3 q h0 hq).1 h, fun q h0 hq h => absurd (u3 q h0 hq).2 h⟩
  by_cases e : q = 0
  · rw [e]; exact Or.inr (Or.inr (Or.inl u1))
  · exact Or.inl (u3 q e hq).1
theorem ot_UU {H : Nat → Int32} {k : Nat} {x : Int32} (u : ot_U H) (hk : k < 255) : ot_U (upd H k x) := by
  obtain ⟨u1, u2, u3⟩ := u
  refine ⟨(pk_un (by omega)).trans u1, (pk_un (by omega)).trans u2, fun q h0 hq => ?_⟩
  rw [pk_un (by omega), pk_un (by omega)]
  exact u3 q h0 hq
theorem ot_wfill {post : Int32 → St1 → Prop} {fl fo s v : Int32} {H C W PS PV : Nat → Int32} {l p : Nat} (u : ot_U H) (hl : l < 3) (hp : p < 85) (K : ∀ r H' C', ot_U H' → post r (0, fl, fo, H', C', W, PS, PV)) :
    wpX_fill post (0, fl, fo, H, C, W, PS, PV) (nI l) (nI p) s v := by
  unfold wpX_fill
  have go : wX_fill_83 post (nI l) (nI p) s v 0 fl fo H C W PS PV := by
    unfold wX_fill_83
    rw [ot_ix, nI_clamp (by omega)]
    have i : vp_in (nI (85 * l + p)) 425 := vp_in_nI (by omega) (by omega)
    exact ⟨i, nm_e (br_c (fun _ => ⟨i, nm_e (K _ _ _ (ot_UU u (by omega)))⟩) (fun _ => ⟨i, nm_e (K _ _ _ (ot_UU u (by omega)))⟩))⟩
  refine br_t rfl (br_f (nI_pos (by omega)) (br_f (nI_nlt (a := 2) (b := l) (by omega) (by omega)) (pk_lt p 1 (fun _ => K _ _ _ u) (fun z => br_f (nI_nlt (a := 84) (b := p) (by omega) (by omega))
    (br_c (fun _ => K _ _ _ u) (fun _ => br_c (fun _ => ot_wpar (by omega) (by omega) ?_) (fun _ => K _ _ _ u)))))))
  refine ⟨pk_in (85 * l + (p - 1) / 4) 425 (by omega) (ot_ix l _), nm_e ⟨pk_in (85 * l + p) 425 (by omega) (ot_ix l p), ?_⟩⟩
  exact br_c (fun _ => br_c (fun _ => go) (fun _ => br_c (fun _ => go) (fun _ => K _ _ _ u))) (fun _ => K _ _ _ u)
theorem ot_winit {post : St1 → Prop} (K : ∀ H, ot_U H → post (0, 0, 0, H, (fun _ => 0), (fun _ => 0), (fun _ => 0), (fun _ => 0))) : wpX_init post 5 1024 (0, 0, 0) := by
  unfold wpX_init
  refine ⟨by omega, by omega, by omega, by omega, by omega, by omega, by omega, by omega, by omega, by omega, ?_⟩
  refine pk_loop (fun n i s => wX_init_47 post 5 1024 5 1024 0 0 0 n (nI i) s (fun _ => 0) (fun _ => 0) (fun _ => 0) (fun _ => 0)) (fun i s => (∀ l, l < i → s (85 * l) = 2) ∧ (∀ j, (∀ l, l < i → j ≠ 85 * l) → s j = 0)) 5 0 (fun _ => 0) (by omega)
    ⟨fun l hl => absurd hl (by omega), fun j _ => rfl⟩ (fun n s h => ?_) (fun n i s hi h hw => ?_)
  · refine pk_le 5 5 (fun _ => K s ⟨h.1 4 (by omega), h.1 3 (by omega), fun q h0 hq => ⟨h.2 _ (fun l hl => by omega), h.2 _ (fun l hl => by omega)⟩⟩) (fun z => absurd z (by omega))
  · have e : (85 : Int32) * nI i = nI (85 * i) := pk_mul 85 i
    refine pk_le 5 i (fun z => absurd z (by omega)) (fun _ => ⟨pk_in (85 * i) 425 (by omega) e, ?_⟩)
    rw [e, nI_clamp (by omega)]
    refine nm_e (nm_r (nI_1 i) (hw _ ⟨fun l hl => ?_, fun j hj => ?_⟩))
    · by_cases el : l = i
      · rw [el, pk_us]
      · rw [pk_un (by omega)]; exact h.1 l (by omega)
    · rw [pk_un (hj i (by omega))]
      exact h.2 j (fun l hl => hj l (by omega))
theorem ot_md (x : Int32) (d : Nat) (D : Int32) (hD : D = nI d) (h0 : 0 < d) (h : d < 2 ^ 31) : ∃ k, k < d ∧ (x &&& 255) - (x &&& 255) / D * D = nI k := by
  obtain ⟨j, hj, e⟩ := pk_andE x (m := 255) 8 (by decide)
  refine ⟨j % d, Nat.mod_lt _ h0, ?_⟩
  rw [e, hD]
  exact pk_rem (by omega) h0 h
theorem ot_a4 (i : Nat) : nI i + 4 = nI (i + 4) := nI_add i 4
theorem ot_w429a {post : Int32 → Prop} {L : Nat} {xs : Nat → Int32} {J : Int32 → Int32 → Int32 → Int32 → Int32 → (Nat → Int32) → (Nat → Int32) → (Nat → Int32) → (Nat → Int32) → (Nat → Int32) → Prop} {i kc ks : Nat} {fl fo : Int32} {H C W PS PV : Nat → Int32}
    (K : J 0 (nI (i + 4)) 0 fl fo H C W PS PV) : wL_law_429 post L xs J 0 (nI i) kc ks 0 fl fo H C W PS PV := by
  unfold wL_law_429
  exact br_t rfl (nm_r (ot_a4 i) K)
theorem ot_w429b {post : Int32 → Prop} {L : Nat} {xs : Nat → Int32} {J : Int32 → Int32 → Int32 → Int32 → Int32 → (Nat → Int32) → (Nat → Int32) → (Nat → Int32) → (Nat → Int32) → (Nat → Int32) → Prop} {i kc ks : Nat} {fl fo : Int32} {H C W PS PV : Nat → Int32} (h : ot_I H)
    (K : ∀ fl fo H C W PS PV, ot_I H → J 1 (nI (i + 4)) 1 fl fo H C W PS PV) : wL_law_429 post L xs J 1 (nI i) kc ks 1 fl fo H C W PS PV := by
  unfold wL_law_429
  exact br_f (by decide) (ot_wsummed h.1 (fun fl fo W => br_f (by decide) (nm_r (ot_a4 i) (K _ _ _ _ _ _ _ h))))
/-- one step of the law over a tree that isn't mounted -/
theorem ot_w106a {post : Int32 → Prop} {L : Nat} {xs : Nat → Int32} {J : Int32 → Int32 → Int32 → Int32 → Int32 → (Nat → Int32) → (Nat → Int32) → (Nat → Int32) → (Nat → Int32) → (Nat → Int32) → Prop} {i k a b kc ks : Nat} {fl fo : Int32} {H C W PS PV : Nat → Int32}
    (hL : L ≤ 260) (hi : i + 4 ≤ L) (hk : k < 16) (ha : a < 85) (hb : b < 85) (u : ot_U H)
    (K0 : ∀ fl fo H C W PS PV, ot_U H → J 0 (nI (i + 4)) 0 fl fo H C W PS PV) (K : ∀ fl fo H C W PS PV, ot_I H → J 1 (nI (i + 4)) 1 fl fo H C W PS PV) :
    wL_law_106 post L xs J 0 (nI i) (nI k) (nI a) (nI b) kc ks 0 fl fo H C W PS PV := by
  unfold wL_law_106
  refine ⟨pk_in (i + 3) L (by omega) (nI_add i 3), fun x7 _ => br_t rfl ⟨by decide, pk_in (i + 2) L (by omega) (nI_add i 2), ?_⟩⟩
  obtain ⟨l, hl, el⟩ := ot_md x7 3 3 rfl (by omega) (by omega)
  rw [el]
  refine ot_wfill u hl ha (fun r H C u => ⟨by decide, ot_wfill u hl hb (fun r H C u => ?_)⟩)
  refine pk_eq k 15 (fun _ => ?_) (fun _ => ot_w429a (K0 _ _ _ _ _ _ _ u))
  have h := ot_UI u
  unfold wpX_mount
  refine br_t rfl (ot_wtot (fun fl fo W => ot_wtot (fun fl fo W => br_t rfl (br_f (by decide) (br_t rfl (ot_w429b h K))))))
theorem ot_w235 {post : Int32 → Prop} {L : Nat} {xs : Nat → Int32} {J : Int32 → Int32 → Int32 → Int32 → Int32 → (Nat → Int32) → (Nat → Int32) → (Nat → Int32) → (Nat → Int32) → (Nat → Int32) → Prop} {i k a t kc ks : Nat} {fl fo v z : Int32} {H C W PS PV : Nat → Int32}
    (hk : k < 16) (ha : a < 85) (h : ot_I H) (hz : (z = 0 ∧ ot_tot (ot_S H) 85 = t + 1 ∧ (k ≤ 2 → ot_V H C a = v)) ∨ (¬ z = 0 ∧ ot_tot (ot_S H) 85 = t)) (K : ∀ fl fo H C W PS PV, ot_I H → J 1 (nI (i + 4)) 1 fl fo H C W PS PV) :
    wL_law_235 post L xs J 1 (nI i) (nI k) (nI a) v (nI t) z kc ks 1 fl fo H C W PS PV := by
  unfold wL_law_235 wL_law_284
  rcases hz with ⟨z0, ht, hv⟩ | ⟨z0, ht⟩
  · refine br_t z0 (ot_wtot (fun fl fo W => br_t (by rw [ht, nI_1]) (pk_lt 2 k (fun _ => ot_w429b h K) (fun k2 => ot_wval ha (fun fl fo W => br_t (hv k2) (ot_w429b h K))))))
  · exact br_f z0 (ot_wtot (fun fl fo W => br_t (by rw [ht]) (ot_w429b h K)))
theorem ot_w340 {post : Int32 → Prop} {L : Nat} {xs : Nat → Int32} {J : Int32 → Int32 → Int32 → Int32 → Int32 → (Nat → Int32) → (Nat → Int32) → (Nat → Int32) → (Nat → Int32) → (Nat → Int32) → Prop} {i t kc ks : Nat} {fl fo z : Int32} {H C W PS PV : Nat → Int32}
    (h : ot_I H) (hz : (z = 0 ∧ t = ot_tot (ot_S H) 85 + 1) ∨ (¬ z = 0 ∧ t = ot_tot (ot_S H) 85)) (K : ∀ fl fo H C W PS PV, ot_I H → J 1 (nI (i + 4)) 1 fl fo H C W PS PV) :
    wL_law_340 post L xs J 1 (nI i) (nI t) z kc ks 1 fl fo H C W PS PV := by
  unfold wL_law_340 wL_law_358
  rcases hz with ⟨z0, ht⟩ | ⟨z0, ht⟩
  · exact ot_wtot (fun fl fo W => br_t z0 (br_t (by rw [ht, nI_pred]) (ot_w429b h K)))
  · exact ot_wtot (fun fl fo W => br_f z0 (br_t (by rw [ht]) (ot_w429b h K)))
/-- one step of the law over a mounted tree -/
theorem ot_w106b {post : Int32 → Prop} {L : Nat} {xs : Nat → Int32} {J : Int32 → Int32 → Int32 → Int32 → Int32 → (Nat → Int32) → (Nat → Int32) → (Nat → Int32) → (Nat → Int32) → (Nat → Int32) → Prop} {i k a b kc ks : Nat} {fl fo : Int32} {H C W PS PV : Nat → Int32}
    (hL : L ≤ 260) (hi : i + 4 ≤ L) (hk : k < 16) (ha : a < 85) (hb : b < 85) (h : ot_I H) (K : ∀ fl fo H C W PS PV, ot_I H → J 1 (nI (i + 4)) 1 fl fo H C W PS PV) :
    wL_law_106 post L xs J 1 (nI i) (nI k) (nI a) (nI b) kc ks 1 fl fo H C W PS PV := by
  unfold wL_law_106
  refine ⟨pk_in (i + 3) L (by omega) (nI_add i 3), fun v _ => br_f (by decide) (pk_lt 4 k (fun _ => pk_eq k 5 (fun _ => ?_) (fun _ => pk_lt 8 k (fun _ => pk_lt 12 k (fun _ => ?_) (fun _ => ?_)) (fun _ => ?_))) (fun k4 => ?_))⟩
  · exact ot_wwrite h ha (fun r fl fo H C W h => ot_w429b h K)
  · refine ot_wstate (fun fl fo W => ot_wpress h (fun H' C' h' vw => br_t rfl (ot_wstate (fun fl fo W => br_t ?_ (ot_w429b h' K)))))
    exact ot_stC (fun q hq => (vw q hq).1) (fun q hq => (vw q hq).2) 85 (Nat.le_refl 85)
  · refine ot_wmoved h ha hb (fun fl fo H C W PS PV h => br_f (by decide) (pk_eq k 12 (fun _ => ot_wmove h ha hb (fun fl fo W PS PV => ot_w429b h K) (fun n fl fo H' C' W PS PV _ _ h' _ _ _ => ot_w429b h' K)) (fun _ => ot_w429b h K)))
  · refine ot_wtot (fun fl fo W => ot_wremove h ha (fun fl fo H' C' W h' hz ht => br_t rfl (ot_wsort ha (fun fl fo W => ?_))) (fun fl fo W => br_f (by decide) (ot_w340 h (Or.inr ⟨by decide, rfl⟩) K)))
    rw [hz]
    exact br_t rfl (ot_w340 h' (Or.inl ⟨rfl, ht⟩) K)
  · refine ot_wtot (fun fl fo W => pk_lt 2 k (fun k2 => ?_) (fun k2 => ?_))
    · exact ot_wmakeDir h ha (fun fl fo H' C' W h' ht => ot_w235 hk ha h' (Or.inl ⟨rfl, ht, fun z => absurd z (by omega)⟩) K) (fun fl fo W => ot_w235 hk ha h (Or.inr ⟨by decide, rfl⟩) K)
    · exact ot_wmake h ha (fun fl fo H' C' W h' ht hv => ot_w235 hk ha h' (Or.inl ⟨rfl, ht, fun _ => hv⟩) K) (fun fl fo W => ot_w235 hk ha h (Or.inr ⟨by decide, rfl⟩) K)
theorem ot_w106 {post : Int32 → Prop} {L : Nat} {xs : Nat → Int32} {J : Int32 → Int32 → Int32 → Int32 → Int32 → (Nat → Int32) → (Nat → Int32) → (Nat → Int32) → (Nat → Int32) → (Nat → Int32) → Prop} {i k a b kc ks : Nat} {m fl fo : Int32} {H C W PS PV : Nat → Int32}
    (hL : L ≤ 260) (hi : i + 4 ≤ L) (hk : k < 16) (ha : a < 85) (hb : b < 85) (h : (m = 0 ∧ ot_U H) ∨ (m = 1 ∧ ot_I H))
    (K : ∀ m fl fo H C W PS PV, ((m = 0 ∧ ot_U H) ∨ (m = 1 ∧ ot_I H)) → J m (nI (i + 4)) m fl fo H C W PS PV) :
    wL_law_106 post L xs J m (nI i) (nI k) (nI a) (nI b) kc ks m fl fo H C W PS PV := by
  rcases h with ⟨rfl, h⟩ | ⟨rfl, h⟩
  · exact ot_w106a hL hi hk ha hb h (fun fl fo H C W PS PV u => K _ _ _ _ _ _ _ _ (Or.inl ⟨rfl, u⟩)) (fun fl fo H C W PS PV u => K _ _ _ _ _ _ _ _ (Or.inr ⟨rfl, u⟩))
  · exact ot_w106b hL hi hk ha hb h (fun fl fo H C W PS PV u => K _ _ _ _ _ _ _ _ (Or.inr ⟨rfl, u⟩))
theorem ot_w66 {post : Int32 → Prop} {L : Nat} {xs : Nat → Int32} {J : Int32 → Int32 → Int32 → Int32 → Int32 → (Nat → Int32) → (Nat → Int32) → (Nat → Int32) → (Nat → Int32) → (Nat → Int32) → Prop} {i k a kc ks : Nat} {m fl fo : Int32} {H C W PS PV : Nat → Int32}
    (hL : L ≤ 260) (hi : i + 4 ≤ L) (hk : k < 16) (ha : a < 85) (h : (m = 0 ∧ ot_U H) ∨ (m = 1 ∧ ot_I H))
    (K : ∀ m fl fo H C W PS PV, ((m = 0 ∧ ot_U H) ∨ (m = 1 ∧ ot_I H)) → J m (nI (i + 4)) m fl fo H C W PS PV) :
    wL_law_66 post L xs J m (nI i) (nI k) (nI a) kc ks m fl fo H C W PS PV := by
  unfold wL_law_66
  have v : vp_in (nI i + 2) L := pk_in (i + 2) L (by omega) (nI_add i 2)
  obtain ⟨b1, h1, e1⟩ := ot_md (xs (nI i + 2).toNatClampNeg) 21 21 rfl (by omega) (by omega)
  obtain ⟨b2, h2, e2⟩ := ot_md (xs (nI i + 2).toNatClampNeg) 85 85 rfl (by omega) (by omega)
  rw [e1, e2]
  exact ⟨v, br_c (fun _ => ⟨v, by decide, ot_w106 hL hi hk ha (by omega) h K⟩) (fun _ => ⟨v, by decide, ot_w106 hL hi hk ha h2 h K⟩)⟩
theorem ot_w12 {post : Int32 → Prop} (hp : post 1) {L : Nat} {xs : Nat → Int32} (hL : L ≤ 260) {kc ks : Nat} {fl fo : Int32} {H C W PS PV : Nat → Int32} (u : ot_U H) : ∃ n, wL_law_12 post L xs kc ks n 0 0 0 fl fo H C W PS PV := by
  refine pk_loop (σ := Int32 × Int32 × Int32 × (Nat → Int32) × (Nat → Int32) × (Nat → Int32) × (Nat → Int32) × (Nat → Int32)) (fun n j s => wL_law_12 post L xs kc ks n s.1 (nI (4 * j)) s.1 s.2.1 s.2.2.1 s.2.2.2.1 s.2.2.2.2.1 s.2.2.2.2.2.1 s.2.2.2.2.2.2.1 s.2.2.2.2.2.2.2)
    (fun j s => (s.1 = 0 ∧ ot_U s.2.2.2.1) ∨ (s.1 = 1 ∧ ot_I s.2.2.2.1)) (L / 4) 0 (0, fl, fo, H, C, W, PS, PV) (by omega) (Or.inl ⟨rfl, u⟩) (fun n s h => ?_) (fun n j s hj h hw => ?_)
  · obtain ⟨m, fl, fo, H, C, W, PS, PV⟩ := s
    have h : (m = 0 ∧ ot_U H) ∨ (m = 1 ∧ ot_I H) := h
    show wL_law_12 post L xs kc ks (n + 1) m (nI (4 * (L / 4))) m fl fo H C W PS PV
    refine pk_lt L (4 * (L / 4) + 4) (fun _ => ?_) (fun z => absurd z (by omega)) rfl (ot_a4 _)
    rcases h with ⟨rfl, h⟩ | ⟨rfl, h⟩
    · refine br_t rfl ?_
      unfold wpX_press
      exact br_t rfl (br_t rfl (ot_wtot0 (fun fl fo W => br_t rfl hp)))
    · exact br_f (by decide) hp
  · obtain ⟨m, fl, fo, H, C, W, PS, PV⟩ := s
    have h : (m = 0 ∧ ot_U H) ∨ (m = 1 ∧ ot_I H) := h
    show wL_law_12 post L xs kc ks (n + 1) m (nI (4 * j)) m fl fo H C W PS PV
    have hi : 4 * j + 4 ≤ L := by omega
    have hw' : ∀ m fl fo H C W PS PV, ((m = 0 ∧ ot_U H) ∨ (m = 1 ∧ ot_I H)) → wL_law_12 post L xs kc ks n m (nI (4 * j + 4)) m fl fo H C W PS PV := fun m fl fo H C W PS PV g => hw (m, fl, fo, H, C, W, PS, PV) g
    refine pk_lt L (4 * j + 4) (fun z => absurd z (by omega)) (fun _ => ⟨vp_in_nI (by omega) (by omega), ?_⟩) rfl (ot_a4 _)
    obtain ⟨k, hk, ek⟩ := pk_andE (xs (nI (4 * j)).toNatClampNeg) (m := 15) 4 (by decide)
    obtain ⟨a1, h1, e1⟩ := ot_md (xs (nI (4 * j) + 1).toNatClampNeg) 21 21 rfl (by omega) (by omega)
    obtain ⟨a2, h2, e2⟩ := ot_md (xs (nI (4 * j) + 1).toNatClampNeg) 85 85 rfl (by omega) (by omega)
    have v : vp_in (nI (4 * j) + 1) L := pk_in (4 * j + 1) L (by omega) (nI_1 _)
    rw [e1, e2]
    exact nm_r ek ⟨v, br_c (fun _ => ⟨v, by decide, ot_w66 hL hi hk (by omega) h hw'⟩) (fun _ => ⟨v, by decide, ot_w66 hL hi hk h2 h hw'⟩)⟩
theorem i_vc (xs : Nat → Int32) (L : Nat) (hL : L ≤ 260) : wpL_law (fun r => r = 1) L xs := by
  unfold wpL_law
  refine ⟨5, 1024, by omega, by omega, ot_winit (fun H u => ?_)⟩
  exact ot_w12 (post := fun r => r = 1) rfl hL u
end
