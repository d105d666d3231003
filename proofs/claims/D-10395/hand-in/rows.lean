section
/-! the pure picture: a point is (x / w, y / w), a condition a x + b y ≤ c -/
abbrev cd_P : Type := Int × Int × Int
def cd_al (A B : Nat → Int) (k : Nat) (P : cd_P) : Int := A k * P.2.1 - B k * P.1
def cd_turn (A B : Nat → Int) (k j : Nat) : Int := A k * B j - A j * B k
def cd_px (B C : Nat → Int) (k j : Nat) : Int := C k * B j - C j * B k
def cd_py (A C : Nat → Int) (k j : Nat) : Int := A k * C j - A j * C k
def cd_own (A B : Nat → Int) (k : Nat) : Int := if A k = 0 then B k else A k
def cd_oth (A B : Nat → Int) (k j : Nat) : Int := if A k = 0 then B j else A j
def cd_par (A B C : Nat → Int) (k j : Nat) : Bool :=
  if cd_own A B k ≤ 0 then !decide (cd_oth A B k j * C k < C j * cd_own A B k) else !decide (C j * cd_own A B k < cd_oth A B k j * C k)
def cd_hi (A B : Nat → Int) (k : Nat) (p : cd_P) : Option cd_P → Option cd_P
  | none => some p
  | some q => if cd_al A B k q * p.2.2 ≤ cd_al A B k p * q.2.2 then some q else some p
def cd_lo (A B : Nat → Int) (k : Nat) (p : cd_P) : Option cd_P → Option cd_P
  | none => some p
  | some q => if cd_al A B k p * q.2.2 ≤ cd_al A B k q * p.2.2 then some q else some p
def cd_cut (A B C : Nat → Int) (k j : Nat) (s : Option cd_P × Option cd_P) : Option (Option cd_P × Option cd_P) :=
  if cd_turn A B k j = 0 then (if cd_par A B C k j = true then some s else none)
  else if cd_turn A B k j ≤ 0 then some (cd_lo A B k (-cd_px B C k j, -cd_py A C k j, -cd_turn A B k j) s.1, s.2)
  else some (s.1, cd_hi A B k (cd_px B C k j, cd_py A C k j, cd_turn A B k j) s.2)
def cd_cuts (A B C : Nat → Int) (k : Nat) : Nat → Option (Option cd_P × Option cd_P)
  | 0 => some (none, none)
  | j + 1 => match cd_cuts A B C k j with
    | none => none
    | some s => cd_cut A B C k j s
def cd_upw (A B : Nat → Int) (p q : Int) (k : Nat) : Bool :=
  if 0 < q * A k - p * B k then true else
  if q * A k - p * B k = 0 then (if 0 < B k then true else if B k = 0 then (if 0 ≤ A k then false else true) else false) else false
def cd_move (A B C : Nat → Int) (p q : Int) (k : Nat) : Option cd_P :=
  match cd_cuts A B C k k with
  | some (some l, some h) => if cd_al A B k l * h.2.2 ≤ cd_al A B k h * l.2.2 then some (if cd_upw A B p q k = true then h else l) else none
  | _ => none
def cd_sol (A B C : Nat → Int) (p q : Int) : Nat → Option cd_P
  | 0 => some ((if p ≤ 0 then -50 else 50), (if q ≤ 0 then -50 else 50), 1)
  | m + 1 => match cd_sol A B C p q m with
    | none => none
    | some P => if C (m + 4) * P.2.2 < A (m + 4) * P.1 + B (m + 4) * P.2.1 then cd_move A B C p q (m + 4) else some P
/-- a point on the line of condition k -/
def cd_on (A B C : Nat → Int) (k : Nat) (P : cd_P) : Prop := 0 < P.2.2 ∧ A k * P.1 + B k * P.2.1 = C k * P.2.2
def cd_sat (A B C : Nat → Int) (i : Nat) (P : cd_P) : Prop := A i * P.1 + B i * P.2.1 ≤ C i * P.2.2
def cd_all (A B C : Nat → Int) (n : Nat) (P : cd_P) : Prop := ∀ i, i < n → cd_sat A B C i P
def cd_val (p q : Int) (P : cd_P) : Int := p * P.1 + q * P.2.1

/-! sums and signs -/
theorem cd_sq (a : Int) : 0 ≤ a * a := by
  rcases Int.le_total 0 a with h | h
  · exact Int.mul_nonneg h h
  · exact Int.mul_nonneg_of_nonpos_of_nonpos h h
theorem cd_sq0 {a : Int} (h : a ≠ 0) : 0 < a * a := by
  rcases Int.lt_or_gt_of_ne h with g | g
  · exact Int.mul_pos_of_neg_of_neg g g
  · exact Int.mul_pos g g
theorem cd_D {a b : Int} (h : a ≠ 0 ∨ b ≠ 0) : 0 < a * a + b * b := by
  have h1 := cd_sq a
  have h2 := cd_sq b
  rcases h with g | g
  · have := cd_sq0 g
    omega
  · have := cd_sq0 g
    omega
theorem cd_neg {D s : Int} (hD : 0 < D) : D * s ≤ 0 ↔ s ≤ 0 := by
  constructor
  · intro h
    rcases Int.lt_or_le 0 s with g | g
    · have := Int.mul_pos hD g
      omega
    · exact g
  · intro h
    exact Int.mul_nonpos_of_nonneg_of_nonpos (Int.le_of_lt hD) h
theorem cd_pos {D s : Int} (hD : 0 < D) : 0 ≤ D * s ↔ 0 ≤ s := by
  have h := cd_neg (s := -s) hD
  have e : D * -s = -(D * s) := by grind
  rw [e] at h
  omega
/-- a / u ≤ b / v ≤ c / w -/
theorem cd_tr {a b c u v w : Int} (hu : 0 < u) (hv : 0 < v) (hw : 0 < w) (h1 : a * v ≤ b * u) (h2 : b * w ≤ c * v) : a * w ≤ c * u := by
  have g1 : a * v * w ≤ b * u * w := Int.mul_le_mul_of_nonneg_right h1 (Int.le_of_lt hw)
  have g2 : b * w * u ≤ c * v * u := Int.mul_le_mul_of_nonneg_right h2 (Int.le_of_lt hu)
  have e1 : a * v * w = v * (a * w) := by grind
  have e2 : b * u * w = b * w * u := by grind
  have e3 : c * v * u = v * (c * u) := by grind
  rw [e1, e2] at g1
  rw [e3] at g2
  exact Int.le_of_mul_le_mul_left (Int.le_trans g1 g2) hv
theorem cd_slack (ak bk ck aj bj cj X Y W : Int) (h : ak * X + bk * Y = ck * W) :
    (ak * ak + bk * bk) * (aj * X + bj * Y - cj * W) = (ak * Y - bk * X) * (ak * bj - aj * bk) - (ak * (ak * cj - aj * ck) - bk * (ck * bj - cj * bk)) * W := by
  grind
theorem cd_obj (ak bk ck p q X Y W : Int) (h : ak * X + bk * Y = ck * W) :
    (ak * ak + bk * bk) * (p * X + q * Y) = (p * ak + q * bk) * ck * W + (q * ak - p * bk) * (ak * Y - bk * X) := by
  grind

/-! one condition on a line -/
theorem cd_meet (A B C : Nat → Int) (k j : Nat) : A k * cd_px B C k j + B k * cd_py A C k j = C k * cd_turn A B k j := by
  unfold cd_px cd_py cd_turn
  grind
theorem cd_sat_t {A B C : Nat → Int} {k : Nat} (hk : A k ≠ 0 ∨ B k ≠ 0) (j : Nat) {Q : cd_P} (hQ : cd_on A B C k Q) :
    cd_sat A B C j Q ↔ cd_al A B k Q * cd_turn A B k j ≤ (A k * cd_py A C k j - B k * cd_px B C k j) * Q.2.2 := by
  have hD := cd_D hk
  have e := cd_slack (A k) (B k) (C k) (A j) (B j) (C j) Q.1 Q.2.1 Q.2.2 hQ.2
  have h := cd_neg (s := A j * Q.1 + B j * Q.2.1 - C j * Q.2.2) hD
  rw [e] at h
  unfold cd_sat cd_al cd_turn cd_px cd_py
  omega
theorem cd_sat_0 {A B C : Nat → Int} {k : Nat} (hk : A k ≠ 0 ∨ B k ≠ 0) (j : Nat) {Q : cd_P} (hQ : cd_on A B C k Q) (ht : cd_turn A B k j = 0) :
    cd_sat A B C j Q ↔ cd_par A B C k j = true := by
  have hD := cd_D hk
  rw [cd_sat_t hk j hQ, ht, Int.mul_zero]
  have hW : 0 < Q.2.2 := hQ.1
  have e1 : (A k * cd_py A C k j - B k * cd_px B C k j) * Q.2.2 = Q.2.2 * (A k * cd_py A C k j - B k * cd_px B C k j) := Int.mul_comm _ _
  rw [e1, cd_pos hW]
  have ho : cd_own A B k ≠ 0 := by
    unfold cd_own
    split
    · rcases hk with h | h
      · contradiction
      · exact h
    · assumption
  have e2 : cd_own A B k * (A k * cd_py A C k j - B k * cd_px B C k j) = (A k * A k + B k * B k) * (C j * cd_own A B k - cd_oth A B k j * C k) := by
    unfold cd_own cd_oth cd_py cd_px
    unfold cd_turn at ht
    by_cases h0 : A k = 0
    · rw [if_pos h0, if_pos h0]
      grind
    · rw [if_neg h0, if_neg h0]
      grind
  generalize A k * cd_py A C k j - B k * cd_px B C k j = t at e2 ⊢
  unfold cd_par
  generalize cd_own A B k = o at ho e2 ⊢
  generalize cd_oth A B k j = v at e2 ⊢
  split
  · rename_i h
    have ho' : 0 < -o := by omega
    have e3 : -o * t = (A k * A k + B k * B k) * (v * C k - C j * o) := by grind
    rw [← cd_pos ho', e3, cd_pos hD]
    simp
  · rename_i h
    have ho' : 0 < o := by omega
    rw [← cd_pos ho', e2, cd_pos hD]
    simp
end
section
/-! the stretch of line k that the conditions below j leave -/
theorem cd_hi_iff {A B : Nat → Int} {k : Nat} {p : cd_P} {h : Option cd_P} (hp : 0 < p.2.2) (hh : ∀ x, h = some x → 0 < x.2.2) {Q : cd_P} (hQ : 0 < Q.2.2) :
    (∀ x, cd_hi A B k p h = some x → cd_al A B k Q * x.2.2 ≤ cd_al A B k x * Q.2.2) ↔
    ((∀ x, h = some x → cd_al A B k Q * x.2.2 ≤ cd_al A B k x * Q.2.2) ∧ cd_al A B k Q * p.2.2 ≤ cd_al A B k p * Q.2.2) := by
  cases h with
  | none =>
    constructor
    · intro H
      exact ⟨fun x e => (by cases e), H p rfl⟩
    · intro H x e
      cases e
      exact H.2
  | some q =>
    have hq : 0 < q.2.2 := hh q rfl
    have e : cd_hi A B k p (some q) = if cd_al A B k q * p.2.2 ≤ cd_al A B k p * q.2.2 then some q else some p := rfl
    rw [e]
    by_cases c : cd_al A B k q * p.2.2 ≤ cd_al A B k p * q.2.2
    · rw [if_pos c]
      constructor
      · intro H
        exact ⟨H, cd_tr hQ hq hp (H q rfl) c⟩
      · intro H
        exact H.1
    · rw [if_neg c]
      constructor
      · intro H
        refine ⟨fun x e => ?_, H p rfl⟩
        cases e
        exact cd_tr hQ hp hq (H p rfl) (Int.le_of_lt (Int.not_le.mp c))
      · intro H x e
        cases e
        exact H.2
theorem cd_lo_iff {A B : Nat → Int} {k : Nat} {p : cd_P} {l : Option cd_P} (hp : 0 < p.2.2) (hl : ∀ x, l = some x → 0 < x.2.2) {Q : cd_P} (hQ : 0 < Q.2.2) :
    (∀ x, cd_lo A B k p l = some x → cd_al A B k x * Q.2.2 ≤ cd_al A B k Q * x.2.2) ↔
    ((∀ x, l = some x → cd_al A B k x * Q.2.2 ≤ cd_al A B k Q * x.2.2) ∧ cd_al A B k p * Q.2.2 ≤ cd_al A B k Q * p.2.2) := by
  cases l with
  | none =>
    constructor
    · intro H
      exact ⟨fun x e => (by cases e), H p rfl⟩
    · intro H x e
      cases e
      exact H.2
  | some q =>
    have hq : 0 < q.2.2 := hl q rfl
    have e : cd_lo A B k p (some q) = if cd_al A B k p * q.2.2 ≤ cd_al A B k q * p.2.2 then some q else some p := rfl
    rw [e]
    by_cases c : cd_al A B k p * q.2.2 ≤ cd_al A B k q * p.2.2
    · rw [if_pos c]
      constructor
      · intro H
        exact ⟨H, cd_tr hp hq hQ c (H q rfl)⟩
      · intro H
        exact H.1
    · rw [if_neg c]
      constructor
      · intro H
        refine ⟨fun x e => ?_, H p rfl⟩
        cases e
        exact cd_tr hq hp hQ (Int.le_of_lt (Int.not_le.mp c)) (H p rfl)
      · intro H x e
        cases e
        exact H.2
theorem cd_hi_or {A B : Nat → Int} {k : Nat} {p : cd_P} {h : Option cd_P} {x : cd_P} (e : cd_hi A B k p h = some x) : x = p ∨ h = some x := by
  cases h with
  | none =>
    cases e
    exact Or.inl rfl
  | some q =>
    have e' : (if cd_al A B k q * p.2.2 ≤ cd_al A B k p * q.2.2 then some q else some p) = some x := e
    split at e'
    · exact Or.inr e'
    · cases e'
      exact Or.inl rfl
theorem cd_lo_or {A B : Nat → Int} {k : Nat} {p : cd_P} {h : Option cd_P} {x : cd_P} (e : cd_lo A B k p h = some x) : x = p ∨ h = some x := by
  cases h with
  | none =>
    cases e
    exact Or.inl rfl
  | some q =>
    have e' : (if cd_al A B k p * q.2.2 ≤ cd_al A B k q * p.2.2 then some q else some p) = some x := e
    split at e'
    · exact Or.inr e'
    · cases e'
      exact Or.inl rfl
theorem cd_hi_ne {A B : Nat → Int} {k : Nat} {p : cd_P} {h : Option cd_P} : cd_hi A B k p h ≠ none := by
  cases h with
  | none => exact fun e => by cases e
  | some q =>
    intro e
    have e' : (if cd_al A B k q * p.2.2 ≤ cd_al A B k p * q.2.2 then some q else some p) = none := e
    split at e' <;> cases e'
theorem cd_lo_ne {A B : Nat → Int} {k : Nat} {p : cd_P} {h : Option cd_P} : cd_lo A B k p h ≠ none := by
  cases h with
  | none => exact fun e => by cases e
  | some q =>
    intro e
    have e' : (if cd_al A B k p * q.2.2 ≤ cd_al A B k q * p.2.2 then some q else some p) = none := e
    split at e' <;> cases e'
/-- what the stretch s says of the points of line k -/
def cd_str (A B C : Nat → Int) (k j : Nat) (s : Option cd_P × Option cd_P) : Prop :=
  (∀ x, s.1 = some x → cd_on A B C k x) ∧ (∀ x, s.2 = some x → cd_on A B C k x) ∧
  ∀ Q, cd_on A B C k Q → (cd_all A B C j Q ↔ ((∀ x, s.1 = some x → cd_al A B k x * Q.2.2 ≤ cd_al A B k Q * x.2.2) ∧ (∀ x, s.2 = some x → cd_al A B k Q * x.2.2 ≤ cd_al A B k x * Q.2.2)))
theorem cd_all_s {A B C : Nat → Int} {j : Nat} {Q : cd_P} : cd_all A B C (j + 1) Q ↔ (cd_all A B C j Q ∧ cd_sat A B C j Q) := by
  constructor
  · intro h
    exact ⟨fun i hi => h i (by omega), h j (by omega)⟩
  · intro h i hi
    by_cases e : i = j
    · rw [e]
      exact h.2
    · exact h.1 i (by omega)
theorem cd_cut_ok {A B C : Nat → Int} {k : Nat} (hk : A k ≠ 0 ∨ B k ≠ 0) {j : Nat} {s : Option cd_P × Option cd_P} (hs : cd_str A B C k j s) :
    (cd_cut A B C k j s = none → ∀ Q, cd_on A B C k Q → ¬ cd_all A B C (j + 1) Q) ∧ (∀ s', cd_cut A B C k j s = some s' → cd_str A B C k (j + 1) s') := by
  obtain ⟨h1, h2, h3⟩ := hs
  unfold cd_cut
  by_cases c0 : cd_turn A B k j = 0
  · rw [if_pos c0]
    by_cases cp : cd_par A B C k j = true
    · rw [if_pos cp]
      refine ⟨fun e => (by cases e), fun s' e => ?_⟩
      cases e
      refine ⟨h1, h2, fun Q hQ => ?_⟩
      rw [cd_all_s, h3 Q hQ, cd_sat_0 hk j hQ c0]
      exact ⟨fun h => h.1, fun h => ⟨h, cp⟩⟩
    · rw [if_neg cp]
      refine ⟨fun _ Q hQ h => ?_, fun s' e => by cases e⟩
      rw [cd_all_s, cd_sat_0 hk j hQ c0] at h
      exact cp h.2
  · rw [if_neg c0]
    by_cases cl : cd_turn A B k j ≤ 0
    · rw [if_pos cl]
      refine ⟨fun e => (by cases e), fun s' e => ?_⟩
      cases e
      have hw : 0 < -cd_turn A B k j := by omega
      have hm := cd_meet A B C k j
      refine ⟨fun x e => ?_, h2, fun Q hQ => ?_⟩
      · rcases cd_lo_or e with g | g
        · rw [g]
          refine ⟨hw, ?_⟩
          show A k * -cd_px B C k j + B k * -cd_py A C k j = C k * -cd_turn A B k j
          grind
        · exact h1 x g
      · have hl := cd_lo_iff (A := A) (B := B) (k := k) (p := (-cd_px B C k j, -cd_py A C k j, -cd_turn A B k j)) (l := s.1) hw (fun x e => (h1 x e).1) (Q := Q) hQ.1
        rw [cd_all_s, h3 Q hQ, cd_sat_t hk j hQ]
        show _ ↔ ((∀ x, cd_lo A B k (-cd_px B C k j, -cd_py A C k j, -cd_turn A B k j) s.1 = some x → cd_al A B k x * Q.2.2 ≤ cd_al A B k Q * x.2.2) ∧ (∀ x, s.2 = some x → cd_al A B k Q * x.2.2 ≤ cd_al A B k x * Q.2.2))
        rw [hl]
        have e : cd_al A B k Q * cd_turn A B k j ≤ (A k * cd_py A C k j - B k * cd_px B C k j) * Q.2.2 ↔ cd_al A B k (-cd_px B C k j, -cd_py A C k j, -cd_turn A B k j) * Q.2.2 ≤ cd_al A B k Q * -cd_turn A B k j := by
          have e1 : cd_al A B k (-cd_px B C k j, -cd_py A C k j, -cd_turn A B k j) * Q.2.2 = -((A k * cd_py A C k j - B k * cd_px B C k j) * Q.2.2) := by
            show (A k * -cd_py A C k j - B k * -cd_px B C k j) * Q.2.2 = _
            grind
          have e2 : cd_al A B k Q * -cd_turn A B k j = -(cd_al A B k Q * cd_turn A B k j) := Int.mul_neg _ _
          rw [e1, e2]
          omega
        rw [e]
        exact ⟨fun h => ⟨⟨h.1.1, h.2⟩, h.1.2⟩, fun h => ⟨⟨h.1.1, h.2⟩, h.1.2⟩⟩
    · rw [if_neg cl]
      refine ⟨fun e => (by cases e), fun s' e => ?_⟩
      cases e
      have hw : 0 < cd_turn A B k j := by omega
      have hm := cd_meet A B C k j
      refine ⟨h1, fun x e => ?_, fun Q hQ => ?_⟩
      · rcases cd_hi_or e with g | g
        · rw [g]
          exact ⟨hw, hm⟩
        · exact h2 x g
      · have hl := cd_hi_iff (A := A) (B := B) (k := k) (p := (cd_px B C k j, cd_py A C k j, cd_turn A B k j)) (h := s.2) hw (fun x e => (h2 x e).1) (Q := Q) hQ.1
        rw [cd_all_s, h3 Q hQ, cd_sat_t hk j hQ]
        show _ ↔ ((∀ x, s.1 = some x → cd_al A B k x * Q.2.2 ≤ cd_al A B k Q * x.2.2) ∧ (∀ x, cd_hi A B k (cd_px B C k j, cd_py A C k j, cd_turn A B k j) s.2 = some x → cd_al A B k Q * x.2.2 ≤ cd_al A B k x * Q.2.2))
        rw [hl]
        exact ⟨fun h => ⟨h.1.1, h.1.2, h.2⟩, fun h => ⟨⟨h.1, h.2.1⟩, h.2.2⟩⟩
theorem cd_cuts_ok {A B C : Nat → Int} {k : Nat} (hk : A k ≠ 0 ∨ B k ≠ 0) (j : Nat) :
    (cd_cuts A B C k j = none → ∀ Q, cd_on A B C k Q → ¬ cd_all A B C j Q) ∧ (∀ s, cd_cuts A B C k j = some s → cd_str A B C k j s) := by
  induction j with
  | zero =>
    refine ⟨fun e => (by cases e), fun s e => ?_⟩
    cases e
    refine ⟨fun x e => (by cases e), fun x e => (by cases e), fun Q _ => ⟨fun _ => ⟨fun x e => (by cases e), fun x e => (by cases e)⟩, fun _ i hi => absurd hi (by omega)⟩⟩
  | succ j ih =>
    have e : cd_cuts A B C k (j + 1) = match cd_cuts A B C k j with
      | none => none
      | some s => cd_cut A B C k j s := rfl
    rw [e]
    cases hc : cd_cuts A B C k j with
    | none =>
      refine ⟨fun _ Q hQ h => ih.1 hc Q hQ (cd_all_s.mp h).1, fun s e => (by cases e)⟩
    | some s => exact cd_cut_ok hk (ih.2 s hc)
/-- an end is there once a condition has turned the right way -/
theorem cd_cuts_end {A B C : Nat → Int} {k : Nat} (j : Nat) : ∀ s, cd_cuts A B C k j = some s → ∀ i, i < j → (cd_turn A B k i < 0 → s.1 ≠ none) ∧ (0 < cd_turn A B k i → s.2 ≠ none) := by
  induction j with
  | zero => exact fun s _ i hi => absurd hi (by omega)
  | succ j ih =>
    intro s' e i hi
    have e0 : (match cd_cuts A B C k j with
      | none => none
      | some s => cd_cut A B C k j s) = some s' := e
    cases hc : cd_cuts A B C k j with
    | none =>
      rw [hc] at e0
      cases e0
    | some s =>
      rw [hc] at e0
      have e1 : cd_cut A B C k j s = some s' := e0
      have hi' := ih s hc
      unfold cd_cut at e1
      by_cases c0 : cd_turn A B k j = 0
      · rw [if_pos c0] at e1
        split at e1
        · cases e1
          by_cases ei : i = j
          · rw [ei]
            exact ⟨fun h => absurd c0 (by omega), fun h => absurd c0 (by omega)⟩
          · exact hi' i (by omega)
        · cases e1
      · rw [if_neg c0] at e1
        by_cases cl : cd_turn A B k j ≤ 0
        · rw [if_pos cl] at e1
          cases e1
          refine ⟨fun _ => cd_lo_ne, fun h => ?_⟩
          by_cases ei : i = j
          · rw [ei] at h
            omega
          · exact (hi' i (by omega)).2 h
        · rw [if_neg cl] at e1
          cases e1
          refine ⟨fun h => ?_, fun _ => cd_hi_ne⟩
          by_cases ei : i = j
          · rw [ei] at h
            omega
          · exact (hi' i (by omega)).1 h
end
section
/-! the best point: feasible, best, and there is none only if no point meets all -/
def cd_box (A B C : Nat → Int) : Prop :=
  (A 0 = 1 ∧ B 0 = 0 ∧ C 0 = 50) ∧ (A 1 = -1 ∧ B 1 = 0 ∧ C 1 = 50) ∧ (A 2 = 0 ∧ B 2 = 1 ∧ C 2 = 50) ∧ (A 3 = 0 ∧ B 3 = -1 ∧ C 3 = 50)
def cd_c9 (a : Int) : Prop := -9 ≤ a ∧ a ≤ 9
def cd_c99 (a : Int) : Prop := -99 ≤ a ∧ a ≤ 99
def cd_good (A B C : Nat → Int) (n : Nat) : Prop := ∀ i, i < n → cd_c9 (A i) ∧ cd_c9 (B i) ∧ cd_c99 (C i) ∧ (A i ≠ 0 ∨ B i ≠ 0)
theorem cd_ends {A B C : Nat → Int} (hb : cd_box A B C) {k : Nat} (h4 : 4 ≤ k) (hk : A k ≠ 0 ∨ B k ≠ 0) {s : Option cd_P × Option cd_P} (e : cd_cuts A B C k k = some s) : s.1 ≠ none ∧ s.2 ≠ none := by
  obtain ⟨⟨a0, b0, _⟩, ⟨a1, b1, _⟩, ⟨a2, b2, _⟩, ⟨a3, b3, _⟩⟩ := hb
  have g := cd_cuts_end k s e
  have t0 : cd_turn A B k 0 = -B k := by unfold cd_turn; rw [a0, b0]; omega
  have t1 : cd_turn A B k 1 = B k := by unfold cd_turn; rw [a1, b1]; omega
  have t2 : cd_turn A B k 2 = A k := by unfold cd_turn; rw [a2, b2]; omega
  have t3 : cd_turn A B k 3 = -A k := by unfold cd_turn; rw [a3, b3]; omega
  have g0 := g 0 (by omega)
  have g1 := g 1 (by omega)
  have g2 := g 2 (by omega)
  have g3 := g 3 (by omega)
  rw [t0] at g0
  rw [t1] at g1
  rw [t2] at g2
  rw [t3] at g3
  rcases hk with h | h
  · rcases Int.lt_or_gt_of_ne h with z | z
    · exact ⟨g2.1 z, g3.2 (by omega)⟩
    · exact ⟨g3.1 (by omega), g2.2 z⟩
  · rcases Int.lt_or_gt_of_ne h with z | z
    · exact ⟨g1.1 z, g0.2 (by omega)⟩
    · exact ⟨g0.1 (by omega), g1.2 z⟩
theorem cd_upw_t {A B : Nat → Int} {p q : Int} {k : Nat} (h : cd_upw A B p q k = true) : 0 ≤ q * A k - p * B k := by
  unfold cd_upw at h
  split at h
  · omega
  · split at h
    · omega
    · cases h
theorem cd_upw_f {A B : Nat → Int} {p q : Int} {k : Nat} (h : ¬ cd_upw A B p q k = true) : q * A k - p * B k ≤ 0 := by
  unfold cd_upw at h
  split at h
  · exact absurd rfl h
  · omega
theorem cd_val_on {A B C : Nat → Int} {k : Nat} (hk : A k ≠ 0 ∨ B k ≠ 0) (p q : Int) {P Q : cd_P} (hP : cd_on A B C k P) (hQ : cd_on A B C k Q)
    (h : (q * A k - p * B k) * (cd_al A B k Q * P.2.2 - cd_al A B k P * Q.2.2) ≤ 0) : cd_val p q Q * P.2.2 ≤ cd_val p q P * Q.2.2 := by
  have hD := cd_D hk
  have e1 := cd_obj (A k) (B k) (C k) p q P.1 P.2.1 P.2.2 hP.2
  have e2 := cd_obj (A k) (B k) (C k) p q Q.1 Q.2.1 Q.2.2 hQ.2
  have e : (A k * A k + B k * B k) * (cd_val p q Q * P.2.2 - cd_val p q P * Q.2.2) = (q * A k - p * B k) * (cd_al A B k Q * P.2.2 - cd_al A B k P * Q.2.2) := by
    unfold cd_val cd_al
    generalize A k * A k + B k * B k = D at e1 e2 ⊢
    generalize (p * A k + q * B k) * C k = K at e1 e2 ⊢
    generalize q * A k - p * B k = G at e1 e2 ⊢
    generalize A k * P.2.1 - B k * P.1 = tP at e1 ⊢
    generalize A k * Q.2.1 - B k * Q.1 = tQ at e2 ⊢
    generalize p * P.1 + q * P.2.1 = vP at e1 ⊢
    generalize p * Q.1 + q * Q.2.1 = vQ at e2 ⊢
    grind
  have := (cd_neg (s := cd_val p q Q * P.2.2 - cd_val p q P * Q.2.2) hD).mp (by rw [e]; exact h)
  omega
theorem cd_move_ok {A B C : Nat → Int} (hb : cd_box A B C) {k : Nat} (h4 : 4 ≤ k) (hk : A k ≠ 0 ∨ B k ≠ 0) (p q : Int) :
    (cd_move A B C p q k = none → ∀ Q, cd_on A B C k Q → ¬ cd_all A B C k Q) ∧
    (∀ P, cd_move A B C p q k = some P → cd_on A B C k P ∧ cd_all A B C k P ∧ ∀ Q, cd_on A B C k Q → cd_all A B C k Q → cd_val p q Q * P.2.2 ≤ cd_val p q P * Q.2.2) := by
  have hc := cd_cuts_ok (C := C) hk k
  unfold cd_move
  cases e : cd_cuts A B C k k with
  | none => exact ⟨fun _ => hc.1 e, fun P h => (by cases h)⟩
  | some s =>
    obtain ⟨s1, s2⟩ := s
    have hn := cd_ends hb h4 hk e
    obtain ⟨o1, o2, o3⟩ := hc.2 _ e
    cases s1 with
    | none => exact absurd rfl hn.1
    | some l =>
      cases s2 with
      | none => exact absurd rfl hn.2
      | some h =>
        have onl := o1 l rfl
        have onh := o2 h rfl
        have wl : 0 < l.2.2 := onl.1
        have wh : 0 < h.2.2 := onh.1
        show ((if cd_al A B k l * h.2.2 ≤ cd_al A B k h * l.2.2 then some (if cd_upw A B p q k = true then h else l) else none) = none → _) ∧ ∀ P, (if cd_al A B k l * h.2.2 ≤ cd_al A B k h * l.2.2 then some (if cd_upw A B p q k = true then h else l) else none) = some P → _
        by_cases c : cd_al A B k l * h.2.2 ≤ cd_al A B k h * l.2.2
        · rw [if_pos c]
          refine ⟨fun z => (by cases z), fun P z => ?_⟩
          by_cases u : cd_upw A B p q k = true
          · rw [if_pos u] at z
            cases z
            refine ⟨onh, (o3 h onh).mpr ⟨fun x z => ?_, fun x z => ?_⟩, fun Q hQ aQ => ?_⟩
            · cases z
              exact c
            · cases z
              exact Int.le_refl _
            · have hx := ((o3 Q hQ).mp aQ).2 h rfl
              exact cd_val_on hk p q onh hQ (Int.mul_nonpos_of_nonneg_of_nonpos (cd_upw_t u) (by omega))
          · rw [if_neg u] at z
            cases z
            refine ⟨onl, (o3 l onl).mpr ⟨fun x z => ?_, fun x z => ?_⟩, fun Q hQ aQ => ?_⟩
            · cases z
              exact Int.le_refl _
            · cases z
              exact c
            · have hx := ((o3 Q hQ).mp aQ).1 l rfl
              exact cd_val_on hk p q onl hQ (Int.mul_nonpos_of_nonpos_of_nonneg (cd_upw_f u) (by omega))
        · rw [if_neg c]
          refine ⟨fun _ Q hQ aQ => c ?_, fun P z => (by cases z)⟩
          have hx := (o3 Q hQ).mp aQ
          exact cd_tr wl hQ.1 wh (hx.1 l rfl) (hx.2 h rfl)
/-- between a point that meets condition k and one that doesn't there is one on its line -/
theorem cd_between {A B C : Nat → Int} {k : Nat} {Q P : cd_P} (wQ : 0 < Q.2.2) (wP : 0 < P.2.2) (sQ : cd_sat A B C k Q) (sP : C k * P.2.2 < A k * P.1 + B k * P.2.1) (aQ : cd_all A B C k Q) (aP : cd_all A B C k P) (p q : Int) (hv : cd_val p q Q * P.2.2 ≤ cd_val p q P * Q.2.2) :
    ∃ Z : cd_P, cd_on A B C k Z ∧ cd_all A B C k Z ∧ cd_val p q Q * Z.2.2 ≤ cd_val p q Z * Q.2.2 := by
  have g1 : 0 ≤ C k * Q.2.2 - (A k * Q.1 + B k * Q.2.1) := by
    have : A k * Q.1 + B k * Q.2.1 ≤ C k * Q.2.2 := sQ
    omega
  have g2 : 0 < A k * P.1 + B k * P.2.1 - C k * P.2.2 := by omega
  have d1 : C k * Q.2.2 - (A k * Q.1 + B k * Q.2.1) = C k * Q.2.2 - (A k * Q.1 + B k * Q.2.1) := rfl
  have d2 : A k * P.1 + B k * P.2.1 - C k * P.2.2 = A k * P.1 + B k * P.2.1 - C k * P.2.2 := rfl
  generalize hu : C k * Q.2.2 - (A k * Q.1 + B k * Q.2.1) = u at g1
  generalize hw : A k * P.1 + B k * P.2.1 - C k * P.2.2 = v at g2
  refine ⟨(v * Q.1 + u * P.1, v * Q.2.1 + u * P.2.1, v * Q.2.2 + u * P.2.2), ⟨?_, ?_⟩, fun i hi => ?_, ?_⟩
  · show 0 < v * Q.2.2 + u * P.2.2
    have h1 := Int.mul_pos g2 wQ
    have h2 := Int.mul_nonneg g1 (Int.le_of_lt wP)
    omega
  · show A k * (v * Q.1 + u * P.1) + B k * (v * Q.2.1 + u * P.2.1) = C k * (v * Q.2.2 + u * P.2.2)
    grind
  · show A i * (v * Q.1 + u * P.1) + B i * (v * Q.2.1 + u * P.2.1) ≤ C i * (v * Q.2.2 + u * P.2.2)
    have h1 : v * (A i * Q.1 + B i * Q.2.1) ≤ v * (C i * Q.2.2) := Int.mul_le_mul_of_nonneg_left (aQ i hi) (Int.le_of_lt g2)
    have h2 : u * (A i * P.1 + B i * P.2.1) ≤ u * (C i * P.2.2) := Int.mul_le_mul_of_nonneg_left (aP i hi) g1
    have e1 : A i * (v * Q.1 + u * P.1) + B i * (v * Q.2.1 + u * P.2.1) = v * (A i * Q.1 + B i * Q.2.1) + u * (A i * P.1 + B i * P.2.1) := by grind
    have e2 : C i * (v * Q.2.2 + u * P.2.2) = v * (C i * Q.2.2) + u * (C i * P.2.2) := by grind
    rw [e1, e2]
    omega
  · show (p * Q.1 + q * Q.2.1) * (v * Q.2.2 + u * P.2.2) ≤ (p * (v * Q.1 + u * P.1) + q * (v * Q.2.1 + u * P.2.1)) * Q.2.2
    have h1 : u * ((p * Q.1 + q * Q.2.1) * P.2.2) ≤ u * ((p * P.1 + q * P.2.1) * Q.2.2) := Int.mul_le_mul_of_nonneg_left hv g1
    have e1 : (p * Q.1 + q * Q.2.1) * (v * Q.2.2 + u * P.2.2) = v * ((p * Q.1 + q * Q.2.1) * Q.2.2) + u * ((p * Q.1 + q * Q.2.1) * P.2.2) := by grind
    have e2 : (p * (v * Q.1 + u * P.1) + q * (v * Q.2.1 + u * P.2.1)) * Q.2.2 = v * ((p * Q.1 + q * Q.2.1) * Q.2.2) + u * ((p * P.1 + q * P.2.1) * Q.2.2) := by grind
    rw [e1, e2]
    omega
/-- what the answer of a search over n conditions says -/
def cd_ans (A B C : Nat → Int) (p q : Int) (n : Nat) (r : Option cd_P) : Prop :=
  (r = none → ∀ Q : cd_P, 0 < Q.2.2 → ¬ cd_all A B C n Q) ∧
  ∀ P, r = some P → 0 < P.2.2 ∧ cd_all A B C n P ∧ ∀ Q : cd_P, 0 < Q.2.2 → cd_all A B C n Q → cd_val p q Q * P.2.2 ≤ cd_val p q P * Q.2.2
theorem cd_start1 (p x : Int) (w : Int) (h1 : x ≤ 50 * w) (h2 : -x ≤ 50 * w) : p * x ≤ p * (if p ≤ 0 then -50 else 50) * w := by
  split
  · rename_i h
    have := Int.mul_nonneg_of_nonpos_of_nonpos h (show -(x + 50 * w) ≤ 0 by omega)
    grind
  · rename_i h
    have := Int.mul_nonneg (show 0 ≤ p by omega) (show 0 ≤ 50 * w - x by omega)
    grind
theorem cd_ans_0 {A B C : Nat → Int} (hb : cd_box A B C) (p q : Int) : cd_ans A B C p q 4 (cd_sol A B C p q 0) := by
  obtain ⟨⟨a0, b0, c0⟩, ⟨a1, b1, c1⟩, ⟨a2, b2, c2⟩, ⟨a3, b3, c3⟩⟩ := hb
  refine ⟨fun e => (by cases e), fun P e => ?_⟩
  cases e
  refine ⟨(show (0 : Int) < 1 by decide), fun i hi => ?_, fun Q hw hQ => ?_⟩
  · show A i * (if p ≤ 0 then -50 else 50) + B i * (if q ≤ 0 then -50 else 50) ≤ C i * 1
    have hi' : i = 0 ∨ i = 1 ∨ i = 2 ∨ i = 3 := by omega
    rcases hi' with z | z | z | z
    · rw [z, a0, b0, c0]
      split <;> split <;> decide
    · rw [z, a1, b1, c1]
      split <;> split <;> decide
    · rw [z, a2, b2, c2]
      split <;> split <;> decide
    · rw [z, a3, b3, c3]
      split <;> split <;> decide
  · show (p * Q.1 + q * Q.2.1) * 1 ≤ (p * (if p ≤ 0 then -50 else 50) + q * (if q ≤ 0 then -50 else 50)) * Q.2.2
    have h0 : A 0 * Q.1 + B 0 * Q.2.1 ≤ C 0 * Q.2.2 := hQ 0 (by omega)
    have h1 : A 1 * Q.1 + B 1 * Q.2.1 ≤ C 1 * Q.2.2 := hQ 1 (by omega)
    have h2 : A 2 * Q.1 + B 2 * Q.2.1 ≤ C 2 * Q.2.2 := hQ 2 (by omega)
    have h3 : A 3 * Q.1 + B 3 * Q.2.1 ≤ C 3 * Q.2.2 := hQ 3 (by omega)
    rw [a0, b0, c0] at h0
    rw [a1, b1, c1] at h1
    rw [a2, b2, c2] at h2
    rw [a3, b3, c3] at h3
    have f1 := cd_start1 p Q.1 Q.2.2 (by omega) (by omega)
    have f2 := cd_start1 q Q.2.1 Q.2.2 (by omega) (by omega)
    rw [Int.mul_one, Int.add_mul]
    omega
theorem cd_ans_ok {A B C : Nat → Int} (hb : cd_box A B C) (p q : Int) (m : Nat) (hk : ∀ i, i < m + 4 → A i ≠ 0 ∨ B i ≠ 0) : cd_ans A B C p q (m + 4) (cd_sol A B C p q m) := by
  induction m with
  | zero => exact cd_ans_0 hb p q
  | succ m ih =>
    obtain ⟨i1, i2⟩ := ih (fun i hi => hk i (by omega))
    have e : cd_sol A B C p q (m + 1) = match cd_sol A B C p q m with
      | none => none
      | some P => if C (m + 4) * P.2.2 < A (m + 4) * P.1 + B (m + 4) * P.2.1 then cd_move A B C p q (m + 4) else some P := rfl
    rw [e, show m + 1 + 4 = (m + 4) + 1 by omega]
    cases hs : cd_sol A B C p q m with
    | none => exact ⟨fun _ Q hQ h => i1 hs Q hQ (cd_all_s.mp h).1, fun P z => (by cases z)⟩
    | some P =>
      obtain ⟨wP, aP, vP⟩ := i2 P hs
      show cd_ans A B C p q (m + 4 + 1) (if C (m + 4) * P.2.2 < A (m + 4) * P.1 + B (m + 4) * P.2.1 then cd_move A B C p q (m + 4) else some P)
      by_cases c : C (m + 4) * P.2.2 < A (m + 4) * P.1 + B (m + 4) * P.2.1
      · rw [if_pos c]
        have hm := cd_move_ok hb (show 4 ≤ m + 4 by omega) (hk (m + 4) (by omega)) p q
        refine ⟨fun z Q hQ aQ => ?_, fun P' z => ?_⟩
        · have aQ' := cd_all_s.mp aQ
          obtain ⟨Z, oZ, aZ, _⟩ := cd_between hQ wP aQ'.2 c aQ'.1 aP p q (vP Q hQ aQ'.1)
          exact hm.1 z Z oZ aZ
        · obtain ⟨oP, aP', vP'⟩ := hm.2 P' z
          refine ⟨oP.1, cd_all_s.mpr ⟨aP', Int.le_of_eq oP.2⟩, fun Q hQ aQ => ?_⟩
          have aQ' := cd_all_s.mp aQ
          obtain ⟨Z, oZ, aZ, vZ⟩ := cd_between hQ wP aQ'.2 c aQ'.1 aP p q (vP Q hQ aQ'.1)
          exact cd_tr hQ oZ.1 oP.1 vZ (vP' Z oZ aZ)
      · rw [if_neg c]
        refine ⟨fun z => (by cases z), fun P' z => ?_⟩
        cases z
        exact ⟨wP, cd_all_s.mpr ⟨aP, Int.not_lt.mp c⟩, fun Q hQ aQ => vP Q hQ (cd_all_s.mp aQ).1⟩
end
section
/-! bounds, congruence, fractions -/
def cd_bd (P : cd_P) : Prop := (-1782 ≤ P.1 ∧ P.1 ≤ 1782) ∧ (-1782 ≤ P.2.1 ∧ P.2.1 ≤ 1782) ∧ 0 < P.2.2 ∧ P.2.2 ≤ 162
theorem cd_mb {a b : Int} (M N : Int) (ha : -M ≤ a ∧ a ≤ M) (hb : -N ≤ b ∧ b ≤ N) : -(M * N) ≤ a * b ∧ a * b ≤ M * N := by
  have h1 := Int.mul_nonneg (show 0 ≤ M - a by omega) (show 0 ≤ N + b by omega)
  have h2 := Int.mul_nonneg (show 0 ≤ M + a by omega) (show 0 ≤ N - b by omega)
  have h3 := Int.mul_nonneg (show 0 ≤ M - a by omega) (show 0 ≤ N - b by omega)
  have h4 := Int.mul_nonneg (show 0 ≤ M + a by omega) (show 0 ≤ N + b by omega)
  have e1 : (M - a) * (N + b) = M * N + M * b - a * N - a * b := by grind
  have e2 : (M + a) * (N - b) = M * N - M * b + a * N - a * b := by grind
  have e3 : (M - a) * (N - b) = M * N - M * b - a * N + a * b := by grind
  have e4 : (M + a) * (N + b) = M * N + M * b + a * N + a * b := by grind
  rw [e1] at h1
  rw [e2] at h2
  rw [e3] at h3
  rw [e4] at h4
  generalize M * N = u at *
  generalize M * b = v at *
  generalize a * N = w at *
  generalize a * b = z at *
  omega
theorem cd_bd_px {A B C : Nat → Int} {n : Nat} (hg : cd_good A B C n) {k j : Nat} (hk : k < n) (hj : j < n) :
    (-1782 ≤ cd_px B C k j ∧ cd_px B C k j ≤ 1782) ∧ (-1782 ≤ cd_py A C k j ∧ cd_py A C k j ≤ 1782) ∧ -162 ≤ cd_turn A B k j ∧ cd_turn A B k j ≤ 162 := by
  obtain ⟨ak, bk, ck, _⟩ := hg k hk
  obtain ⟨aj, bj, cj, _⟩ := hg j hj
  have h1 := cd_mb 99 9 ck bj
  have h2 := cd_mb 99 9 cj bk
  have h3 := cd_mb 9 99 ak cj
  have h4 := cd_mb 9 99 aj ck
  have h5 := cd_mb 9 9 ak bj
  have h6 := cd_mb 9 9 aj bk
  unfold cd_px cd_py cd_turn
  omega
theorem cd_cut_bd {A B C : Nat → Int} {n : Nat} (hg : cd_good A B C n) {k j : Nat} (hk : k < n) (hj : j < n) {s s' : Option cd_P × Option cd_P}
    (h : (∀ x, s.1 = some x → cd_bd x) ∧ (∀ x, s.2 = some x → cd_bd x)) (e : cd_cut A B C k j s = some s') : (∀ x, s'.1 = some x → cd_bd x) ∧ (∀ x, s'.2 = some x → cd_bd x) := by
  obtain ⟨b1, b2, b3⟩ := cd_bd_px hg hk hj
  unfold cd_cut at e
  by_cases c0 : cd_turn A B k j = 0
  · rw [if_pos c0] at e
    split at e
    · cases e
      exact h
    · cases e
  · rw [if_neg c0] at e
    by_cases cl : cd_turn A B k j ≤ 0
    · rw [if_pos cl] at e
      cases e
      refine ⟨fun x z => ?_, h.2⟩
      rcases cd_lo_or z with g | g
      · rw [g]
        refine ⟨?_, ?_, ?_, ?_⟩ <;> dsimp only <;> omega
      · exact h.1 x g
    · rw [if_neg cl] at e
      cases e
      refine ⟨h.1, fun x z => ?_⟩
      rcases cd_hi_or z with g | g
      · rw [g]
        refine ⟨?_, ?_, ?_, ?_⟩ <;> dsimp only <;> omega
      · exact h.2 x g
theorem cd_cuts_bd {A B C : Nat → Int} {n : Nat} (hg : cd_good A B C n) {k : Nat} (hk : k < n) (j : Nat) (hj : j ≤ n) :
    ∀ s, cd_cuts A B C k j = some s → (∀ x, s.1 = some x → cd_bd x) ∧ (∀ x, s.2 = some x → cd_bd x) := by
  induction j with
  | zero =>
    intro s e
    cases e
    exact ⟨fun x z => (by cases z), fun x z => (by cases z)⟩
  | succ j ih =>
    intro s' e
    have e0 : (match cd_cuts A B C k j with
      | none => none
      | some s => cd_cut A B C k j s) = some s' := e
    cases hc : cd_cuts A B C k j with
    | none =>
      rw [hc] at e0
      cases e0
    | some s =>
      rw [hc] at e0
      exact cd_cut_bd hg hk (by omega) (ih (by omega) s hc) e0
theorem cd_move_bd {A B C : Nat → Int} {n : Nat} (hg : cd_good A B C n) {k : Nat} (hk : k < n) {p q : Int} {P : cd_P} (e : cd_move A B C p q k = some P) : cd_bd P := by
  unfold cd_move at e
  cases hc : cd_cuts A B C k k with
  | none =>
    rw [hc] at e
    cases e
  | some s =>
    rw [hc] at e
    have hb := cd_cuts_bd hg hk k (by omega) s hc
    obtain ⟨s1, s2⟩ := s
    cases s1 with
    | none => cases e
    | some l =>
      cases s2 with
      | none => cases e
      | some h =>
        have e' : (if cd_al A B k l * h.2.2 ≤ cd_al A B k h * l.2.2 then some (if cd_upw A B p q k = true then h else l) else none) = some P := e
        split at e'
        · split at e'
          · cases e'
            exact hb.2 _ rfl
          · cases e'
            exact hb.1 _ rfl
        · cases e'
theorem cd_sol_bd {A B C : Nat → Int} {n : Nat} (hg : cd_good A B C n) (p q : Int) (m : Nat) (hm : m + 4 ≤ n) : ∀ P, cd_sol A B C p q m = some P → cd_bd P := by
  induction m with
  | zero =>
    intro P e
    cases e
    refine ⟨?_, ?_, ?_, ?_⟩
    · dsimp only
      split <;> omega
    · dsimp only
      split <;> omega
    · show (0 : Int) < 1
      decide
    · show (1 : Int) ≤ 162
      decide
  | succ m ih =>
    intro P e
    have e0 : (match cd_sol A B C p q m with
      | none => none
      | some P => if C (m + 4) * P.2.2 < A (m + 4) * P.1 + B (m + 4) * P.2.1 then cd_move A B C p q (m + 4) else some P) = some P := e
    cases hc : cd_sol A B C p q m with
    | none =>
      rw [hc] at e0
      cases e0
    | some P' =>
      rw [hc] at e0
      have e1 : (if C (m + 4) * P'.2.2 < A (m + 4) * P'.1 + B (m + 4) * P'.2.1 then cd_move A B C p q (m + 4) else some P') = some P := e0
      split at e1
      · exact cd_move_bd hg (by omega) e1
      · cases e1
        exact ih (by omega) _ hc

/-! only the conditions below the count matter -/
def cd_same (A B C A' B' C' : Nat → Int) (n : Nat) : Prop := ∀ i, i < n → A i = A' i ∧ B i = B' i ∧ C i = C' i
theorem cd_hi_cg {A B A' B' : Nat → Int} {k : Nat} (ea : A k = A' k) (eb : B k = B' k) (p : cd_P) (h : Option cd_P) : cd_hi A B k p h = cd_hi A' B' k p h := by
  cases h with
  | none => rfl
  | some q =>
    unfold cd_hi cd_al
    rw [ea, eb]
theorem cd_lo_cg {A B A' B' : Nat → Int} {k : Nat} (ea : A k = A' k) (eb : B k = B' k) (p : cd_P) (h : Option cd_P) : cd_lo A B k p h = cd_lo A' B' k p h := by
  cases h with
  | none => rfl
  | some q =>
    unfold cd_lo cd_al
    rw [ea, eb]
theorem cd_cut_cg {A B C A' B' C' : Nat → Int} {n : Nat} (h : cd_same A B C A' B' C' n) {k j : Nat} (hk : k < n) (hj : j < n) (s : Option cd_P × Option cd_P) : cd_cut A B C k j s = cd_cut A' B' C' k j s := by
  obtain ⟨ak, bk, ck⟩ := h k hk
  obtain ⟨aj, bj, cj⟩ := h j hj
  have et : cd_turn A B k j = cd_turn A' B' k j := by
    unfold cd_turn
    rw [ak, bk, aj, bj]
  have ex : cd_px B C k j = cd_px B' C' k j := by
    unfold cd_px
    rw [ck, bk, cj, bj]
  have ey : cd_py A C k j = cd_py A' C' k j := by
    unfold cd_py
    rw [ck, ak, cj, aj]
  have ep : cd_par A B C k j = cd_par A' B' C' k j := by
    unfold cd_par cd_own cd_oth
    rw [ck, ak, cj, aj, bk, bj]
  unfold cd_cut
  rw [et, ex, ey, ep, cd_hi_cg ak bk, cd_lo_cg ak bk]
theorem cd_cuts_cg {A B C A' B' C' : Nat → Int} {n : Nat} (h : cd_same A B C A' B' C' n) {k : Nat} (hk : k < n) (j : Nat) (hj : j ≤ n) : cd_cuts A B C k j = cd_cuts A' B' C' k j := by
  induction j with
  | zero => rfl
  | succ j ih =>
    unfold cd_cuts
    rw [ih (by omega)]
    cases cd_cuts A' B' C' k j with
    | none => rfl
    | some s => exact cd_cut_cg h hk (by omega) s
theorem cd_move_cg {A B C A' B' C' : Nat → Int} {n : Nat} (h : cd_same A B C A' B' C' n) (p q : Int) {k : Nat} (hk : k < n) : cd_move A B C p q k = cd_move A' B' C' p q k := by
  obtain ⟨ak, bk, ck⟩ := h k hk
  unfold cd_move
  rw [cd_cuts_cg h hk k (by omega)]
  unfold cd_al cd_upw
  rw [ak, bk]
theorem cd_sol_cg {A B C A' B' C' : Nat → Int} {n : Nat} (h : cd_same A B C A' B' C' n) (p q : Int) (m : Nat) (hm : m + 4 ≤ n) : cd_sol A B C p q m = cd_sol A' B' C' p q m := by
  induction m with
  | zero => rfl
  | succ m ih =>
    obtain ⟨ak, bk, ck⟩ := h (m + 4) (by omega)
    unfold cd_sol
    rw [ih (by omega), ak, bk, ck, cd_move_cg h p q (show m + 4 < n by omega)]

/-! fractions -/
def cd_num (N W : Int) : Int := N.tdiv (Int.gcd N W)
def cd_den (N W : Int) : Int := W.tdiv (Int.gcd N W)
theorem cd_gpos {W : Int} (N : Int) (hW : 0 < W) : (0 : Int) < (Int.gcd N W : Int) := by
  have := Int.gcd_pos_of_ne_zero_right N (show W ≠ 0 by omega)
  omega
theorem cd_numE (N W : Int) : cd_num N W * (Int.gcd N W : Int) = N := Int.tdiv_mul_cancel (Int.gcd_dvd_left N W)
theorem cd_denE (N W : Int) : cd_den N W * (Int.gcd N W : Int) = W := Int.tdiv_mul_cancel (Int.gcd_dvd_right N W)
theorem cd_denP {W : Int} (N : Int) (hW : 0 < W) : 0 < cd_den N W := by
  have h := cd_denE N W
  have g := cd_gpos N hW
  rcases Int.lt_or_le 0 (cd_den N W) with z | z
  · exact z
  · have := Int.mul_nonpos_of_nonpos_of_nonneg z (Int.le_of_lt g)
    omega
theorem cd_numB (N W M : Int) (h : -M ≤ N ∧ N ≤ M) : -M ≤ cd_num N W ∧ cd_num N W ≤ M := by
  have := Int.natAbs_tdiv_le_natAbs N (Int.gcd N W)
  unfold cd_num
  omega
theorem cd_denB (N W M : Int) (h : -M ≤ W ∧ W ≤ M) : -M ≤ cd_den N W ∧ cd_den N W ≤ M := by
  have := Int.natAbs_tdiv_le_natAbs W (Int.gcd N W)
  unfold cd_den
  omega
theorem cd_fitsE (p q X Y W : Int) (hW : 0 < W) :
    cd_num (p * X + q * Y) W * cd_den X W * cd_den Y W = (p * cd_num X W * cd_den Y W + q * cd_num Y W * cd_den X W) * cd_den (p * X + q * Y) W := by
  have n0 := cd_numE (p * X + q * Y) W
  have m0 := cd_denE (p * X + q * Y) W
  have n1 := cd_numE X W
  have m1 := cd_denE X W
  have n2 := cd_numE Y W
  have m2 := cd_denE Y W
  have p0 := cd_gpos (p * X + q * Y) hW
  have p1 := cd_gpos X hW
  have p2 := cd_gpos Y hW
  generalize cd_num (p * X + q * Y) W = n at *
  generalize cd_den (p * X + q * Y) W = m at *
  generalize (Int.gcd (p * X + q * Y) W : Int) = g0 at *
  generalize cd_num X W = x at *
  generalize cd_den X W = u at *
  generalize (Int.gcd X W : Int) = g1 at *
  generalize cd_num Y W = y at *
  generalize cd_den Y W = v at *
  generalize (Int.gcd Y W : Int) = g2 at *
  have hp : (0 : Int) < g0 * (g1 * g2) := Int.mul_pos p0 (Int.mul_pos p1 p2)
  have e : g0 * (g1 * g2) * (n * u * v) = g0 * (g1 * g2) * ((p * x * v + q * y * u) * m) := by
    have l : g0 * (g1 * g2) * (n * u * v) = (n * g0) * (u * g1) * (v * g2) := by grind
    have r : g0 * (g1 * g2) * ((p * x * v + q * y * u) * m) = (p * (x * g1) * (v * g2) + q * (y * g2) * (u * g1)) * (m * g0) := by grind
    rw [l, r, n0, m0, n1, m1, n2, m2]
    grind
  exact Int.eq_of_mul_eq_mul_left (by omega) e
theorem cd_fracLe {N W N' W' : Int} (hW : 0 < W) (hW' : 0 < W') (h : N' * W ≤ N * W') : cd_num N' W' * cd_den N W ≤ cd_num N W * cd_den N' W' := by
  have n0 := cd_numE N W
  have m0 := cd_denE N W
  have n1 := cd_numE N' W'
  have m1 := cd_denE N' W'
  have p0 := cd_gpos N hW
  have p1 := cd_gpos N' hW'
  generalize cd_num N W = n at *
  generalize cd_den N W = m at *
  generalize (Int.gcd N W : Int) = g at *
  generalize cd_num N' W' = e at *
  generalize cd_den N' W' = f at *
  generalize (Int.gcd N' W' : Int) = g' at *
  have hp : (0 : Int) < g * g' := Int.mul_pos p0 p1
  have l : g * g' * (e * m) = (e * g') * (m * g) := by grind
  have r : g * g' * (n * f) = (n * g) * (f * g') := by grind
  refine Int.le_of_mul_le_mul_left (a := g * g') ?_ hp
  rw [l, r, n0, m0, n1, m1]
  exact h
end
section
/-! ints and longs as whole numbers -/
def cd_L (x : Int) : Int64 := Int64.ofInt x
def cd_I (x : Int) : Int32 := Int32.ofInt x
def cd_T (a : Nat → Int32) (j : Nat) : Int := (a j).toInt
def cd_s (x : Int) : Prop := -1000000000 ≤ x ∧ x ≤ 1000000000
theorem cd_br {c A B : Prop} (d : Prop) (h : c ↔ d) (f : d → A) (g : ¬ d → B) : (c → A) ∧ (¬ c → B) := ⟨fun z => f (h.mp z), fun z => g (fun y => z (h.mpr y))⟩
theorem cd_Ladd (x y : Int) : cd_L x + cd_L y = cd_L (x + y) := (Int64.ofInt_add x y).symm
theorem cd_Lsub (x y : Int) : cd_L x - cd_L y = cd_L (x - y) := (Int64.ofInt_sub x y).symm
theorem cd_Lmul (x y : Int) : cd_L x * cd_L y = cd_L (x * y) := (Int64.ofInt_mul x y).symm
theorem cd_Lneg (x : Int) : -cd_L x = cd_L (-x) := (Int64.ofInt_neg x).symm
theorem cd_Iadd (x y : Int) : cd_I x + cd_I y = cd_I (x + y) := (Int32.ofInt_add x y).symm
theorem cd_Isub (x y : Int) : cd_I x - cd_I y = cd_I (x - y) := (Int32.ofInt_sub x y).symm
theorem cd_Imul (x y : Int) : cd_I x * cd_I y = cd_I (x * y) := (Int32.ofInt_mul x y).symm
theorem cd_Ineg (x : Int) : -cd_I x = cd_I (-x) := (Int32.ofInt_neg x).symm
theorem cd_Lof (x : Int32) : x.toInt64 = cd_L x.toInt := rfl
theorem cd_Iof (x : Int32) : x = cd_I x.toInt := (Int32.ofInt_toInt x).symm
theorem cd_LT {x : Int} (h : cd_s x) : (cd_L x).toInt = x := Int64.toInt_ofInt_of_le (by have := h.1; omega) (by have := h.2; omega)
theorem cd_IT {x : Int} (h : cd_s x) : (cd_I x).toInt = x := Int32.toInt_ofInt_of_le (by have := h.1; omega) (by have := h.2; omega)
theorem cd_Lle {x y : Int} (hx : cd_s x) (hy : cd_s y) : cd_L x ≤ cd_L y ↔ x ≤ y := by rw [Int64.le_iff_toInt_le, cd_LT hx, cd_LT hy]
theorem cd_Llt {x y : Int} (hx : cd_s x) (hy : cd_s y) : cd_L x < cd_L y ↔ x < y := by rw [Int64.lt_iff_toInt_lt, cd_LT hx, cd_LT hy]
theorem cd_Leq {x y : Int} (hx : cd_s x) (hy : cd_s y) : cd_L x = cd_L y ↔ x = y := by rw [← Int64.toInt_inj, cd_LT hx, cd_LT hy]
theorem cd_Ile {x y : Int} (hx : cd_s x) (hy : cd_s y) : cd_I x ≤ cd_I y ↔ x ≤ y := by rw [Int32.le_iff_toInt_le, cd_IT hx, cd_IT hy]
theorem cd_Ilt {x y : Int} (hx : cd_s x) (hy : cd_s y) : cd_I x < cd_I y ↔ x < y := by rw [Int32.lt_iff_toInt_lt, cd_IT hx, cd_IT hy]
theorem cd_Ieq {x y : Int} (hx : cd_s x) (hy : cd_s y) : cd_I x = cd_I y ↔ x = y := by rw [← Int32.toInt_inj, cd_IT hx, cd_IT hy]
theorem cd_IL {x : Int} (h : cd_s x) : (cd_I x).toInt64 = cd_L x := by rw [cd_Lof, cd_IT h]
theorem cd_LI (x : Int) : (cd_L x).toInt32 = cd_I x := Int64.toInt32_ofInt
theorem cd_L0 : (0 : Int64) = cd_L 0 := by decide
theorem cd_L1 : (1 : Int64) = cd_L 1 := by decide
theorem cd_I0 : (0 : Int32) = cd_I 0 := by decide
theorem cd_s0 : cd_s 0 := by unfold cd_s; omega
theorem cd_s1 : cd_s 1 := by unfold cd_s; omega
theorem cd_eq0 (x : Int32) : x = 0 ↔ x.toInt = 0 := by
  rw [← Int32.toInt_inj]
  exact Iff.rfl
theorem cd_le0 (x : Int32) : x ≤ 0 ↔ x.toInt ≤ 0 := by
  rw [Int32.le_iff_toInt_le]
  exact Iff.rfl
theorem cd_lt0 (x : Int32) : 0 < x ↔ 0 < x.toInt := by
  rw [Int32.lt_iff_toInt_lt]
  exact Iff.rfl
theorem cd_ge0 (x : Int32) : 0 ≤ x ↔ 0 ≤ x.toInt := by
  rw [Int32.le_iff_toInt_le]
  exact Iff.rfl
/-- the along of a point of the picture, and its bounds -/
theorem cd_al_s {A B : Nat → Int} {k : Nat} {P : cd_P} (ha : cd_c9 (A k)) (hb : cd_c9 (B k)) (hP : cd_bd P) : -32076 ≤ cd_al A B k P ∧ cd_al A B k P ≤ 32076 := by
  have h1 := cd_mb 9 1782 ha hP.2.1
  have h2 := cd_mb 9 1782 hb hP.1
  unfold cd_al
  omega
theorem cd_alw_s {A B : Nat → Int} {k : Nat} {P Q : cd_P} (ha : cd_c9 (A k)) (hb : cd_c9 (B k)) (hP : cd_bd P) (hQ : cd_bd Q) : cd_s (cd_al A B k P * Q.2.2) := by
  have h1 := cd_mb 32076 162 (cd_al_s ha hb hP) (show -162 ≤ Q.2.2 ∧ Q.2.2 ≤ 162 by have := hQ.2.2; omega)
  unfold cd_s
  omega
theorem cd_alE (a1 a2 : Nat → Int32) (k : Nat) (P : cd_P) : (a1 k).toInt64 * cd_L P.2.1 - (a2 k).toInt64 * cd_L P.1 = cd_L (cd_al (cd_T a1) (cd_T a2) k P) := by
  rw [cd_Lof, cd_Lof, cd_Lmul, cd_Lmul, cd_Lsub]
  rfl
end
section
/-! the walk: meets, along, the cuts -/
section
variable {cn lv : Int32} {x y w : Int64} {hl hh : Int32} {lx ly lw hx hy hw : Int64} {rm : Int32} {bX bY bW : Int64} {ap aq : Int32} {a1 a2 a3 a4 : Nat → Int32}
theorem cd_wmeets {post : Int32 → Prop} {k n : Nat} (hn : n ≤ 14) (hk : k < n) (hg : cd_good (cd_T a1) (cd_T a2) (cd_T a3) n) {P : cd_P} (hP : cd_bd P)
    (H0 : cd_T a3 k * P.2.2 < cd_T a1 k * P.1 + cd_T a2 k * P.2.1 → post 0) (H1 : ¬ cd_T a3 k * P.2.2 < cd_T a1 k * P.1 + cd_T a2 k * P.2.1 → post 1) :
    wpX_meets post (cn, lv, cd_L P.1, cd_L P.2.1, cd_L P.2.2, hl, hh, lx, ly, lw, hx, hy, hw, rm, bX, bY, bW, ap, aq, a1, a2, a3, a4) (nI k) := by
  obtain ⟨ga, gb, gc, _⟩ := hg k hk
  obtain ⟨p1, p2, p3, p4⟩ := hP
  unfold wpX_meets
  dsimp only
  rw [nI_clamp (show k < 2 ^ 31 by omega)]
  refine ⟨pk_in k 14 (by omega), pk_in k 14 (by omega), pk_in k 14 (by omega), cd_br _ ?_ H0 H1⟩
  rw [cd_Lof, cd_Lof, cd_Lof, cd_Lmul, cd_Lmul, cd_Lmul, cd_Ladd]
  have h1 := cd_mb 99 162 gc (show -162 ≤ P.2.2 ∧ P.2.2 ≤ 162 by omega)
  have h2 := cd_mb 9 1782 ga p1
  have h3 := cd_mb 9 1782 gb p2
  refine cd_Llt ?_ ?_
  · show cd_s (cd_T a3 k * P.2.2)
    unfold cd_s
    omega
  · show cd_s (cd_T a1 k * P.1 + cd_T a2 k * P.2.1)
    unfold cd_s
    omega
theorem cd_walong {post : Int64 → Prop} {k : Nat} (hk : k < 14) (P : cd_P) (H : post (cd_L (cd_al (cd_T a1) (cd_T a2) k P))) :
    wpX_along post (cn, lv, x, y, w, hl, hh, lx, ly, lw, hx, hy, hw, rm, bX, bY, bW, ap, aq, a1, a2, a3, a4) (nI k) (cd_L P.1) (cd_L P.2.1) := by
  unfold wpX_along
  dsimp only
  rw [nI_clamp (show k < 2 ^ 31 by omega), cd_alE]
  exact ⟨pk_in k 14 hk, pk_in k 14 hk, H⟩
/-- an end of the stretch as the object holds it -/
def cd_R (o : Option cd_P) (h : Int32) (x y w : Int64) : Prop :=
  match o with
  | none => h = 0
  | some P => h = 1 ∧ x = cd_L P.1 ∧ y = cd_L P.2.1 ∧ w = cd_L P.2.2
theorem cd_wcutLow {post : St1 → Prop} {k : Nat} (hk : k < 14) (ga : cd_c9 (cd_T a1 k)) (gb : cd_c9 (cd_T a2 k)) (p : cd_P) (hp : cd_bd p) {o : Option cd_P} (ho : ∀ z, o = some z → cd_bd z) (hR : cd_R o hl lx ly lw)
    (H : ∀ hl' lx' ly' lw', cd_R (cd_lo (cd_T a1) (cd_T a2) k p o) hl' lx' ly' lw' → post (cn, lv, x, y, w, hl', hh, lx', ly', lw', hx, hy, hw, rm, bX, bY, bW, ap, aq, a1, a2, a3, a4)) :
    wpX_cutLow post (cn, lv, x, y, w, hl, hh, lx, ly, lw, hx, hy, hw, rm, bX, bY, bW, ap, aq, a1, a2, a3, a4) (nI k) (cd_L p.1) (cd_L p.2.1) (cd_L p.2.2) := by
  unfold wpX_cutLow
  dsimp only
  cases o with
  | none => exact br_t hR (H 1 _ _ _ ⟨rfl, rfl, rfl, rfl⟩)
  | some q =>
    obtain ⟨e1, e2, e3, e4⟩ := hR
    subst e1 e2 e3 e4
    have hq := ho q rfl
    refine br_f (by decide) (cd_walong hk p (cd_walong hk q (cd_br (cd_al (cd_T a1) (cd_T a2) k p * q.2.2 ≤ cd_al (cd_T a1) (cd_T a2) k q * p.2.2) ?_ (fun c => ?_) (fun c => ?_))))
    · rw [cd_Lmul, cd_Lmul]
      exact cd_Lle (cd_alw_s ga gb hp hq) (cd_alw_s ga gb hq hp)
    · refine H 1 _ _ _ ?_
      unfold cd_lo
      dsimp only
      rw [if_pos c]
      exact ⟨rfl, rfl, rfl, rfl⟩
    · refine H 1 _ _ _ ?_
      unfold cd_lo
      dsimp only
      rw [if_neg c]
      exact ⟨rfl, rfl, rfl, rfl⟩
theorem cd_wcutHigh {post : St1 → Prop} {k : Nat} (hk : k < 14) (ga : cd_c9 (cd_T a1 k)) (gb : cd_c9 (cd_T a2 k)) (p : cd_P) (hp : cd_bd p) {o : Option cd_P} (ho : ∀ z, o = some z → cd_bd z) (hR : cd_R o hh hx hy hw)
    (H : ∀ hh' hx' hy' hw', cd_R (cd_hi (cd_T a1) (cd_T a2) k p o) hh' hx' hy' hw' → post (cn, lv, x, y, w, hl, hh', lx, ly, lw, hx', hy', hw', rm, bX, bY, bW, ap, aq, a1, a2, a3, a4)) :
    wpX_cutHigh post (cn, lv, x, y, w, hl, hh, lx, ly, lw, hx, hy, hw, rm, bX, bY, bW, ap, aq, a1, a2, a3, a4) (nI k) (cd_L p.1) (cd_L p.2.1) (cd_L p.2.2) := by
  unfold wpX_cutHigh
  dsimp only
  cases o with
  | none => exact br_t hR (H 1 _ _ _ ⟨rfl, rfl, rfl, rfl⟩)
  | some q =>
    obtain ⟨e1, e2, e3, e4⟩ := hR
    subst e1 e2 e3 e4
    have hq := ho q rfl
    refine br_f (by decide) (cd_walong hk p (cd_walong hk q (cd_br (cd_al (cd_T a1) (cd_T a2) k q * p.2.2 ≤ cd_al (cd_T a1) (cd_T a2) k p * q.2.2) ?_ (fun c => ?_) (fun c => ?_))))
    · rw [cd_Lmul, cd_Lmul]
      exact cd_Lle (cd_alw_s ga gb hq hp) (cd_alw_s ga gb hp hq)
    · refine H 1 _ _ _ ?_
      unfold cd_hi
      dsimp only
      rw [if_pos c]
      exact ⟨rfl, rfl, rfl, rfl⟩
    · refine H 1 _ _ _ ?_
      unfold cd_hi
      dsimp only
      rw [if_neg c]
      exact ⟨rfl, rfl, rfl, rfl⟩
/-- the last comparison of parallelMeets; u: the own, v: the other -/
theorem cd_wpar49 {post : Int32 → Prop} {k j : Nat} (hk : k < 14) (hj : j < 14) (u v : Int32) (hu : cd_c9 u.toInt) (hv : cd_c9 v.toInt) (gk : cd_c99 (cd_T a3 k)) (gj : cd_c99 (cd_T a3 j))
    (H : post (if (if u.toInt ≤ 0 then !decide (v.toInt * cd_T a3 k < cd_T a3 j * u.toInt) else !decide (cd_T a3 j * u.toInt < v.toInt * cd_T a3 k)) = true then 1 else 0)) :
    wX_parallelMeets_49 post (nI k) (nI j) u v cn lv x y w hl hh lx ly lw hx hy hw rm bX bY bW ap aq a1 a2 a3 a4 := by
  have h1 := cd_mb 9 99 hv gk
  have h2 := cd_mb 99 9 gj hu
  have s1 : cd_s (v.toInt * cd_T a3 k) := by unfold cd_s; omega
  have s2 : cd_s (cd_T a3 j * u.toInt) := by unfold cd_s; omega
  have e1 : v * a3 k = cd_I (v.toInt * cd_T a3 k) := by
    rw [← cd_Imul]
    exact congr (congrArg _ (cd_Iof v)) (cd_Iof _)
  have e2 : a3 j * u = cd_I (cd_T a3 j * u.toInt) := by
    rw [← cd_Imul]
    exact congr (congrArg _ (cd_Iof _)) (cd_Iof u)
  unfold wX_parallelMeets_49
  rw [nI_clamp (show k < 2 ^ 31 by omega), nI_clamp (show j < 2 ^ 31 by omega), e1, e2]
  refine cd_br _ (cd_le0 u) (fun c => ?_) (fun c => ?_)
  · rw [if_pos c] at H
    refine ⟨pk_in k 14 hk, pk_in j 14 hj, cd_br _ (cd_Ilt s1 s2) (fun d => ?_) (fun d => ?_)⟩
    · rw [if_neg (by simp [d])] at H
      exact H
    · rw [if_pos (by simp [d])] at H
      exact H
  · rw [if_neg c] at H
    refine ⟨pk_in k 14 hk, pk_in j 14 hj, cd_br _ (cd_Ilt s2 s1) (fun d => ?_) (fun d => ?_)⟩
    · rw [if_neg (by simp [d])] at H
      exact H
    · rw [if_pos (by simp [d])] at H
      exact H
theorem cd_wpar {post : Int32 → Prop} {k j n : Nat} (hn : n ≤ 14) (hk : k < n) (hj : j < n) (hg : cd_good (cd_T a1) (cd_T a2) (cd_T a3) n)
    (H : post (if cd_par (cd_T a1) (cd_T a2) (cd_T a3) k j = true then 1 else 0)) :
    wpX_parallelMeets post (cn, lv, x, y, w, hl, hh, lx, ly, lw, hx, hy, hw, rm, bX, bY, bW, ap, aq, a1, a2, a3, a4) (nI k) (nI j) := by
  obtain ⟨ak, bk, ck, _⟩ := hg k hk
  obtain ⟨aj, bj, cj, _⟩ := hg j hj
  unfold wpX_parallelMeets
  dsimp only
  unfold wX_parallelMeets_24
  rw [nI_clamp (show k < 2 ^ 31 by omega), nI_clamp (show j < 2 ^ 31 by omega)]
  unfold cd_par cd_own cd_oth at H
  refine ⟨pk_in k 14 (by omega), cd_br _ (cd_eq0 (a1 k)) (fun c => ?_) (fun c => ?_)⟩
  · rw [if_pos (show cd_T a1 k = 0 from c), if_pos (show cd_T a1 k = 0 from c)] at H
    exact ⟨pk_in k 14 (by omega), pk_in k 14 (by omega), br_t ((cd_eq0 (a1 k)).mpr c) ⟨pk_in j 14 (by omega), cd_wpar49 (by omega) (by omega) (a2 k) (a2 j) bk bj ck cj H⟩⟩
  · rw [if_neg (show ¬ cd_T a1 k = 0 from c), if_neg (show ¬ cd_T a1 k = 0 from c)] at H
    exact ⟨pk_in k 14 (by omega), pk_in k 14 (by omega), br_f (fun z => c ((cd_eq0 (a1 k)).mp z)) ⟨pk_in j 14 (by omega), cd_wpar49 (by omega) (by omega) (a1 k) (a1 j) ak aj ck cj H⟩⟩
theorem cd_wcut {post : Int32 → St1 → Prop} {k j n : Nat} (hn : n ≤ 14) (hk : k < n) (hj : j < n) (hg : cd_good (cd_T a1) (cd_T a2) (cd_T a3) n) {lo hi : Option cd_P}
    (hlo : ∀ z, lo = some z → cd_bd z) (hhi : ∀ z, hi = some z → cd_bd z) (Rl : cd_R lo hl lx ly lw) (Rh : cd_R hi hh hx hy hw)
    (HN : cd_cut (cd_T a1) (cd_T a2) (cd_T a3) k j (lo, hi) = none → post 0 (cn, lv, x, y, w, hl, hh, lx, ly, lw, hx, hy, hw, rm, bX, bY, bW, ap, aq, a1, a2, a3, a4))
    (HS : ∀ lo' hi', cd_cut (cd_T a1) (cd_T a2) (cd_T a3) k j (lo, hi) = some (lo', hi') → ∀ hl' hh' lx' ly' lw' hx' hy' hw', cd_R lo' hl' lx' ly' lw' → cd_R hi' hh' hx' hy' hw' → post 1 (cn, lv, x, y, w, hl', hh', lx', ly', lw', hx', hy', hw', rm, bX, bY, bW, ap, aq, a1, a2, a3, a4)) :
    wpX_cutStretch post (cn, lv, x, y, w, hl, hh, lx, ly, lw, hx, hy, hw, rm, bX, bY, bW, ap, aq, a1, a2, a3, a4) (nI k) (nI j) := by
  obtain ⟨ak, bk, ck, _⟩ := hg k hk
  obtain ⟨aj, bj, cj, _⟩ := hg j hj
  obtain ⟨b1, b2, b3⟩ := cd_bd_px hg hk hj
  have et : a1 k * a2 j - a1 j * a2 k = cd_I (cd_turn (cd_T a1) (cd_T a2) k j) := by
    unfold cd_turn
    rw [← cd_Isub, ← cd_Imul, ← cd_Imul]
    unfold cd_T
    rw [← cd_Iof, ← cd_Iof, ← cd_Iof, ← cd_Iof]
  have ex : a3 k * a2 j - a3 j * a2 k = cd_I (cd_px (cd_T a2) (cd_T a3) k j) := by
    unfold cd_px
    rw [← cd_Isub, ← cd_Imul, ← cd_Imul]
    unfold cd_T
    rw [← cd_Iof, ← cd_Iof, ← cd_Iof, ← cd_Iof]
  have ey : a1 k * a3 j - a1 j * a3 k = cd_I (cd_py (cd_T a1) (cd_T a3) k j) := by
    unfold cd_py
    rw [← cd_Isub, ← cd_Imul, ← cd_Imul]
    unfold cd_T
    rw [← cd_Iof, ← cd_Iof, ← cd_Iof, ← cd_Iof]
  have st : cd_s (cd_turn (cd_T a1) (cd_T a2) k j) := by unfold cd_s; omega
  have sx : cd_s (cd_px (cd_T a2) (cd_T a3) k j) := by unfold cd_s; omega
  have sy : cd_s (cd_py (cd_T a1) (cd_T a3) k j) := by unfold cd_s; omega
  unfold wpX_cutStretch
  dsimp only
  rw [nI_clamp (show k < 2 ^ 31 by omega), nI_clamp (show j < 2 ^ 31 by omega)]
  have ik : vp_in (nI k) 14 := pk_in k 14 (by omega)
  have ij : vp_in (nI j) 14 := pk_in j 14 (by omega)
  unfold cd_cut at HN HS
  refine ⟨ik, ij, ij, ik, nm_r et (cd_br (cd_turn (cd_T a1) (cd_T a2) k j = 0) ?_ (fun c => ?_) (fun c => ?_))⟩
  · rw [cd_I0]
    exact cd_Ieq st cd_s0
  · rw [if_pos c] at HN HS
    refine cd_wpar hn hk hj hg ?_
    by_cases cp : cd_par (cd_T a1) (cd_T a2) (cd_T a3) k j = true
    · rw [if_pos cp] at HN HS ⊢
      exact ⟨rfl, HS lo hi rfl _ _ _ _ _ _ _ _ Rl Rh⟩
    · rw [if_neg cp] at HN HS ⊢
      exact ⟨rfl, HN rfl⟩
  · rw [if_neg c] at HN HS
    refine ⟨ik, ij, ij, ik, nm_r (show _ = cd_L (cd_px (cd_T a2) (cd_T a3) k j) from by rw [ex, cd_IL sx]) ⟨ik, ij, ij, ik, nm_r (show _ = cd_L (cd_py (cd_T a1) (cd_T a3) k j) from by rw [ey, cd_IL sy]) (cd_br (cd_turn (cd_T a1) (cd_T a2) k j ≤ 0) ?_ (fun d => ?_) (fun d => ?_))⟩⟩
    · rw [cd_I0]
      exact cd_Ile st cd_s0
    · rw [if_pos d] at HN HS
      have st' : cd_s (-cd_turn (cd_T a1) (cd_T a2) k j) := by unfold cd_s; omega
      rw [cd_Ineg, cd_IL st', cd_Lneg, cd_Lneg]
      refine cd_wcutLow (p := (-cd_px (cd_T a2) (cd_T a3) k j, -cd_py (cd_T a1) (cd_T a3) k j, -cd_turn (cd_T a1) (cd_T a2) k j)) (by omega) ak bk ?_ hlo Rl (fun hl' lx' ly' lw' R' => ?_)
      · refine ⟨?_, ?_, ?_, ?_⟩ <;> dsimp only <;> omega
      · exact HS _ _ rfl _ _ _ _ _ _ _ _ R' Rh
    · rw [if_neg d] at HN HS
      rw [cd_IL st]
      refine cd_wcutHigh (p := (cd_px (cd_T a2) (cd_T a3) k j, cd_py (cd_T a1) (cd_T a3) k j, cd_turn (cd_T a1) (cd_T a2) k j)) (by omega) ak bk ?_ hhi Rh (fun hh' hx' hy' hw' R' => ?_)
      · refine ⟨?_, ?_, ?_, ?_⟩ <;> dsimp only <;> omega
      · exact HS _ _ rfl _ _ _ _ _ _ _ _ Rl R'
end
end
section
/-! the walk: moveOnto, solve -/
theorem cd_nIm1 {j : Nat} (h : j < 2 ^ 31) : ¬ nI j = -1 := by
  intro e
  have e' := congrArg Int32.toInt e
  rw [nI_toInt h] at e'
  have e2 : (-1 : Int32).toInt = -1 := by decide
  rw [e2] at e'
  omega
theorem cd_cuts_none {A B C : Nat → Int} {k j : Nat} (e : cd_cuts A B C k j = none) (d : Nat) : cd_cuts A B C k (j + d) = none := by
  induction d with
  | zero => exact e
  | succ d ih =>
    show (match cd_cuts A B C k (j + d) with
      | none => none
      | some s => cd_cut A B C k (j + d) s) = none
    rw [ih]
theorem cd_sol_none {A B C : Nat → Int} {p q : Int} {m : Nat} (e : cd_sol A B C p q m = none) (d : Nat) : cd_sol A B C p q (m + d) = none := by
  induction d with
  | zero => exact e
  | succ d ih =>
    show (match cd_sol A B C p q (m + d) with
      | none => none
      | some P => if C (m + d + 4) * P.2.2 < A (m + d + 4) * P.1 + B (m + d + 4) * P.2.1 then cd_move A B C p q (m + d + 4) else some P) = none
    rw [ih]
section
variable {cn lv : Int32} {x y w : Int64} {hl hh : Int32} {lx ly lw hx hy hw : Int64} {rm : Int32} {bX bY bW : Int64} {ap aq : Int32} {a1 a2 a3 a4 : Nat → Int32}
theorem cd_fin1 {post : Int32 → St1 → Prop} (H : post 1 (cn, lv, hx, hy, hw, hl, hh, lx, ly, lw, hx, hy, hw, rm, bX, bY, bW, ap, aq, a1, a2, a3, a4)) :
    wX_moveOnto_146 post cn lv x y w hl hh lx ly lw hx hy hw rm bX bY bW ap aq a1 a2 a3 a4 := by
  have n : ¬ (1 : Int32) = 0 := by decide
  unfold wX_moveOnto_146 wX_moveOnto_151 wX_moveOnto_170 wX_moveOnto_190
  exact br_f n (br_f n (br_f n H))
theorem cd_fin0 {post : Int32 → St1 → Prop} (H : post 1 (cn, lv, lx, ly, lw, hl, hh, lx, ly, lw, hx, hy, hw, rm, bX, bY, bW, ap, aq, a1, a2, a3, a4)) :
    wX_moveOnto_150 post cn lv x y w hl hh lx ly lw hx hy hw rm bX bY bW ap aq a1 a2 a3 a4 := by
  unfold wX_moveOnto_150 wX_moveOnto_151 wX_moveOnto_170 wX_moveOnto_190
  exact br_t rfl (br_t rfl (br_t rfl H))
theorem cd_wmoveL {post : Int32 → St1 → Prop} {k n : Nat} (hn : n ≤ 14) (h4 : 4 ≤ k) (hk : k < n) (hg : cd_good (cd_T a1) (cd_T a2) (cd_T a3) n) (hb : cd_box (cd_T a1) (cd_T a2) (cd_T a3)) {p q : Int32} (hp : cd_c9 p.toInt) (hq : cd_c9 q.toInt)
    (HN : cd_move (cd_T a1) (cd_T a2) (cd_T a3) p.toInt q.toInt k = none → ∀ hl hh lx ly lw hx hy hw, post 0 (cn, lv, x, y, w, hl, hh, lx, ly, lw, hx, hy, hw, rm, bX, bY, bW, ap, aq, a1, a2, a3, a4))
    (HS : ∀ P, cd_move (cd_T a1) (cd_T a2) (cd_T a3) p.toInt q.toInt k = some P → ∀ hl hh lx ly lw hx hy hw, post 1 (cn, lv, cd_L P.1, cd_L P.2.1, cd_L P.2.2, hl, hh, lx, ly, lw, hx, hy, hw, rm, bX, bY, bW, ap, aq, a1, a2, a3, a4)) :
    ∀ (d j : Nat), j + d = k → ∀ (lo hi : Option cd_P) (hl hh : Int32) (lx ly lw hx hy hw : Int64), cd_cuts (cd_T a1) (cd_T a2) (cd_T a3) k j = some (lo, hi) → cd_R lo hl lx ly lw → cd_R hi hh hx hy hw →
      wX_moveOnto_13 post (nI k) p q (-1) (d + 1) (nI j) cn lv x y w hl hh lx ly lw hx hy hw rm bX bY bW ap aq a1 a2 a3 a4 := by
  obtain ⟨ak, bk, ck, nk⟩ := hg k hk
  have ik : vp_in (nI k) 14 := pk_in k 14 (by omega)
  intro d
  induction d with
  | zero =>
    intro j ej lo hi hl hh lx ly lw hx hy hw ec Rl Rh
    have ej' : j = k := by omega
    rw [ej'] at ec ⊢
    have hbd := cd_cuts_bd hg hk k (by omega) _ ec
    have hne := cd_ends hb h4 nk ec
    cases lo with
    | none => exact absurd rfl hne.1
    | some l =>
      cases hi with
      | none => exact absurd rfl hne.2
      | some h =>
        have hbl := hbd.1 l rfl
        have hbh := hbd.2 h rfl
        obtain ⟨e1, e2, e3, e4⟩ := Rl
        obtain ⟨f1, f2, f3, f4⟩ := Rh
        subst e1 e2 e3 e4 f1 f2 f3 f4
        have em : cd_move (cd_T a1) (cd_T a2) (cd_T a3) p.toInt q.toInt k = if cd_al (cd_T a1) (cd_T a2) k l * h.2.2 ≤ cd_al (cd_T a1) (cd_T a2) k h * l.2.2 then some (if cd_upw (cd_T a1) (cd_T a2) p.toInt q.toInt k = true then h else l) else none := by
          simp only [cd_move, ec]
        rw [em] at HN HS
        refine pk_le k k (fun _ => ?_) (fun z => absurd z (by omega))
        refine cd_walong (by omega) l (cd_walong (by omega) h (cd_br (cd_al (cd_T a1) (cd_T a2) k l * h.2.2 ≤ cd_al (cd_T a1) (cd_T a2) k h * l.2.2) ?_ (fun c => ?_) (fun c => ?_)))
        · rw [cd_Lmul, cd_Lmul]
          exact cd_Lle (cd_alw_s ak bk hbl hbh) (cd_alw_s ak bk hbh hbl)
        · rw [if_pos c] at HS
          have F1 : cd_upw (cd_T a1) (cd_T a2) p.toInt q.toInt k = true → wX_moveOnto_146 post cn lv x y w 1 1 (cd_L l.1) (cd_L l.2.1) (cd_L l.2.2) (cd_L h.1) (cd_L h.2.1) (cd_L h.2.2) rm bX bY bW ap aq a1 a2 a3 a4 :=
            fun z => cd_fin1 (HS h (by rw [if_pos z]) _ _ _ _ _ _ _ _)
          have F0 : cd_upw (cd_T a1) (cd_T a2) p.toInt q.toInt k = false → wX_moveOnto_150 post cn lv x y w 1 1 (cd_L l.1) (cd_L l.2.1) (cd_L l.2.2) (cd_L h.1) (cd_L h.2.1) (cd_L h.2.2) rm bX bY bW ap aq a1 a2 a3 a4 :=
            fun z => cd_fin0 (HS l (by rw [if_neg (by rw [z]; decide)]) _ _ _ _ _ _ _ _)
          rw [nI_clamp (show k < 2 ^ 31 by omega)]
          have eg : q * a1 k - p * a2 k = cd_I (q.toInt * cd_T a1 k - p.toInt * cd_T a2 k) := by
            rw [← cd_Isub, ← cd_Imul, ← cd_Imul]
            unfold cd_T
            rw [← cd_Iof, ← cd_Iof, ← cd_Iof, ← cd_Iof]
          have g1 := cd_mb 9 9 hq ak
          have g2 := cd_mb 9 9 hp bk
          have sg : cd_s (q.toInt * cd_T a1 k - p.toInt * cd_T a2 k) := by unfold cd_s; omega
          refine ⟨ik, ik, nm_r eg (cd_br (0 < q.toInt * cd_T a1 k - p.toInt * cd_T a2 k) ?_ (fun d1 => F1 ?_) (fun d1 => cd_br (q.toInt * cd_T a1 k - p.toInt * cd_T a2 k = 0) ?_ (fun d2 => ⟨ik, cd_br (0 < cd_T a2 k) (cd_lt0 _) (fun d3 => F1 ?_) (fun d3 => ⟨ik, cd_br (cd_T a2 k = 0) (cd_eq0 _) (fun d4 => ⟨ik, cd_br (0 ≤ cd_T a1 k) (cd_ge0 _) (fun d5 => F0 ?_) (fun d5 => F1 ?_)⟩) (fun d4 => F0 ?_)⟩)⟩) (fun d2 => F0 ?_)))⟩
          · rw [cd_I0]
            exact cd_Ilt cd_s0 sg
          · unfold cd_upw
            rw [if_pos d1]
          · rw [cd_I0]
            exact cd_Ieq sg cd_s0
          · unfold cd_upw
            rw [if_neg d1, if_pos d2, if_pos d3]
          · unfold cd_upw
            rw [if_neg d1, if_pos d2, if_neg d3, if_pos d4, if_pos d5]
          · unfold cd_upw
            rw [if_neg d1, if_pos d2, if_neg d3, if_pos d4, if_neg d5]
          · unfold cd_upw
            rw [if_neg d1, if_pos d2, if_neg d3, if_neg d4]
          · unfold cd_upw
            rw [if_neg d1, if_neg d2]
        · exact HN (by rw [if_neg c]) _ _ _ _ _ _ _ _
  | succ d ih =>
    intro j ej lo hi hl hh lx ly lw hx hy hw ec Rl Rh
    have hbd := cd_cuts_bd hg hk j (by omega) _ ec
    have es : cd_cuts (cd_T a1) (cd_T a2) (cd_T a3) k (j + 1) = cd_cut (cd_T a1) (cd_T a2) (cd_T a3) k j (lo, hi) := by
      show (match cd_cuts (cd_T a1) (cd_T a2) (cd_T a3) k j with
        | none => none
        | some s => cd_cut (cd_T a1) (cd_T a2) (cd_T a3) k j s) = _
      rw [ec]
    refine pk_le k j (fun z => absurd z (by omega)) (fun _ => br_f (cd_nIm1 (by omega)) (cd_wcut hn hk (by omega) hg hbd.1 hbd.2 Rl Rh (fun e => ?_) (fun lo' hi' e hl' hh' lx' ly' lw' hx' hy' hw' Rl' Rh' => ?_)))
    · refine br_t rfl (HN ?_ _ _ _ _ _ _ _ _)
      have e0 := cd_cuts_none (es.trans e) d
      rw [show j + 1 + d = k by omega] at e0
      simp only [cd_move, e0]
    · exact br_f (by decide) (nm_r (nI_1 j) (ih (j + 1) (by omega) lo' hi' hl' hh' lx' ly' lw' hx' hy' hw' (es.trans e) Rl' Rh'))
theorem cd_wmove {post : Int32 → St1 → Prop} {k n : Nat} (hn : n ≤ 14) (h4 : 4 ≤ k) (hk : k < n) (hg : cd_good (cd_T a1) (cd_T a2) (cd_T a3) n) (hb : cd_box (cd_T a1) (cd_T a2) (cd_T a3)) {p q : Int32} (hp : cd_c9 p.toInt) (hq : cd_c9 q.toInt)
    (HN : cd_move (cd_T a1) (cd_T a2) (cd_T a3) p.toInt q.toInt k = none → ∀ hl hh lx ly lw hx hy hw, post 0 (cn, lv, x, y, w, hl, hh, lx, ly, lw, hx, hy, hw, rm, bX, bY, bW, ap, aq, a1, a2, a3, a4))
    (HS : ∀ P, cd_move (cd_T a1) (cd_T a2) (cd_T a3) p.toInt q.toInt k = some P → ∀ hl hh lx ly lw hx hy hw, post 1 (cn, lv, cd_L P.1, cd_L P.2.1, cd_L P.2.2, hl, hh, lx, ly, lw, hx, hy, hw, rm, bX, bY, bW, ap, aq, a1, a2, a3, a4)) :
    wpX_moveOnto post (cn, lv, x, y, w, hl, hh, lx, ly, lw, hx, hy, hw, rm, bX, bY, bW, ap, aq, a1, a2, a3, a4) (nI k) p q (-1) := by
  unfold wpX_moveOnto
  dsimp only
  exact ⟨k + 1, cd_wmoveL hn h4 hk hg hb hp hq HN HS k 0 (by omega) none none 0 0 lx ly lw hx hy hw rfl rfl rfl⟩
theorem cd_wsolveL {post : Int32 → St1 → Prop} {M : Nat} (hM : M ≤ 10) (hg : cd_good (cd_T a1) (cd_T a2) (cd_T a3) (M + 4)) (hb : cd_box (cd_T a1) (cd_T a2) (cd_T a3)) {p q : Int32} (hp : cd_c9 p.toInt) (hq : cd_c9 q.toInt)
    (HN : cd_sol (cd_T a1) (cd_T a2) (cd_T a3) p.toInt q.toInt M = none → ∀ x y w hl hh lx ly lw hx hy hw, post 0 (nI (M + 4), lv, x, y, w, hl, hh, lx, ly, lw, hx, hy, hw, rm, bX, bY, bW, ap, aq, a1, a2, a3, a4))
    (HS : ∀ P, cd_sol (cd_T a1) (cd_T a2) (cd_T a3) p.toInt q.toInt M = some P → ∀ hl hh lx ly lw hx hy hw, post 1 (nI (M + 4), lv, cd_L P.1, cd_L P.2.1, cd_L P.2.2, hl, hh, lx, ly, lw, hx, hy, hw, rm, bX, bY, bW, ap, aq, a1, a2, a3, a4)) :
    ∀ (d m : Nat), m + d = M → ∀ (P : cd_P) (hl hh : Int32) (lx ly lw hx hy hw : Int64), cd_sol (cd_T a1) (cd_T a2) (cd_T a3) p.toInt q.toInt m = some P →
      wX_solve_42 post p q (-1) (d + 1) (nI (m + 4)) (nI (M + 4)) lv (cd_L P.1) (cd_L P.2.1) (cd_L P.2.2) hl hh lx ly lw hx hy hw rm bX bY bW ap aq a1 a2 a3 a4 := by
  intro d
  induction d with
  | zero =>
    intro m em P hl hh lx ly lw hx hy hw es
    have em' : m = M := by omega
    rw [em'] at es ⊢
    exact pk_le (M + 4) (M + 4) (fun _ => HS P es _ _ _ _ _ _ _ _) (fun z => absurd z (by omega))
  | succ d ih =>
    intro m em P hl hh lx ly lw hx hy hw es
    have hbP := cd_sol_bd hg p.toInt q.toInt m (by omega) P es
    have en : cd_sol (cd_T a1) (cd_T a2) (cd_T a3) p.toInt q.toInt (m + 1) = if cd_T a3 (m + 4) * P.2.2 < cd_T a1 (m + 4) * P.1 + cd_T a2 (m + 4) * P.2.1 then cd_move (cd_T a1) (cd_T a2) (cd_T a3) p.toInt q.toInt (m + 4) else some P := by
      show (match cd_sol (cd_T a1) (cd_T a2) (cd_T a3) p.toInt q.toInt m with
        | none => none
        | some P => if cd_T a3 (m + 4) * P.2.2 < cd_T a1 (m + 4) * P.1 + cd_T a2 (m + 4) * P.2.1 then cd_move (cd_T a1) (cd_T a2) (cd_T a3) p.toInt q.toInt (m + 4) else some P) = _
      rw [es]
    have e1 : nI (m + 4) + 1 = nI (m + 1 + 4) := by rw [nI_1, show m + 4 + 1 = m + 1 + 4 by omega]
    refine pk_le (M + 4) (m + 4) (fun z => absurd z (by omega)) (fun _ => br_f (cd_nIm1 (by omega)) (cd_wmeets (n := M + 4) (by omega) (by omega) hg hbP (fun c => br_t rfl (cd_wmove (n := M + 4) (by omega) (by omega) (by omega) hg hb hp hq (fun e hl hh lx ly lw hx hy hw => ?_) (fun P' e hl hh lx ly lw hx hy hw => ?_))) (fun c => br_f (by decide) (nm_r e1 ?_))))
    · rw [if_pos c] at en
      refine br_t rfl (HN ?_ _ _ _ _ _ _ _ _ _ _ _)
      have e0 := cd_sol_none (en.trans e) d
      rw [show m + 1 + d = M by omega] at e0
      exact e0
    · rw [if_pos c] at en
      exact br_f (by decide) (nm_r e1 (ih (m + 1) (by omega) P' hl hh lx ly lw hx hy hw (en.trans e)))
    · rw [if_neg c] at en
      exact ih (m + 1) (by omega) P hl hh lx ly lw hx hy hw en
theorem cd_wsolve {post : Int32 → St1 → Prop} {M : Nat} (hM : M ≤ 10) (hg : cd_good (cd_T a1) (cd_T a2) (cd_T a3) (M + 4)) (hb : cd_box (cd_T a1) (cd_T a2) (cd_T a3)) {p q : Int32} (hp : cd_c9 p.toInt) (hq : cd_c9 q.toInt)
    (HN : cd_sol (cd_T a1) (cd_T a2) (cd_T a3) p.toInt q.toInt M = none → ∀ x y w hl hh lx ly lw hx hy hw, post 0 (nI (M + 4), lv, x, y, w, hl, hh, lx, ly, lw, hx, hy, hw, rm, bX, bY, bW, ap, aq, a1, a2, a3, a4))
    (HS : ∀ P, cd_sol (cd_T a1) (cd_T a2) (cd_T a3) p.toInt q.toInt M = some P → ∀ hl hh lx ly lw hx hy hw, post 1 (nI (M + 4), lv, cd_L P.1, cd_L P.2.1, cd_L P.2.2, hl, hh, lx, ly, lw, hx, hy, hw, rm, bX, bY, bW, ap, aq, a1, a2, a3, a4)) :
    wpX_solve post (nI (M + 4), lv, x, y, w, hl, hh, lx, ly, lw, hx, hy, hw, rm, bX, bY, bW, ap, aq, a1, a2, a3, a4) p q (-1) := by
  have main := cd_wsolveL hM hg hb hp hq HN HS M 0 (by omega)
  have z1 : cd_L (-50) = -50 := by decide
  have z2 : cd_L 50 = 50 := by decide
  have z3 : cd_L 1 = 1 := by decide
  unfold wpX_solve
  dsimp only
  unfold wX_solve_14
  refine cd_br _ (cd_le0 p) (fun c => cd_br _ (cd_le0 q) (fun d => ⟨M + 1, ?_⟩) (fun d => ⟨M + 1, ?_⟩)) (fun c => cd_br _ (cd_le0 q) (fun d => ⟨M + 1, ?_⟩) (fun d => ⟨M + 1, ?_⟩))
  · have h := main (-50, -50, 1) hl hh lx ly lw hx hy hw (by unfold cd_sol; rw [if_pos c, if_pos d])
    dsimp only at h
    rw [z1, z3] at h
    exact h
  · have h := main (-50, 50, 1) hl hh lx ly lw hx hy hw (by unfold cd_sol; rw [if_pos c, if_neg d])
    dsimp only at h
    rw [z1, z2, z3] at h
    exact h
  · have h := main (50, -50, 1) hl hh lx ly lw hx hy hw (by unfold cd_sol; rw [if_neg c, if_pos d])
    dsimp only at h
    rw [z1, z2, z3] at h
    exact h
  · have h := main (50, 50, 1) hl hh lx ly lw hx hy hw (by unfold cd_sol; rw [if_neg c, if_neg d])
    dsimp only at h
    rw [z2, z3] at h
    exact h
end
end
section
/-! the walk: what the law sees of the object -/
/-- the remembered point -/
def cd_Rem (R : Option cd_P) (p q : Int32) (rm : Int32) (bX bY bW : Int64) (ap aq : Int32) : Prop :=
  match R with
  | none => rm = 0
  | some P => rm = 1 ∧ bX = cd_L P.1 ∧ bY = cd_L P.2.1 ∧ bW = cd_L P.2.2 ∧ ap = p ∧ aq = q
/-- the state u holds m + 4 conditions, l levels, the arrays, and remembers R, best for p and q -/
def cd_rel (m l : Nat) (a1 a2 a3 a4 : Nat → Int32) (R : Option cd_P) (p q : Int32) (u : St1) : Prop :=
  match u with
  | (cn, lv, _, _, _, _, _, _, _, _, _, _, _, rm, bX, bY, bW, ap, aq, b1, b2, b3, b4) =>
    cn = nI (m + 4) ∧ lv = nI l ∧ b1 = a1 ∧ b2 = a2 ∧ b3 = a3 ∧ b4 = a4 ∧ cd_Rem R p q rm bX bY bW ap aq
def cd_env (m : Nat) (a1 a2 a3 : Nat → Int32) : Prop :=
  m ≤ 10 ∧ cd_good (cd_T a1) (cd_T a2) (cd_T a3) (m + 4) ∧ cd_box (cd_T a1) (cd_T a2) (cd_T a3)
def cd_S (m : Nat) (a1 a2 a3 : Nat → Int32) (p q : Int32) : Option cd_P := cd_sol (cd_T a1) (cd_T a2) (cd_T a3) p.toInt q.toInt m
def cd_b (o : Option cd_P) : Int32 :=
  match o with
  | none => 0
  | some _ => 1
theorem cd_wposs {post : Int32 → St1 → Prop} {m l : Nat} {a1 a2 a3 a4 : Nat → Int32} {R : Option cd_P} {p q : Int32} {u : St1} (he : cd_env m a1 a2 a3) (hu : cd_rel m l a1 a2 a3 a4 R p q u)
    (H : ∀ u', cd_rel m l a1 a2 a3 a4 R p q u' → post (cd_b (cd_S m a1 a2 a3 0 0)) u') : wpX_possible post u := by
  obtain ⟨cn, lv, x, y, w, hl, hh, lx, ly, lw, hx, hy, hw, rm, bX, bY, bW, ap, aq, b1, b2, b3, b4⟩ := u
  obtain ⟨e1, e2, e3, e4, e5, e6, e7⟩ := hu
  subst e1 e2 e3 e4 e5 e6
  obtain ⟨hm, hg, hb⟩ := he
  have z9 : cd_c9 (0 : Int32).toInt := by
    have : (0 : Int32).toInt = 0 := by decide
    rw [this]
    unfold cd_c9
    omega
  unfold wpX_possible
  dsimp only
  refine cd_wsolve hm hg hb z9 z9 (fun e x y w hl hh lx ly lw hx hy hw => br_t rfl ?_) (fun P e hl hh lx ly lw hx hy hw => br_f (by decide) ?_)
  · have h := H (nI (m + 4), nI l, x, y, w, hl, hh, lx, ly, lw, hx, hy, hw, rm, bX, bY, bW, ap, aq, b1, b2, b3, b4) ⟨rfl, rfl, rfl, rfl, rfl, rfl, e7⟩
    rw [show cd_S m b1 b2 b3 0 0 = none from e] at h
    exact h
  · have h := H (nI (m + 4), nI l, cd_L P.1, cd_L P.2.1, cd_L P.2.2, hl, hh, lx, ly, lw, hx, hy, hw, rm, bX, bY, bW, ap, aq, b1, b2, b3, b4) ⟨rfl, rfl, rfl, rfl, rfl, rfl, e7⟩
    rw [show cd_S m b1 b2 b3 0 0 = some P from e] at h
    exact h
theorem cd_m9 (x : Int32) : x < -9 ↔ x.toInt < -9 := by
  rw [Int32.lt_iff_toInt_lt]
  exact Iff.rfl
theorem cd_g9 (x : Int32) : 9 < x ↔ 9 < x.toInt := by
  rw [Int32.lt_iff_toInt_lt]
  exact Iff.rfl
theorem cd_le9 (x : Int32) : x ≤ 9 ↔ x.toInt ≤ 9 := by
  rw [Int32.le_iff_toInt_le]
  exact Iff.rfl
theorem cd_m99 (x : Int32) : x < -99 ↔ x.toInt < -99 := by
  rw [Int32.lt_iff_toInt_lt]
  exact Iff.rfl
theorem cd_g99 (x : Int32) : 99 < x ↔ 99 < x.toInt := by
  rw [Int32.lt_iff_toInt_lt]
  exact Iff.rfl
theorem cd_wbest {post : Int32 → St1 → Prop} {m l : Nat} {a1 a2 a3 a4 : Nat → Int32} {R : Option cd_P} {p q : Int32} {u : St1} (he : cd_env m a1 a2 a3) (hu : cd_rel m l a1 a2 a3 a4 R p q u) {p' q' : Int32} (hp : cd_c9 p'.toInt) (hq : cd_c9 q'.toInt)
    (H : ∀ u', cd_rel m l a1 a2 a3 a4 (cd_S m a1 a2 a3 p' q') p' q' u' → post (cd_b (cd_S m a1 a2 a3 p' q')) u') : wpX_best post u p' q' := by
  obtain ⟨cn, lv, x, y, w, hl, hh, lx, ly, lw, hx, hy, hw, rm, bX, bY, bW, ap, aq, b1, b2, b3, b4⟩ := u
  obtain ⟨e1, e2, e3, e4, e5, e6, e7⟩ := hu
  subst e1 e2 e3 e4 e5 e6
  obtain ⟨hm, hg, hb⟩ := he
  have n1 : ¬ p' < -9 := fun z => by have := (cd_m9 p').mp z; have := hp.1; omega
  have n2 : ¬ 9 < p' := fun z => by have := (cd_g9 p').mp z; have := hp.2; omega
  have n3 : ¬ q' < -9 := fun z => by have := (cd_m9 q').mp z; have := hq.1; omega
  have n4 : q' ≤ 9 := (cd_le9 q').mpr hq.2
  unfold wpX_best
  dsimp only
  refine br_f n1 (br_f n2 (br_f n3 (br_t n4 (cd_wsolve hm hg hb hp hq (fun e x y w hl hh lx ly lw hx hy hw => ⟨rfl, rfl, br_t rfl ?_⟩) (fun P e hl hh lx ly lw hx hy hw => ⟨rfl, rfl, br_f (by decide) ?_⟩)))))
  · have h := H (nI (m + 4), nI l, x, y, w, hl, hh, lx, ly, lw, hx, hy, hw, 0, bX, bY, bW, ap, aq, b1, b2, b3, b4)
    rw [show cd_S m b1 b2 b3 p' q' = none from e] at h
    exact h ⟨rfl, rfl, rfl, rfl, rfl, rfl, rfl⟩
  · have h := H (nI (m + 4), nI l, cd_L P.1, cd_L P.2.1, cd_L P.2.2, hl, hh, lx, ly, lw, hx, hy, hw, 1, cd_L P.1, cd_L P.2.1, cd_L P.2.2, p', q', b1, b2, b3, b4)
    rw [show cd_S m b1 b2 b3 p' q' = some P from e] at h
    exact h ⟨rfl, rfl, rfl, rfl, rfl, rfl, rfl, rfl, rfl, rfl, rfl, rfl⟩

/-! the greatest common divisor -/
theorem cd_gstep {u v s : Nat} (hu : 0 < u) (h0 : s = 0 ∨ u < v) (hb : u * v * 2 ^ (s - 1) ≤ 2 ^ 32) : v % u < u ∧ v % u * u * 2 ^ (s + 1 - 1) ≤ 2 ^ 32 := by
  have h1 := Nat.mod_lt v hu
  refine ⟨h1, ?_⟩
  rcases h0 with z | z
  · subst z
    have h2 : v % u ≤ v := Nat.mod_le v u
    have h3 : v % u * u ≤ v * u := Nat.mul_le_mul_right u h2
    rw [Nat.mul_comm v u] at h3
    have e1 : 2 ^ (0 - 1) = 1 := rfl
    have e2 : 2 ^ (0 + 1 - 1) = 1 := rfl
    rw [e1] at hb
    rw [e2]
    omega
  · have hd := Nat.div_add_mod v u
    have hq : 1 ≤ v / u := Nat.div_pos (by omega) hu
    have h2 : u ≤ u * (v / u) := Nat.le_mul_of_pos_right u hq
    have h3 : 2 * (v % u) ≤ v := by omega
    rcases Nat.eq_zero_or_pos s with hs | hs
    · subst hs
      have h4 : v % u * u ≤ v * u := Nat.mul_le_mul_right u (by omega)
      rw [Nat.mul_comm v u] at h4
      have e1 : 2 ^ (0 - 1) = 1 := rfl
      have e2 : 2 ^ (0 + 1 - 1) = 1 := rfl
      rw [e1] at hb
      rw [e2]
      omega
    · have e1 : 2 ^ (s + 1 - 1) = 2 * 2 ^ (s - 1) := by
        rw [show s + 1 - 1 = (s - 1) + 1 by omega, Nat.pow_succ, Nat.mul_comm]
      have h4 : 2 * (v % u) * u ≤ v * u := Nat.mul_le_mul_right u h3
      have h5 : 2 * (v % u) * u * 2 ^ (s - 1) ≤ v * u * 2 ^ (s - 1) := Nat.mul_le_mul_right _ h4
      rw [e1]
      have e2 : v % u * u * (2 * 2 ^ (s - 1)) = 2 * (v % u) * u * 2 ^ (s - 1) := by grind
      have e3 : v * u = u * v := Nat.mul_comm v u
      rw [e2]
      rw [e3] at h5
      omega
theorem cd_wdivL {post : Int64 → Prop} {g : Nat} (H : post (lN g)) : ∀ (d s u v : Nat), s + d = 64 → 0 < v → u < 2 ^ 31 → v < 2 ^ 31 → (s = 0 ∨ u < v) → u * v * 2 ^ (s - 1) ≤ 2 ^ 32 → Nat.gcd u v = g →
    wX_divisor_20 post (d + 1) (lN u) (lN v) (nI s) := by
  intro d
  induction d with
  | zero =>
    intro s u v es hv hu1 hv1 h0 hb hgcd
    have es' : s = 64 := by omega
    subst es'
    have hu0 : u = 0 := by
      rcases Nat.eq_zero_or_pos u with z | z
      · exact z
      · have h1 : 1 ≤ u * v := Nat.mul_pos z hv
        have h2 : 1 * 2 ^ (64 - 1) ≤ u * v * 2 ^ (64 - 1) := Nat.mul_le_mul_right _ h1
        have h3 : 1 * 2 ^ (64 - 1) ≤ 2 ^ 32 := Nat.le_trans h2 hb
        exact absurd h3 (by decide)
    subst hu0
    rw [Nat.gcd_zero_left] at hgcd
    subst hgcd
    exact pk_le 64 64 (fun _ => H) (fun z => absurd z (by omega))
  | succ d ih =>
    intro s u v es hv hu1 hv1 h0 hb hgcd
    refine pk_le 64 s (fun z => absurd z (by omega)) (fun _ => ?_)
    refine cd_br (u = 0) ?_ (fun c => ?_) (fun c => ?_)
    · have e := pk_lLE (a := u) (b := 0) (by omega) (by omega)
      constructor
      · intro z
        have := e.mp z
        omega
      · intro z
        exact e.mpr (by omega)
    · subst c
      rw [Nat.gcd_zero_left] at hgcd
      subst hgcd
      exact H
    · have hu : 0 < u := by omega
      obtain ⟨g1, g2⟩ := cd_gstep hu h0 hb
      refine ⟨fun z => c ?_, nm_r (pk_lRem (a := v) (b := u) (by omega) hu (by omega)) (nm_r (nI_1 s) (ih (s + 1) (v % u) u (by omega) hu (by omega) hu1 (Or.inr g1) g2 ?_))⟩
      · exact (pk_lEQ (a := u) (b := 0) (by omega) (by omega)).mp z
      · rw [← Nat.gcd_rec]
        exact hgcd
theorem cd_Lnat (n : Nat) : cd_L (n : Int) = lN n := Int64.ofInt_eq_ofNat
theorem cd_wdiv {post : Int64 → Prop} {N W : Int} (hN : -40000 ≤ N ∧ N ≤ 40000) (hW : 0 < W ∧ W ≤ 162) (H : post (cd_L (Int.gcd N W : Int))) : wpX_divisor post () (cd_L N) (cd_L W) := by
  have sN : cd_s N := by unfold cd_s; omega
  have eW : cd_L W = lN W.natAbs := by
    rw [← cd_Lnat]
    congr 1
    omega
  have hb : N.natAbs * W.natAbs ≤ 40000 * 162 := Nat.mul_le_mul (by omega) (by omega)
  rw [cd_Lnat] at H
  have main := cd_wdivL (g := Int.gcd N W) H 64 0 N.natAbs W.natAbs (by omega) (by omega) (by omega) (by omega) (Or.inl rfl) (by
    have e1 : 2 ^ (0 - 1) = 1 := rfl
    rw [e1]
    omega) rfl
  unfold wpX_divisor
  rw [eW]
  refine cd_br (0 ≤ N) ?_ (fun c => ⟨65, ?_⟩) (fun c => nm_r (e' := lN N.natAbs) ?_ ⟨65, main⟩)
  · rw [cd_L0]
    exact cd_Lle cd_s0 sN
  · have eN : cd_L N = lN N.natAbs := by
      rw [← cd_Lnat]
      congr 1
      omega
    rw [eN]
    exact main
  · rw [cd_Lneg, ← cd_Lnat]
    congr 1
    omega

/-! numerator, denominator -/
def cd_upp (P : cd_P) (p q : Int32) (i : Nat) : Int := if i = 1 then P.1 else if i = 2 then P.2.1 else p.toInt * P.1 + q.toInt * P.2.1
def cd_nm (R : Option cd_P) (p q : Int32) (i : Nat) : Int :=
  match R with
  | none => 0
  | some P => cd_num (cd_upp P p q i) P.2.2
def cd_dn (R : Option cd_P) (p q : Int32) (i : Nat) : Int :=
  match R with
  | none => 0
  | some P => cd_den (cd_upp P p q i) P.2.2
theorem cd_upp_s {P : cd_P} {p q : Int32} (hP : cd_bd P) (hp : cd_c9 p.toInt) (hq : cd_c9 q.toInt) (i : Nat) : -32076 ≤ cd_upp P p q i ∧ cd_upp P p q i ≤ 32076 := by
  have h1 := cd_mb 9 1782 hp hP.1
  have h2 := cd_mb 9 1782 hq hP.2.1
  have h3 := hP.1
  have h4 := hP.2.1
  unfold cd_upp
  split
  · omega
  · split
    · omega
    · omega
theorem cd_Ldiv {x y : Int} (hx : cd_s x) (hy : cd_s y) : cd_L x / cd_L y = cd_L (x.tdiv y) := by
  have h1 := hx.1
  have h2 := hx.2
  have h3 := hy.1
  have h4 := hy.2
  have e1 : Int64.minValue.toInt = -2 ^ 63 := Int64.toInt_minValue
  have e2 : Int64.maxValue.toInt = 2 ^ 63 - 1 := Int64.toInt_maxValue
  exact (Int64.ofInt_tdiv (by rw [e1]; omega) (by rw [e2]; omega) (by rw [e1]; omega) (by rw [e2]; omega)).symm
section
variable {cn lv : Int32} {x y w : Int64} {hl hh : Int32} {lx ly lw hx hy hw : Int64} {rm : Int32} {bX bY bW : Int64} {ap aq : Int32} {a1 a2 a3 a4 : Nat → Int32}
theorem cd_wupper {post : Int64 → Prop} {P : cd_P} {p q : Int32} {i : Nat} (hi : i ≤ 2) (H : post (cd_L (cd_upp P p q i))) :
    wpX_upper post (cn, lv, x, y, w, hl, hh, lx, ly, lw, hx, hy, hw, rm, cd_L P.1, cd_L P.2.1, bW, p, q, a1, a2, a3, a4) (nI i) := by
  unfold wpX_upper
  dsimp only
  refine pk_eq i 1 (fun c => ?_) (fun c => pk_eq i 2 (fun d => ?_) (fun d => ?_))
  · unfold cd_upp at H
    rw [if_pos c] at H
    exact H
  · unfold cd_upp at H
    rw [if_neg c, if_pos d] at H
    exact H
  · unfold cd_upp at H
    rw [if_neg c, if_neg d] at H
    rw [cd_Lof, cd_Lof, cd_Lmul, cd_Lmul, cd_Ladd]
    exact H
end
theorem cd_gcd_s {N W : Int} (hW : 0 < W ∧ W ≤ 162) : (0 : Int) < (Int.gcd N W : Int) ∧ (Int.gcd N W : Int) ≤ 162 := by
  have h1 := cd_gpos N hW.1
  have h2 : (Int.gcd N W : Int) ∣ W := Int.gcd_dvd_right N W
  have h3 := Int.le_of_dvd hW.1 h2
  omega
theorem cd_wnum {post : Int32 → Prop} {m l : Nat} {a1 a2 a3 a4 : Nat → Int32} {R : Option cd_P} {p q : Int32} {u : St1} (hu : cd_rel m l a1 a2 a3 a4 R p q u) (hR : ∀ P, R = some P → cd_bd P) (hp : cd_c9 p.toInt) (hq : cd_c9 q.toInt) (i : Nat) (hi : i ≤ 2)
    (H : post (cd_I (cd_nm R p q i))) : wpX_numerator post u (nI i) := by
  obtain ⟨cn, lv, x, y, w, hl, hh, lx, ly, lw, hx, hy, hw, rm, bX, bY, bW, ap, aq, b1, b2, b3, b4⟩ := u
  obtain ⟨e1, e2, e3, e4, e5, e6, e7⟩ := hu
  subst e1 e2 e3 e4 e5 e6
  unfold wpX_numerator
  dsimp only
  cases R with
  | none =>
    refine br_t e7 ?_
    exact H
  | some P =>
    obtain ⟨f1, f2, f3, f4, f5, f6⟩ := e7
    subst f1 f2 f3 f4 f5 f6
    have hP := hR P rfl
    have hW := hP.2.2
    have hN := cd_upp_s hP hp hq i
    have hG := cd_gcd_s (N := cd_upp P ap aq i) hW
    refine br_f (by decide) (br_f (nI_pos (by omega)) (br_t (nI_le (b := 2) hi (by decide)) (cd_wupper hi (cd_wdiv (by omega) hW ⟨?_, ?_⟩))))
    · rw [cd_L0, cd_Leq (by unfold cd_s; omega) cd_s0]
      omega
    · rw [cd_Ldiv (by unfold cd_s; omega) (by unfold cd_s; omega), cd_LI]
      exact H
theorem cd_wden {post : Int32 → Prop} {m l : Nat} {a1 a2 a3 a4 : Nat → Int32} {R : Option cd_P} {p q : Int32} {u : St1} (hu : cd_rel m l a1 a2 a3 a4 R p q u) (hR : ∀ P, R = some P → cd_bd P) (hp : cd_c9 p.toInt) (hq : cd_c9 q.toInt) (i : Nat) (hi : i ≤ 2)
    (H : post (cd_I (cd_dn R p q i))) : wpX_denominator post u (nI i) := by
  obtain ⟨cn, lv, x, y, w, hl, hh, lx, ly, lw, hx, hy, hw, rm, bX, bY, bW, ap, aq, b1, b2, b3, b4⟩ := u
  obtain ⟨e1, e2, e3, e4, e5, e6, e7⟩ := hu
  subst e1 e2 e3 e4 e5 e6
  unfold wpX_denominator
  dsimp only
  cases R with
  | none =>
    refine br_t e7 ?_
    exact H
  | some P =>
    obtain ⟨f1, f2, f3, f4, f5, f6⟩ := e7
    subst f1 f2 f3 f4 f5 f6
    have hP := hR P rfl
    have hW := hP.2.2
    have hN := cd_upp_s hP hp hq i
    have hG := cd_gcd_s (N := cd_upp P ap aq i) hW
    refine br_f (by decide) (br_f (nI_pos (by omega)) (br_t (nI_le (b := 2) hi (by decide)) (cd_wupper hi (cd_wdiv (by omega) hW ⟨?_, ?_⟩))))
    · rw [cd_L0, cd_Leq (by unfold cd_s; omega) cd_s0]
      omega
    · rw [cd_Ldiv (by unfold cd_s; omega) (by unfold cd_s; omega), cd_LI]
      exact H
end
section
/-! the walk: conditions, test, add, push, pop, fits -/
def cd_cond (a b c : Int32) : Prop := cd_c9 a.toInt ∧ cd_c9 b.toInt ∧ cd_c99 c.toInt ∧ (a.toInt ≠ 0 ∨ b.toInt ≠ 0)
theorem cd_wcond {post : Int32 → Prop} (a b c : Int32) (H1 : cd_cond a b c → post 1) (H0 : ¬ cd_cond a b c → post 0) : wpX_isCondition post () a b c := by
  have bad : ¬ cd_cond a b c → wX_isCondition_40 post a b := fun h => br_t rfl (H0 h)
  unfold wpX_isCondition
  refine cd_br _ (cd_m9 a) (fun z => bad fun t => ?_) (fun d1 => cd_br _ (cd_g9 a) (fun z => bad fun t => ?_) (fun d2 => cd_br _ (cd_m9 b) (fun z => bad fun t => ?_) (fun d3 => cd_br _ (cd_g9 b) (fun z => bad fun t => ?_) (fun d4 => cd_br _ (cd_m99 c) (fun z => bad fun t => ?_) (fun d5 => cd_br _ (cd_g99 c) (fun z => bad fun t => ?_) (fun d6 => ?_))))))
  · have := t.1.1
    omega
  · have := t.1.2
    omega
  · have := t.2.1.1
    omega
  · have := t.2.1.2
    omega
  · have := t.2.2.1.1
    omega
  · have := t.2.2.1.2
    omega
  · have ga : cd_c9 a.toInt := ⟨by omega, by omega⟩
    have gb : cd_c9 b.toInt := ⟨by omega, by omega⟩
    have gc : cd_c99 c.toInt := ⟨by omega, by omega⟩
    unfold wX_isCondition_41
    refine br_f (by decide) (cd_br _ (cd_eq0 a) (fun ea => cd_br _ (cd_eq0 b) (fun eb => H0 fun t => ?_) (fun eb => H1 ⟨ga, gb, gc, Or.inr eb⟩)) (fun ea => H1 ⟨ga, gb, gc, Or.inl ea⟩))
    rcases t.2.2.2 with z | z
    · exact z ea
    · exact z eb
/-- how far a point lies over a condition -/
def cd_over (P : cd_P) (a b c : Int32) : Int := a.toInt * P.1 + b.toInt * P.2.1 - c.toInt * P.2.2
theorem cd_wtest {post : Int32 → Prop} {m l : Nat} {a1 a2 a3 a4 : Nat → Int32} {R : Option cd_P} {p q : Int32} {u : St1} (hu : cd_rel m l a1 a2 a3 a4 R p q u) (hR : ∀ P, R = some P → cd_bd P) (a b c : Int32)
    (HN : R = none ∨ ¬ cd_cond a b c → post (-1)) (HP : ∀ P, R = some P → cd_cond a b c → 0 < cd_over P a b c → post 0) (HM : ∀ P, R = some P → cd_cond a b c → cd_over P a b c ≤ 0 → post 1 ∧ post 2) : wpX_test post u a b c := by
  obtain ⟨cn, lv, x, y, w, hl, hh, lx, ly, lw, hx, hy, hw, rm, bX, bY, bW, ap, aq, b1, b2, b3, b4⟩ := u
  obtain ⟨e1, e2, e3, e4, e5, e6, e7⟩ := hu
  subst e1 e2 e3 e4 e5 e6
  unfold wpX_test
  dsimp only
  cases R with
  | none => exact br_t e7 (HN (Or.inl rfl))
  | some P =>
    obtain ⟨f1, f2, f3, f4, f5, f6⟩ := e7
    subst f1 f2 f3 f4 f5 f6
    have hP := hR P rfl
    refine br_f (by decide) (cd_wcond a b c (fun hc => br_f (by decide) ?_) (fun hc => br_t rfl (HN (Or.inr hc))))
    have hc' := hc
    obtain ⟨ca, cb, cc, _⟩ := hc'
    have h1 := cd_mb 9 1782 ca hP.1
    have h2 := cd_mb 9 1782 cb hP.2.1
    have h3 := cd_mb 99 162 cc (show -162 ≤ P.2.2 ∧ P.2.2 ≤ 162 by have := hP.2.2; omega)
    have so : cd_s (cd_over P a b c) := by
      unfold cd_s cd_over
      omega
    have eo : a.toInt64 * cd_L P.1 + b.toInt64 * cd_L P.2.1 - c.toInt64 * cd_L P.2.2 = cd_L (cd_over P a b c) := by
      rw [cd_Lof, cd_Lof, cd_Lof, cd_Lmul, cd_Lmul, cd_Lmul, cd_Ladd, cd_Lsub]
      rfl
    refine nm_r eo (cd_br (cd_over P a b c = 0) ?_ (fun d1 => ?_) (fun d1 => cd_br (0 ≤ cd_over P a b c) ?_ (fun d2 => ?_) (fun d2 => ?_)))
    · rw [cd_L0]
      exact cd_Leq so cd_s0
    · exact (HM P rfl hc (by omega)).1
    · rw [cd_L0]
      exact cd_Lle cd_s0 so
    · exact HP P rfl hc (by omega)
    · exact (HM P rfl hc (by omega)).2
theorem cd_wadd {post : Int32 → St1 → Prop} {m l : Nat} {a1 a2 a3 a4 : Nat → Int32} {R : Option cd_P} {p q : Int32} {u : St1} (hm : m ≤ 10) (hu : cd_rel m l a1 a2 a3 a4 R p q u) (a b c : Int32)
    (HN : post (-1) u) (HY : cd_cond a b c → m < 10 → ∀ u', cd_rel (m + 1) l (upd a1 (m + 4) a) (upd a2 (m + 4) b) (upd a3 (m + 4) c) a4 R p q u' → post (nI (m + 1)) u') : wpX_add post u a b c := by
  obtain ⟨cn, lv, x, y, w, hl, hh, lx, ly, lw, hx, hy, hw, rm, bX, bY, bW, ap, aq, b1, b2, b3, b4⟩ := u
  obtain ⟨e1, e2, e3, e4, e5, e6, e7⟩ := hu
  subst e1 e2 e3 e4 e5 e6
  unfold wpX_add
  dsimp only
  refine cd_wcond a b c (fun hc => br_f (by decide) (pk_lt (m + 4) 14 (fun d => ?_) (fun d => HN))) (fun hc => br_t rfl HN)
  rw [nI_clamp (show m + 4 < 2 ^ 31 by omega)]
  have i14 : vp_in (nI (m + 4)) 14 := pk_in (m + 4) 14 d
  have e1 : nI (m + 4) + 1 = nI (m + 1 + 4) := by rw [nI_1, show m + 4 + 1 = m + 1 + 4 by omega]
  have e2 : nI (m + 1 + 4) - 4 = nI (m + 1) := by
    have h := pk_sub (a := m + 1 + 4) (b := 4) (by omega)
    rw [show m + 1 + 4 - 4 = m + 1 by omega] at h
    exact h
  refine ⟨i14, nm_e ⟨i14, nm_e ⟨i14, nm_e (nm_r e1 ?_)⟩⟩⟩
  rw [e2]
  exact HY hc (by omega) _ ⟨rfl, rfl, rfl, rfl, rfl, rfl, e7⟩
theorem cd_wpush {post : Int32 → St1 → Prop} {m l : Nat} {a1 a2 a3 a4 : Nat → Int32} {R : Option cd_P} {p q : Int32} {u : St1} (hl8 : l ≤ 8) (hu : cd_rel m l a1 a2 a3 a4 R p q u)
    (HN : l = 8 → post (-1) u) (HY : l < 8 → ∀ u', cd_rel m (l + 1) a1 a2 a3 (upd a4 l (nI (m + 4))) R p q u' → post (nI (l + 1)) u') : wpX_push post u := by
  obtain ⟨cn, lv, x, y, w, hl, hh, lx, ly, lw, hx, hy, hw, rm, bX, bY, bW, ap, aq, b1, b2, b3, b4⟩ := u
  obtain ⟨e1, e2, e3, e4, e5, e6, e7⟩ := hu
  subst e1 e2 e3 e4 e5 e6
  unfold wpX_push
  dsimp only
  rw [nI_clamp (show l < 2 ^ 31 by omega)]
  exact pk_lt l 8 (fun d => ⟨pk_in l 8 d, nm_e (nm_r (nI_1 l) (HY d _ ⟨rfl, rfl, rfl, rfl, rfl, rfl, e7⟩))⟩) (fun d => HN (by omega))
theorem cd_wpop {post : Int32 → St1 → Prop} {m l m' : Nat} {a1 a2 a3 a4 : Nat → Int32} {R : Option cd_P} {p q : Int32} {u : St1} (h1 : 1 ≤ l) (h8 : l < 8) (hu : cd_rel m (l + 1) a1 a2 a3 a4 R p q u) (hs : a4 l = nI (m' + 4))
    (H : ∀ u', cd_rel m' l a1 a2 a3 a4 R p q u' → post (nI m') u') : wpX_pop post u := by
  obtain ⟨cn, lv, x, y, w, hl, hh, lx, ly, lw, hx, hy, hw, rm, bX, bY, bW, ap, aq, b1, b2, b3, b4⟩ := u
  obtain ⟨e1, e2, e3, e4, e5, e6, e7⟩ := hu
  subst e1 e2 e3 e4 e5 e6
  unfold wpX_pop
  dsimp only
  have e2 : nI (m' + 4) - 4 = nI m' := by
    have h := pk_sub (a := m' + 4) (b := 4) (by omega)
    rw [show m' + 4 - 4 = m' by omega] at h
    exact h
  refine pk_lt 1 (l + 1) (fun _ => nm_r (nI_pred l) ⟨pk_in l 8 h8, nm_r (e' := nI (m' + 4)) ?_ ?_⟩) (fun z => absurd z (by omega))
  · rw [nI_clamp (show l < 2 ^ 31 by omega)]
    exact hs
  · rw [e2]
    exact H _ ⟨rfl, rfl, rfl, rfl, rfl, rfl, e7⟩
theorem cd_wfits {post : Int32 → Prop} {m l : Nat} {a1 a2 a3 a4 : Nat → Int32} {P : cd_P} {p q : Int32} {u : St1} (hu : cd_rel m l a1 a2 a3 a4 (some P) p q u) (hP : cd_bd P) (hp : cd_c9 p.toInt) (hq : cd_c9 q.toInt)
    (H : post 1) : wpL_fits post u p q := by
  have hR : ∀ z, some P = some z → cd_bd z := fun z e => by
    cases e
    exact hP
  obtain ⟨cn, lv, x, y, w, hl, hh, lx, ly, lw, hx, hy, hw, rm, bX, bY, bW, ap, aq, b1, b2, b3, b4⟩ := u
  unfold wpL_fits
  dsimp only
  refine cd_wnum hu hR hp hq 0 (by omega) (cd_wden hu hR hp hq 0 (by omega) (cd_wnum hu hR hp hq 1 (by omega) (cd_wden hu hR hp hq 1 (by omega) (cd_wnum hu hR hp hq 2 (by omega) (cd_wden hu hR hp hq 2 (by omega) ?_)))))
  have hW := hP.2.2
  have u0 := cd_upp_s hP hp hq 0
  have u1 := cd_upp_s hP hp hq 1
  have u2 := cd_upp_s hP hp hq 2
  have hx1 := hP.1
  have hy1 := hP.2.1
  have n0 := cd_numB (cd_upp P p q 0) P.2.2 32076 u0
  have n1 := cd_numB P.1 P.2.2 1782 hx1
  have n2 := cd_numB P.2.1 P.2.2 1782 hy1
  have w162 : -162 ≤ P.2.2 ∧ P.2.2 ≤ 162 := by omega
  have d0 := cd_denB (cd_upp P p q 0) P.2.2 162 w162
  have d1 := cd_denB P.1 P.2.2 162 w162
  have d2 := cd_denB P.2.1 P.2.2 162 w162
  have q0 := cd_denP (cd_upp P p q 0) hW.1
  have q1 := cd_denP P.1 hW.1
  have q2 := cd_denP P.2.1 hW.1
  have ff := cd_fitsE p.toInt q.toInt P.1 P.2.1 P.2.2 hW.1
  have E0 : cd_nm (some P) p q 0 = cd_num (p.toInt * P.1 + q.toInt * P.2.1) P.2.2 := rfl
  have E1 : cd_nm (some P) p q 1 = cd_num P.1 P.2.2 := rfl
  have E2 : cd_nm (some P) p q 2 = cd_num P.2.1 P.2.2 := rfl
  have D0 : cd_dn (some P) p q 0 = cd_den (p.toInt * P.1 + q.toInt * P.2.1) P.2.2 := rfl
  have D1 : cd_dn (some P) p q 1 = cd_den P.1 P.2.2 := rfl
  have D2 : cd_dn (some P) p q 2 = cd_den P.2.1 P.2.2 := rfl
  have U0 : cd_upp P p q 0 = p.toInt * P.1 + q.toInt * P.2.1 := rfl
  rw [U0] at n0 d0 q0
  rw [E0, E1, E2, D0, D1, D2]
  generalize cd_num (p.toInt * P.1 + q.toInt * P.2.1) P.2.2 = vn at *
  generalize cd_den (p.toInt * P.1 + q.toInt * P.2.1) P.2.2 = vm at *
  generalize cd_num P.1 P.2.2 = vx at *
  generalize cd_den P.1 P.2.2 = vu at *
  generalize cd_num P.2.1 P.2.2 = vy at *
  generalize cd_den P.2.1 P.2.2 = vv at *
  have b1 := cd_mb 32076 162 n0 d1
  have b2 := cd_mb (32076 * 162) 162 b1 d2
  have b3 := cd_mb 9 1782 hp n1
  have b4 := cd_mb (9 * 1782) 162 b3 d2
  have b5 := cd_mb 9 1782 hq n2
  have b6 := cd_mb (9 * 1782) 162 b5 d1
  have b7 := cd_mb (2 * (9 * 1782 * 162)) 162 (a := p.toInt * vx * vv + q.toInt * vy * vu) (by omega) d0
  have sn : cd_s vn := by unfold cd_s; omega
  have sm : cd_s vm := by unfold cd_s; omega
  have sx : cd_s vx := by unfold cd_s; omega
  have su : cd_s vu := by unfold cd_s; omega
  have sy : cd_s vy := by unfold cd_s; omega
  have sv : cd_s vv := by unfold cd_s; omega
  rw [cd_IL sn, cd_IL sm, cd_IL sx, cd_IL su, cd_IL sy, cd_IL sv, cd_Lof p, cd_Lof q, cd_L1]
  refine br_f ?_ (br_f ?_ (br_t ?_ (br_t ?_ H)))
  · rw [cd_Llt sm cd_s1]
    omega
  · rw [cd_Llt su cd_s1]
    omega
  · rw [cd_Lle cd_s1 sv]
    omega
  · rw [cd_Lmul, cd_Lmul, cd_Lmul, cd_Lmul, cd_Lmul, cd_Lmul, cd_Ladd, cd_Lmul, ff]
end
section
/-! the walk: the law's state sum -/
abbrev cd_J : Type := Int32 → Int32 → Int32 → Int32 → Int64 → Int64 → Int64 → Int32 → Int32 → Int64 → Int64 → Int64 → Int64 → Int64 → Int64 → Int32 → Int64 → Int64 → Int64 → Int32 → Int32 → (Nat → Int32) → (Nat → Int32) → (Nat → Int32) → (Nat → Int32) → Prop
def cd_h1 (R : Option cd_P) (p q : Int32) (i : Nat) (s : Int32) : Int32 := (s * 31 + cd_I (cd_nm R p q i)) * 31 + cd_I (cd_dn R p q i)
def cd_h3 (R : Option cd_P) (p q : Int32) (s : Int32) : Int32 := cd_h1 R p q 2 (cd_h1 R p q 1 (cd_h1 R p q 0 s))
def cd_hs (m : Nat) (a1 a2 a3 : Nat → Int32) (p q : Int32) (s : Int32) : Int32 := cd_h3 (cd_S m a1 a2 a3 p q) p q (s * 31 + cd_b (cd_S m a1 a2 a3 p q))
def cd_hash (m : Nat) (a1 a2 a3 : Nat → Int32) (p q : Int32) : Int32 := cd_hs m a1 a2 a3 0 0 (cd_hs m a1 a2 a3 q (-p) (cd_hs m a1 a2 a3 (-p) (-q) (cd_hs m a1 a2 a3 p q 0)))
theorem cd_S_bd {m : Nat} {a1 a2 a3 : Nat → Int32} (he : cd_env m a1 a2 a3) (p q : Int32) : ∀ P, cd_S m a1 a2 a3 p q = some P → cd_bd P := cd_sol_bd he.2.1 _ _ m (Nat.le_refl _)
theorem cd_negT {p : Int32} (hp : cd_c9 p.toInt) : (-p).toInt = -p.toInt := by
  have h1 := hp.1
  have h2 := hp.2
  have e : -p = cd_I (-p.toInt) := by
    rw [← cd_Ineg, ← cd_Iof]
  rw [e, cd_IT]
  unfold cd_s
  omega
theorem cd_neg9 {p : Int32} (hp : cd_c9 p.toInt) : cd_c9 (-p).toInt := by
  have h1 := hp.1
  have h2 := hp.2
  rw [cd_negT hp]
  exact ⟨by omega, by omega⟩
theorem cd_z9 : cd_c9 (0 : Int32).toInt := by
  have : (0 : Int32).toInt = 0 := by decide
  rw [this]
  unfold cd_c9
  omega
section
variable {cn lv : Int32} {x y w : Int64} {hl hh : Int32} {lx ly lw hx hy hw : Int64} {rm : Int32} {bX bY bW : Int64} {ap aq : Int32} {b1 b2 b3 b4 : Nat → Int32}
theorem cd_wst99s {post : Int32 → St1 → Prop} {J5 : cd_J} {x1 x2 x4 : Int32} {m l : Nat} {a1 a2 a3 a4 : Nat → Int32} {R : Option cd_P} {p q : Int32}
    (hu : cd_rel m l a1 a2 a3 a4 R p q (cn, lv, x, y, w, hl, hh, lx, ly, lw, hx, hy, hw, rm, bX, bY, bW, ap, aq, b1, b2, b3, b4)) (hR : ∀ P, R = some P → cd_bd P) (hp : cd_c9 p.toInt) (hq : cd_c9 q.toInt) (j : Nat) (hj : j ≤ 2) (n : Nat) (s : Int32)
    (H : wL_state_99 post J5 x1 x2 x4 cn lv x y w hl hh lx ly lw hx hy hw rm bX bY bW ap aq b1 b2 b3 b4 n (cd_h1 R p q j s) (nI (j + 1))) :
    wL_state_99 post J5 x1 x2 x4 cn lv x y w hl hh lx ly lw hx hy hw rm bX bY bW ap aq b1 b2 b3 b4 (n + 1) s (nI j) :=
  pk_le 3 j (fun z => absurd z (by omega)) (fun _ => cd_wnum hu hR hp hq j hj (nm_e (cd_wden hu hR hp hq j hj (nm_e (nm_r (nI_1 j) H)))))
theorem cd_wst76 {post : Int32 → St1 → Prop} {J5 : cd_J} {x1 x2 : Int32} {m l i : Nat} {a1 a2 a3 a4 : Nat → Int32} {R : Option cd_P} {p q p' q' s : Int32} (he : cd_env m a1 a2 a3)
    (hu : cd_rel m l a1 a2 a3 a4 R p q (cn, lv, x, y, w, hl, hh, lx, ly, lw, hx, hy, hw, rm, bX, bY, bW, ap, aq, b1, b2, b3, b4)) (hp : cd_c9 p'.toInt) (hq : cd_c9 q'.toInt)
    (H : ∀ cn lv x y w hl hh lx ly lw hx hy hw rm bX bY bW ap aq b1 b2 b3 b4, cd_rel m l a1 a2 a3 a4 (cd_S m a1 a2 a3 p' q') p' q' (cn, lv, x, y, w, hl, hh, lx, ly, lw, hx, hy, hw, rm, bX, bY, bW, ap, aq, b1, b2, b3, b4) →
      J5 (cd_hs m a1 a2 a3 p' q' s) (nI (i + 1)) cn lv x y w hl hh lx ly lw hx hy hw rm bX bY bW ap aq b1 b2 b3 b4) :
    wL_state_76 post J5 x1 x2 s (nI i) p' q' cn lv x y w hl hh lx ly lw hx hy hw rm bX bY bW ap aq b1 b2 b3 b4 := by
  unfold wL_state_76
  refine cd_wbest he hu hp hq (fun u' hu' => ?_)
  obtain ⟨cn, lv, x, y, w, hl, hh, lx, ly, lw, hx, hy, hw, rm, bX, bY, bW, ap, aq, b1, b2, b3, b4⟩ := u'
  dsimp only
  have hR := cd_S_bd he p' q'
  exact nm_e ⟨4, cd_wst99s hu' hR hp hq 0 (by omega) 3 _ (cd_wst99s hu' hR hp hq 1 (by omega) 2 _ (cd_wst99s hu' hR hp hq 2 (by omega) 1 _ (pk_le 3 3 (fun _ => nm_r (nI_1 i) (H _ _ _ _ _ _ _ _ _ _ _ _ _ _ _ _ _ _ _ _ _ _ _ hu')) (fun z => absurd z (by omega)))))⟩
end
theorem cd_wstate {post : Int32 → St1 → Prop} {m l : Nat} {a1 a2 a3 a4 : Nat → Int32} {R : Option cd_P} {p q : Int32} {u : St1} (he : cd_env m a1 a2 a3) (hu : cd_rel m l a1 a2 a3 a4 R p q u) {p' q' : Int32} (hp : cd_c9 p'.toInt) (hq : cd_c9 q'.toInt)
    (H : ∀ u', cd_rel m l a1 a2 a3 a4 (cd_S m a1 a2 a3 0 0) 0 0 u' → post (cd_hash m a1 a2 a3 p' q') u') : wpL_state post u p' q' := by
  obtain ⟨cn, lv, x, y, w, hl, hh, lx, ly, lw, hx, hy, hw, rm, bX, bY, bW, ap, aq, b1, b2, b3, b4⟩ := u
  have n10 : ¬ nI 1 = 0 := by decide
  have n20 : ¬ nI 2 = 0 := by decide
  have n21 : ¬ nI 2 = 1 := by decide
  have n30 : ¬ nI 3 = 0 := by decide
  have n31 : ¬ nI 3 = 1 := by decide
  have n32 : ¬ nI 3 = 2 := by decide
  unfold wpL_state
  dsimp only
  refine ⟨5, pk_le 4 0 (fun z => absurd z (by omega)) (fun _ => br_t rfl (br_t rfl (cd_wst76 (i := 0) he hu hp hq ?_)))⟩
  intro cn lv x y w hl hh lx ly lw hx hy hw rm bX bY bW ap aq b1 b2 b3 b4 hu
  refine pk_le 4 1 (fun z => absurd z (by omega)) (fun _ => br_f n10 (br_t rfl (br_f n10 (br_t rfl (cd_wst76 (i := 1) he hu (cd_neg9 hp) (cd_neg9 hq) ?_)))))
  intro cn lv x y w hl hh lx ly lw hx hy hw rm bX bY bW ap aq b1 b2 b3 b4 hu
  refine pk_le 4 2 (fun z => absurd z (by omega)) (fun _ => br_f n20 (br_f n21 (br_t rfl (br_f n20 (br_f n21 (br_t rfl (cd_wst76 (i := 2) he hu hq (cd_neg9 hp) ?_)))))))
  intro cn lv x y w hl hh lx ly lw hx hy hw rm bX bY bW ap aq b1 b2 b3 b4 hu
  refine pk_le 4 3 (fun z => absurd z (by omega)) (fun _ => br_f n30 (br_f n31 (br_f n32 (br_f n30 (br_f n31 (br_f n32 (cd_wst76 (i := 3) he hu cd_z9 cd_z9 ?_)))))))
  intro cn lv x y w hl hh lx ly lw hx hy hw rm bX bY bW ap aq b1 b2 b3 b4 hu
  exact pk_le 4 4 (fun _ => H _ hu) (fun z => absurd z (by omega))
/-- the sum depends on the conditions below the count alone -/
theorem cd_S_cg {m : Nat} {a1 a2 a3 b1 b2 b3 : Nat → Int32} (h : ∀ i, i < m + 4 → a1 i = b1 i ∧ a2 i = b2 i ∧ a3 i = b3 i) (p q : Int32) : cd_S m a1 a2 a3 p q = cd_S m b1 b2 b3 p q := by
  refine cd_sol_cg (n := m + 4) (fun i hi => ?_) _ _ m (Nat.le_refl _)
  obtain ⟨e1, e2, e3⟩ := h i hi
  unfold cd_T
  rw [e1, e2, e3]
  exact ⟨rfl, rfl, rfl⟩
theorem cd_hash_cg {m : Nat} {a1 a2 a3 b1 b2 b3 : Nat → Int32} (h : ∀ i, i < m + 4 → a1 i = b1 i ∧ a2 i = b2 i ∧ a3 i = b3 i) (p q : Int32) : cd_hash m a1 a2 a3 p q = cd_hash m b1 b2 b3 p q := by
  have e : ∀ p q s, cd_hs m a1 a2 a3 p q s = cd_hs m b1 b2 b3 p q s := by
    intro p q s
    unfold cd_hs
    rw [cd_S_cg h p q]
  unfold cd_hash
  rw [e, e, e, e]
end
section
/-! the walk: one condition added -/
theorem cd_S_ans {m : Nat} {a1 a2 a3 : Nat → Int32} (he : cd_env m a1 a2 a3) (p q : Int32) : cd_ans (cd_T a1) (cd_T a2) (cd_T a3) p.toInt q.toInt (m + 4) (cd_S m a1 a2 a3 p q) :=
  cd_ans_ok he.2.2 _ _ m (fun i hi => (he.2.1 i hi).2.2.2)
theorem cd_S_b {m : Nat} {a1 a2 a3 : Nat → Int32} (he : cd_env m a1 a2 a3) (p q p' q' : Int32) : cd_b (cd_S m a1 a2 a3 p q) = cd_b (cd_S m a1 a2 a3 p' q') := by
  have h1 := cd_S_ans he p q
  have h2 := cd_S_ans he p' q'
  cases e1 : cd_S m a1 a2 a3 p q with
  | none =>
    cases e2 : cd_S m a1 a2 a3 p' q' with
    | none => rfl
    | some P =>
      have g := h2.2 P e2
      exact absurd g.2.1 (h1.1 e1 P g.1)
  | some P =>
    cases e2 : cd_S m a1 a2 a3 p' q' with
    | none =>
      have g := h1.2 P e1
      exact absurd g.2.1 (h2.1 e2 P g.1)
    | some P' => rfl
theorem cd_upd_lo {a : Nat → Int32} {n i : Nat} {v : Int32} (h : i < n) : upd a n v i = a i := pk_un (by omega)
theorem cd_env_add {m : Nat} {a1 a2 a3 : Nat → Int32} (he : cd_env m a1 a2 a3) (hm : m < 10) {a b c : Int32} (hc : cd_cond a b c) : cd_env (m + 1) (upd a1 (m + 4) a) (upd a2 (m + 4) b) (upd a3 (m + 4) c) := by
  obtain ⟨_, hg, hb⟩ := he
  refine ⟨by omega, fun i hi => ?_, ?_⟩
  · unfold cd_T
    by_cases e : i = m + 4
    · rw [e, pk_us, pk_us, pk_us]
      exact hc
    · rw [pk_un e, pk_un e, pk_un e]
      exact hg i (by omega)
  · unfold cd_box cd_T at hb ⊢
    rw [cd_upd_lo (show 0 < m + 4 by omega), cd_upd_lo (show 1 < m + 4 by omega), cd_upd_lo (show 2 < m + 4 by omega), cd_upd_lo (show 3 < m + 4 by omega),
      cd_upd_lo (show 0 < m + 4 by omega), cd_upd_lo (show 1 < m + 4 by omega), cd_upd_lo (show 2 < m + 4 by omega), cd_upd_lo (show 3 < m + 4 by omega),
      cd_upd_lo (show 0 < m + 4 by omega), cd_upd_lo (show 1 < m + 4 by omega), cd_upd_lo (show 2 < m + 4 by omega), cd_upd_lo (show 3 < m + 4 by omega)]
    exact hb
theorem cd_upd_cg {m : Nat} {a1 a2 a3 : Nat → Int32} {a b c : Int32} : ∀ i, i < m + 4 → upd a1 (m + 4) a i = a1 i ∧ upd a2 (m + 4) b i = a2 i ∧ upd a3 (m + 4) c i = a3 i :=
  fun i hi => ⟨cd_upd_lo hi, cd_upd_lo hi, cd_upd_lo hi⟩
theorem cd_S_none {m : Nat} {a1 a2 a3 : Nat → Int32} {p q a b c : Int32} (e : cd_S m a1 a2 a3 p q = none) : cd_S (m + 1) (upd a1 (m + 4) a) (upd a2 (m + 4) b) (upd a3 (m + 4) c) p q = none := by
  rw [← cd_S_cg (cd_upd_cg (m := m) (a1 := a1) (a2 := a2) (a3 := a3) (a := a) (b := b) (c := c)) p q] at e
  exact cd_sol_none e 1
theorem cd_S_keep {m : Nat} {a1 a2 a3 : Nat → Int32} {p q a b c : Int32} {P : cd_P} (e : cd_S m a1 a2 a3 p q = some P) (h : cd_over P a b c ≤ 0) : cd_S (m + 1) (upd a1 (m + 4) a) (upd a2 (m + 4) b) (upd a3 (m + 4) c) p q = some P := by
  rw [← cd_S_cg (cd_upd_cg (m := m) (a1 := a1) (a2 := a2) (a3 := a3) (a := a) (b := b) (c := c)) p q] at e
  have e' : cd_sol (cd_T (upd a1 (m + 4) a)) (cd_T (upd a2 (m + 4) b)) (cd_T (upd a3 (m + 4) c)) p.toInt q.toInt m = some P := e
  show cd_sol (cd_T (upd a1 (m + 4) a)) (cd_T (upd a2 (m + 4) b)) (cd_T (upd a3 (m + 4) c)) p.toInt q.toInt (m + 1) = some P
  unfold cd_sol
  rw [e']
  dsimp only
  rw [if_neg]
  unfold cd_T
  rw [pk_us, pk_us, pk_us]
  unfold cd_over at h
  omega
theorem cd_S_le {m : Nat} {a1 a2 a3 : Nat → Int32} {p q a b c : Int32} {P P' : cd_P} (he : cd_env m a1 a2 a3) (he' : cd_env (m + 1) (upd a1 (m + 4) a) (upd a2 (m + 4) b) (upd a3 (m + 4) c)) (e : cd_S m a1 a2 a3 p q = some P)
    (e' : cd_S (m + 1) (upd a1 (m + 4) a) (upd a2 (m + 4) b) (upd a3 (m + 4) c) p q = some P') : cd_over P' a b c ≤ 0 ∧ cd_upp P' p q 0 * P.2.2 ≤ cd_upp P p q 0 * P'.2.2 := by
  obtain ⟨_, _, v1⟩ := (cd_S_ans he p q).2 P e
  obtain ⟨w2, f2, _⟩ := (cd_S_ans he' p q).2 P' e'
  constructor
  · have h := f2 (m + 4) (by omega)
    unfold cd_sat cd_T at h
    rw [pk_us, pk_us, pk_us] at h
    unfold cd_over
    omega
  · refine v1 P' w2 (fun i hi => ?_)
    have h := f2 i (by omega)
    unfold cd_sat cd_T at h ⊢
    rw [cd_upd_lo hi, cd_upd_lo hi, cd_upd_lo hi] at h
    exact h
theorem cd_fr_s {P : cd_P} {p q : Int32} (hP : cd_bd P) (hp : cd_c9 p.toInt) (hq : cd_c9 q.toInt) :
    (-32076 ≤ cd_nm (some P) p q 0 ∧ cd_nm (some P) p q 0 ≤ 32076) ∧ (-162 ≤ cd_dn (some P) p q 0 ∧ cd_dn (some P) p q 0 ≤ 162) := by
  have hW := hP.2.2
  exact ⟨cd_numB _ _ 32076 (cd_upp_s hP hp hq 0), cd_denB _ _ 162 (show -162 ≤ P.2.2 ∧ P.2.2 ≤ 162 by omega)⟩
section
variable {cn lv : Int32} {x y w : Int64} {hl hh : Int32} {lx ly lw hx hy hw : Int64} {rm : Int32} {bX bY bW : Int64} {ap aq : Int32} {b1 b2 b3 b4 : Nat → Int32}
theorem cd_w123 {post : Int32 → St1 → Prop} {m l : Nat} {a1 a2 a3 a4 : Nat → Int32} {p q a b c z0 : Int32} (he : cd_env m a1 a2 a3)
    (hu : cd_rel m l a1 a2 a3 a4 (cd_S m a1 a2 a3 p q) p q (cn, lv, x, y, w, hl, hh, lx, ly, lw, hx, hy, hw, rm, bX, bY, bW, ap, aq, b1, b2, b3, b4)) (hp : cd_c9 p.toInt) (hq : cd_c9 q.toInt)
    (hz : (z0 < 1 ∧ ¬ 1 ≤ z0) ∨ (¬ z0 < 1 ∧ ∃ P, cd_S m a1 a2 a3 p q = some P ∧ cd_over P a b c ≤ 0))
    (H : ∀ m' a1' a2' a3' R' u', m ≤ m' → cd_env m' a1' a2' a3' → (∀ i, i < m + 4 → a1' i = a1 i ∧ a2' i = a2 i ∧ a3' i = a3 i) → cd_rel m' l a1' a2' a3' a4 R' p q u' → post 1 u') :
    wL_added_123 post p q a b c (cd_b (cd_S m a1 a2 a3 p q)) (cd_I (cd_nm (cd_S m a1 a2 a3 p q) p q 0)).toInt64 (cd_I (cd_dn (cd_S m a1 a2 a3 p q) p q 0)).toInt64 z0 cn lv x y w hl hh lx ly lw hx hy hw rm bX bY bW ap aq b1 b2 b3 b4 := by
  unfold wL_added_123
  refine cd_wadd he.1 hu a b c ?_ (fun hc hm u' hu' => ?_)
  · dsimp only
    exact br_f (by decide) (H m a1 a2 a3 _ _ (Nat.le_refl _) he (fun i _ => ⟨rfl, rfl, rfl⟩) hu)
  · have he' := cd_env_add he hm hc
    obtain ⟨cn, lv, x, y, w, hl, hh, lx, ly, lw, hx, hy, hw, rm, bX, bY, bW, ap, aq, b1, b2, b3, b4⟩ := u'
    dsimp only
    refine br_t (nI_pos' (by omega)) (cd_wbest he' hu' hp hq (fun u' hu' => ?_))
    obtain ⟨cn, lv, x, y, w, hl, hh, lx, ly, lw, hx, hy, hw, rm, bX, bY, bW, ap, aq, b1, b2, b3, b4⟩ := u'
    dsimp only
    refine cd_wposs he' hu' (fun u' hu' => ?_)
    obtain ⟨cn, lv, x, y, w, hl, hh, lx, ly, lw, hx, hy, hw, rm, bX, bY, bW, ap, aq, b1, b2, b3, b4⟩ := u'
    dsimp only
    have fin := H (m + 1) _ _ _ _ _ (by omega) he' cd_upd_cg hu'
    refine br_t (cd_S_b he' p q 0 0) ?_
    have hbd := cd_S_bd he p q
    have hbd' := cd_S_bd he' p q
    cases e : cd_S m a1 a2 a3 p q with
    | none =>
      rw [cd_S_none e]
      refine br_t (by decide) (br_t rfl (br_f ?_ fin))
      rcases hz with z | ⟨_, P, z, _⟩
      · exact z.2
      · rw [e] at z
        cases z
    | some P =>
      have hP := hbd P e
      cases e' : cd_S (m + 1) (upd a1 (m + 4) a) (upd a2 (m + 4) b) (upd a3 (m + 4) c) p q with
      | none =>
        refine br_t (show (0 : Int32) ≤ 1 by decide) (br_t rfl (br_f ?_ fin))
        rcases hz with z | ⟨_, P', z, z'⟩
        · exact z.2
        · rw [e] at z
          cases z
          rw [cd_S_keep e z'] at e'
          cases e'
      | some P' =>
        have hP' := hbd' P' e'
        rw [e'] at hu'
        have hRs : ∀ z, some P' = some z → cd_bd z := fun z ez => by
          cases ez
          exact hP'
        obtain ⟨ho, hv⟩ := cd_S_le he he' e e'
        refine br_t (show (1 : Int32) ≤ 1 by decide) (br_f (show ¬ (1 : Int32) = 0 by decide) (cd_wnum hu' hRs hp hq 0 (by omega) (cd_wden hu' hRs hp hq 0 (by omega) (cd_wfits hu' hP' hp hq (br_f (by decide) (cd_wtest hu' hRs a b c (fun z => ?_) (fun z ez _ hgt => ?_) (fun z ez _ _ => ?_)))))))
        · rcases z with z | z
          · cases z
          · exact absurd hc z
        · cases ez
          omega
        · obtain ⟨s1, s2⟩ := cd_fr_s hP hp hq
          obtain ⟨s3, s4⟩ := cd_fr_s hP' hp hq
          have hfr : cd_nm (some P') p q 0 * cd_dn (some P) p q 0 ≤ cd_nm (some P) p q 0 * cd_dn (some P') p q 0 := cd_fracLe hP.2.2.1 hP'.2.2.1 hv
          have k1 := cd_mb 32076 162 s1 s4
          have k2 := cd_mb 32076 162 s3 s2
          have t1 : cd_s (cd_nm (some P) p q 0 * cd_dn (some P') p q 0) := by unfold cd_s; omega
          have t2 : cd_s (cd_nm (some P') p q 0 * cd_dn (some P) p q 0) := by unfold cd_s; omega
          have tail : ((cd_I (cd_nm (some P) p q 0)).toInt64 * (cd_I (cd_dn (some P') p q 0)).toInt64 < (cd_I (cd_nm (some P') p q 0)).toInt64 * (cd_I (cd_dn (some P) p q 0)).toInt64 → post 0 (cn, lv, x, y, w, hl, hh, lx, ly, lw, hx, hy, hw, rm, bX, bY, bW, ap, aq, b1, b2, b3, b4)) ∧
              (¬ (cd_I (cd_nm (some P) p q 0)).toInt64 * (cd_I (cd_dn (some P') p q 0)).toInt64 < (cd_I (cd_nm (some P') p q 0)).toInt64 * (cd_I (cd_dn (some P) p q 0)).toInt64 →
                ((z0 < 1 → post 1 (cn, lv, x, y, w, hl, hh, lx, ly, lw, hx, hy, hw, rm, bX, bY, bW, ap, aq, b1, b2, b3, b4)) ∧ (¬ z0 < 1 →
                  (((cd_I (cd_nm (some P') p q 0)).toInt64 * (cd_I (cd_dn (some P) p q 0)).toInt64 = (cd_I (cd_nm (some P) p q 0)).toInt64 * (cd_I (cd_dn (some P') p q 0)).toInt64 → post 1 (cn, lv, x, y, w, hl, hh, lx, ly, lw, hx, hy, hw, rm, bX, bY, bW, ap, aq, b1, b2, b3, b4)) ∧
                   (¬ (cd_I (cd_nm (some P') p q 0)).toInt64 * (cd_I (cd_dn (some P) p q 0)).toInt64 = (cd_I (cd_nm (some P) p q 0)).toInt64 * (cd_I (cd_dn (some P') p q 0)).toInt64 → post 0 (cn, lv, x, y, w, hl, hh, lx, ly, lw, hx, hy, hw, rm, bX, bY, bW, ap, aq, b1, b2, b3, b4)))))) := by
            rw [cd_IL (show cd_s (cd_nm (some P) p q 0) by unfold cd_s; omega), cd_IL (show cd_s (cd_dn (some P) p q 0) by unfold cd_s; omega), cd_IL (show cd_s (cd_nm (some P') p q 0) by unfold cd_s; omega), cd_IL (show cd_s (cd_dn (some P') p q 0) by unfold cd_s; omega), cd_Lmul, cd_Lmul]
            refine br_f ?_ (br_c (fun _ => fin) (fun hz1 => br_t ?_ fin))
            · rw [cd_Llt t1 t2]
              omega
            · rcases hz with z | ⟨_, P2, z, z'⟩
              · exact absurd z.1 hz1
              · rw [e] at z
                cases z
                rw [cd_S_keep e z'] at e'
                cases e'
                rfl
          exact ⟨br_f (by decide) tail, br_f (by decide) tail⟩
theorem cd_w88 {post : Int32 → St1 → Prop} {m l : Nat} {a1 a2 a3 a4 : Nat → Int32} {p q a b c : Int32} (he : cd_env m a1 a2 a3)
    (hu : cd_rel m l a1 a2 a3 a4 (cd_S m a1 a2 a3 p q) p q (cn, lv, x, y, w, hl, hh, lx, ly, lw, hx, hy, hw, rm, bX, bY, bW, ap, aq, b1, b2, b3, b4)) (hp : cd_c9 p.toInt) (hq : cd_c9 q.toInt)
    (H : ∀ m' a1' a2' a3' R' u', m ≤ m' → cd_env m' a1' a2' a3' → (∀ i, i < m + 4 → a1' i = a1 i ∧ a2' i = a2 i ∧ a3' i = a3 i) → cd_rel m' l a1' a2' a3' a4 R' p q u' → post 1 u') :
    wL_added_88 post p q a b c (cd_b (cd_S m a1 a2 a3 p q)) cn lv x y w hl hh lx ly lw hx hy hw rm bX bY bW ap aq b1 b2 b3 b4 := by
  have hbd := cd_S_bd he p q
  unfold wL_added_88
  refine cd_wnum hu hbd hp hq 0 (by omega) (cd_wden hu hbd hp hq 0 (by omega) (br_c (fun _ => cd_wtest hu hbd a b c (fun _ => ?_) (fun P e _ _ => ?_) (fun P e _ ho => ⟨?_, ?_⟩)) (fun _ => ?_)))
  · exact cd_w123 he hu hp hq (Or.inl ⟨by decide, by decide⟩) H
  · exact cd_w123 he hu hp hq (Or.inl ⟨by decide, by decide⟩) H
  · exact cd_w123 he hu hp hq (Or.inr ⟨by decide, P, e, ho⟩) H
  · exact cd_w123 he hu hp hq (Or.inr ⟨by decide, P, e, ho⟩) H
  · exact cd_w123 he hu hp hq (Or.inl ⟨by decide, by decide⟩) H
end
/-- the box tests -/
theorem cd_boxtest {post : Int32 → Prop} {m l i : Nat} {a1 a2 a3 a4 : Nat → Int32} {P : cd_P} {p q : Int32} {u : St1} (he : cd_env m a1 a2 a3) (hu : cd_rel m l a1 a2 a3 a4 (some P) p q u) (hP : cd_bd P) (e : cd_S m a1 a2 a3 p q = some P)
    (hi : i < 4) {a b c : Int32} (ea : cd_T a1 i = a.toInt) (eb : cd_T a2 i = b.toInt) (ec : cd_T a3 i = c.toInt) (H : post 1 ∧ post 2) : wpX_test post u a b c := by
  have hR : ∀ z, some P = some z → cd_bd z := fun z ez => by
    cases ez
    exact hP
  have hc : cd_cond a b c := by
    have h := he.2.1 i (by omega)
    rw [ea, eb, ec] at h
    exact h
  refine cd_wtest hu hR a b c (fun z => ?_) (fun z ez _ hgt => ?_) (fun _ _ _ _ => H)
  · rcases z with z | z
    · cases z
    · exact absurd hc z
  · cases ez
    have h := ((cd_S_ans he p q).2 P e).2.1 i (by omega)
    unfold cd_sat at h
    rw [ea, eb, ec] at h
    unfold cd_over at hgt
    omega
theorem cd_wadded {post : Int32 → St1 → Prop} {m l : Nat} {a1 a2 a3 a4 : Nat → Int32} {R : Option cd_P} {p0 q0 p q : Int32} {u : St1} (he : cd_env m a1 a2 a3) (hu : cd_rel m l a1 a2 a3 a4 R p0 q0 u) (hp : cd_c9 p.toInt) (hq : cd_c9 q.toInt) (a b c : Int32)
    (H : ∀ m' a1' a2' a3' R' u', m ≤ m' → cd_env m' a1' a2' a3' → (∀ i, i < m + 4 → a1' i = a1 i ∧ a2' i = a2 i ∧ a3' i = a3 i) → cd_rel m' l a1' a2' a3' a4 R' p q u' → post 1 u') : wpL_added post u p q a b c := by
  obtain ⟨cn, lv, x, y, w, hl, hh, lx, ly, lw, hx, hy, hw, rm, bX, bY, bW, ap, aq, b1, b2, b3, b4⟩ := u
  unfold wpL_added
  dsimp only
  refine cd_wposs he hu (fun u' hu' => ?_)
  obtain ⟨cn, lv, x, y, w, hl, hh, lx, ly, lw, hx, hy, hw, rm, bX, bY, bW, ap, aq, b1, b2, b3, b4⟩ := u'
  dsimp only
  refine cd_wbest he hu' hp hq (fun u' hu' => ?_)
  obtain ⟨cn, lv, x, y, w, hl, hh, lx, ly, lw, hx, hy, hw, rm, bX, bY, bW, ap, aq, b1, b2, b3, b4⟩ := u'
  dsimp only
  refine br_t (cd_S_b he p q 0 0) ?_
  have next := cd_w88 (a := a) (b := b) (c := c) he hu' hp hq H
  have hbd := cd_S_bd he p q
  cases e : cd_S m a1 a2 a3 p q with
  | none =>
    rw [e] at next
    exact br_f (by decide) next
  | some P =>
    rw [e] at next hu'
    have hP := hbd P e
    obtain ⟨⟨a0, b0, c0⟩, ⟨a1', b1', c1'⟩, ⟨a2', b2', c2'⟩, ⟨a3', b3', c3'⟩⟩ := he.2.2
    have q1 : ¬ (1 : Int32) < 1 := by decide
    have q2 : ¬ (2 : Int32) < 1 := by decide
    have t4 := cd_boxtest (post := fun r => (1 ≤ r → wL_added_88 post p q a b c (cd_b (some P)) cn lv x y w hl hh lx ly lw hx hy hw rm bX bY bW ap aq b1 b2 b3 b4) ∧ (¬ 1 ≤ r → post 0 (cn, lv, x, y, w, hl, hh, lx, ly, lw, hx, hy, hw, rm, bX, bY, bW, ap, aq, b1, b2, b3, b4))) he hu' hP e (show 3 < 4 by omega) (a := 0) (b := -1) (c := 50) a3' b3' c3' ⟨br_t (by decide) next, br_t (by decide) next⟩
    refine br_t rfl (cd_wfits hu' hP hp hq (br_f (by decide) (cd_boxtest he hu' hP e (show 0 < 4 by omega) a0 b0 c0 ?_)))
    have t3 := cd_boxtest (post := fun r => (r < 1 → post 0 (cn, lv, x, y, w, hl, hh, lx, ly, lw, hx, hy, hw, rm, bX, bY, bW, ap, aq, b1, b2, b3, b4)) ∧ (¬ r < 1 → _)) he hu' hP e (show 2 < 4 by omega) (a := 0) (b := 1) (c := 50) a2' b2' c2' ⟨br_f q1 t4, br_f q2 t4⟩
    have t2 := cd_boxtest (post := fun r => (r < 1 → post 0 (cn, lv, x, y, w, hl, hh, lx, ly, lw, hx, hy, hw, rm, bX, bY, bW, ap, aq, b1, b2, b3, b4)) ∧ (¬ r < 1 → _)) he hu' hP e (show 1 < 4 by omega) (a := -1) (b := 0) (c := 50) a1' b1' c1' ⟨br_f q1 t3, br_f q2 t3⟩
    exact ⟨br_f q1 t2, br_f q2 t2⟩
end
section
/-! the walk: the law -/
def cd_inv (u : St1) : Prop := ∃ m l a1 a2 a3 a4 R p q, 1 ≤ l ∧ l ≤ 8 ∧ cd_env m a1 a2 a3 ∧ cd_rel m l a1 a2 a3 a4 R p q u
theorem cd_good_box {A B C : Nat → Int} (hb : cd_box A B C) : cd_good A B C 4 := by
  obtain ⟨⟨a0, b0, c0⟩, ⟨a1, b1, c1⟩, ⟨a2, b2, c2⟩, ⟨a3, b3, c3⟩⟩ := hb
  intro i hi
  unfold cd_c9 cd_c99
  have hi' : i = 0 ∨ i = 1 ∨ i = 2 ∨ i = 3 := by omega
  rcases hi' with z | z | z | z
  · rw [z, a0, b0, c0]
    decide
  · rw [z, a1, b1, c1]
    decide
  · rw [z, a2, b2, c2]
    decide
  · rw [z, a3, b3, c3]
    decide
theorem cd_winit {post : St1 → Prop} (H : ∀ u, cd_inv u → post u) : wpX_init post 4 50 (0, 0, 0, 0, 0, 0, 0, 0, 0, 0, 0, 0, 0, 0, 0, 0, 0, 0, 0) := by
  unfold wpX_init
  dsimp only
  refine ⟨by decide, by decide, by decide, by decide, by decide, by decide, by decide, by decide, nm_e (nm_e (nm_e (nm_e ⟨5, ?_⟩)))⟩
  refine pk_le 4 0 (fun z => absurd z (by omega)) (fun _ => ⟨pk_in 0 14 (by omega), nm_r (e' := upd (fun _ => 0) 0 50) rfl (nm_r (nI_1 0) ?_)⟩)
  refine pk_le 4 1 (fun z => absurd z (by omega)) (fun _ => ⟨pk_in 1 14 (by omega), nm_r (e' := upd (upd (fun _ => 0) 0 50) 1 50) rfl (nm_r (nI_1 1) ?_)⟩)
  refine pk_le 4 2 (fun z => absurd z (by omega)) (fun _ => ⟨pk_in 2 14 (by omega), nm_r (e' := upd (upd (upd (fun _ => 0) 0 50) 1 50) 2 50) rfl (nm_r (nI_1 2) ?_)⟩)
  refine pk_le 4 3 (fun z => absurd z (by omega)) (fun _ => ⟨pk_in 3 14 (by omega), nm_r (e' := upd (upd (upd (upd (fun _ => 0) 0 50) 1 50) 2 50) 3 50) rfl (nm_r (nI_1 3) ?_)⟩)
  refine pk_le 4 4 (fun _ => nm_e (H _ ?_)) (fun z => absurd z (by omega))
  have hb : cd_box (cd_T (upd (upd (fun _ => 0) 0 1) 1 (-1))) (cd_T (upd (upd (fun _ => 0) 2 1) 3 (-1))) (cd_T (upd (upd (upd (upd (fun _ => 0) 0 50) 1 50) 2 50) 3 50)) := by
    refine ⟨⟨?_, ?_, ?_⟩, ⟨?_, ?_, ?_⟩, ⟨?_, ?_, ?_⟩, ⟨?_, ?_, ?_⟩⟩ <;> decide
  exact ⟨0, 1, _, _, _, _, none, 0, 0, by omega, by omega, ⟨by omega, cd_good_box hb, hb⟩, ⟨rfl, rfl, rfl, rfl, rfl, rfl, rfl⟩⟩
theorem cd_arg (v : Int32) : cd_c9 (((v &&& 255) - (v &&& 255) / 19 * 19) - 9).toInt := by
  obtain ⟨j, hj, e⟩ := pk_andE v (m := 255) 8 (by decide)
  rw [e]
  have h1 : nI j - nI j / 19 * 19 = nI (j % 19) := pk_rem (a := j) (d := 19) (by omega) (by decide) (by decide)
  rw [h1]
  have h3 := Nat.mod_lt j (show 0 < 19 by decide)
  have h2 : (nI (j % 19) - 9).toInt = ((j % 19 : Nat) : Int) - 9 := pk_sub_toInt (a := j % 19) (b := 9) (by omega) (by decide)
  rw [h2]
  exact ⟨by omega, by omega⟩
theorem cd_env_le {m m' : Nat} {a1 a2 a3 : Nat → Int32} (h : m ≤ m') (he : cd_env m' a1 a2 a3) : cd_env m a1 a2 a3 :=
  ⟨by have := he.1; omega, fun i hi => he.2.1 i (by omega), he.2.2⟩
theorem cd_wlaw {post : Int32 → Prop} {L : Nat} {xs : Nat → Int32} {kc ks : Nat} (hL : L ≤ 260) (H : post 1) : ∀ (n i : Nat), L < i + 5 * (n + 1) → i ≤ L → ∀ cn lv x y w hl hh lx ly lw hx hy hw rm bX bY bW ap aq b1 b2 b3 b4,
    cd_inv (cn, lv, x, y, w, hl, hh, lx, ly, lw, hx, hy, hw, rm, bX, bY, bW, ap, aq, b1, b2, b3, b4) →
    wL_law_10 post L xs kc ks (n + 1) (nI i) cn lv x y w hl hh lx ly lw hx hy hw rm bX bY bW ap aq b1 b2 b3 b4 := by
  intro n
  induction n with
  | zero =>
    intro i h1 h2 cn lv x y w hl hh lx ly lw hx hy hw rm bX bY bW ap aq b1 b2 b3 b4 hi
    exact pk_lt L (i + 5) (fun _ => H) (fun z => absurd z (by omega)) rfl (nI_add i 5)
  | succ n ih =>
    intro i h1 h2 cn lv x y w hl hh lx ly lw hx hy hw rm bX bY bW ap aq b1 b2 b3 b4 hi
    obtain ⟨m, l, a1, a2, a3, a4, R, p0, q0, l1, l8, he, hu⟩ := hi
    refine pk_lt L (i + 5) (fun _ => H) (fun hi5 => ?_) rfl (nI_add i 5)
    have n19 : ¬ (19 : Int32) = 0 := by decide
    have n120 : ¬ (120 : Int32) = 0 := by decide
    have loop : ∀ cn lv x y w hl hh lx ly lw hx hy hw rm bX bY bW ap aq b1 b2 b3 b4, cd_inv (cn, lv, x, y, w, hl, hh, lx, ly, lw, hx, hy, hw, rm, bX, bY, bW, ap, aq, b1, b2, b3, b4) →
        ∀ z, z = nI i + 5 → wL_law_10 post L xs kc ks (n + 1) z cn lv x y w hl hh lx ly lw hx hy hw rm bX bY bW ap aq b1 b2 b3 b4 :=
      fun cn lv x y w hl hh lx ly lw hx hy hw rm bX bY bW ap aq b1 b2 b3 b4 hv => nm_r (nI_add i 5) (ih (i + 5) (by omega) (by omega) cn lv x y w hl hh lx ly lw hx hy hw rm bX bY bW ap aq b1 b2 b3 b4 hv)
    refine ⟨pk_in i L (by omega), fun k ek => ⟨pk_in (i + 1) L (by omega) (nI_add i 1), n19, fun va ea => ⟨pk_in (i + 2) L (by omega) (nI_add i 2), n19, fun vb eb => ⟨pk_in (i + 3) L (by omega) (nI_add i 3), n120, fun vc ec => ⟨pk_in (i + 4) L (by omega) (nI_add i 4), n19, fun vp ep => ⟨pk_in (i + 4) L (by omega) (nI_add i 4), n19, fun vq eq => ?_⟩⟩⟩⟩⟩⟩
    have hp : cd_c9 vp.toInt := by
      rw [ep]
      exact cd_arg _
    have hq : cd_c9 vq.toInt := by
      rw [eq]
      exact cd_arg _
    refine cd_wstate he hu hp hq (fun u' hu' => ?_)
    obtain ⟨cn, lv, x, y, w, hl, hh, lx, ly, lw, hx, hy, hw, rm, bX, bY, bW, ap, aq, b1, b2, b3, b4⟩ := u'
    dsimp only
    refine cd_wpush l8 hu' (fun hl8 => ?_) (fun hl8 u' hu' => ?_)
    · dsimp only
      refine cd_wadded he hu' hp hq _ _ _ (fun m1 c1 c2 c3 R1 u' hm1 he1 hc1 hu' => ?_)
      obtain ⟨cn, lv, x, y, w, hl, hh, lx, ly, lw, hx, hy, hw, rm, bX, bY, bW, ap, aq, b1, b2, b3, b4⟩ := u'
      dsimp only
      refine br_f (by decide) ⟨by decide, cd_wadded he1 hu' hq hp _ _ _ (fun m2 d1 d2 d3 R2 u' hm2 he2 hc2 hu' => ?_)⟩
      obtain ⟨cn, lv, x, y, w, hl, hh, lx, ly, lw, hx, hy, hw, rm, bX, bY, bW, ap, aq, b1, b2, b3, b4⟩ := u'
      dsimp only
      exact br_f (by decide) (br_t (by decide) (loop _ _ _ _ _ _ _ _ _ _ _ _ _ _ _ _ _ _ _ _ _ _ _ ⟨m2, l, d1, d2, d3, _, R2, _, _, l1, l8, he2, hu'⟩))
    · obtain ⟨cn, lv, x, y, w, hl, hh, lx, ly, lw, hx, hy, hw, rm, bX, bY, bW, ap, aq, b1, b2, b3, b4⟩ := u'
      dsimp only
      refine cd_wadded he hu' hp hq _ _ _ (fun m1 c1 c2 c3 R1 u' hm1 he1 hc1 hu' => ?_)
      obtain ⟨cn, lv, x, y, w, hl, hh, lx, ly, lw, hx, hy, hw, rm, bX, bY, bW, ap, aq, b1, b2, b3, b4⟩ := u'
      dsimp only
      refine br_f (by decide) ⟨by decide, cd_wadded he1 hu' hq hp _ _ _ (fun m2 d1 d2 d3 R2 u' hm2 he2 hc2 hu' => ?_)⟩
      obtain ⟨cn, lv, x, y, w, hl, hh, lx, ly, lw, hx, hy, hw, rm, bX, bY, bW, ap, aq, b1, b2, b3, b4⟩ := u'
      dsimp only
      refine br_f (by decide) (br_f (nI_nle (by omega) (by omega)) (br_c (fun _ => loop _ _ _ _ _ _ _ _ _ _ _ _ _ _ _ _ _ _ _ _ _ _ _ ⟨m2, l + 1, d1, d2, d3, _, R2, _, _, by omega, by omega, he2, hu'⟩) (fun _ => ?_)))
      refine cd_wpop (m' := m) l1 hl8 hu' pk_us (fun u' hu' => ?_)
      obtain ⟨cn, lv, x, y, w, hl, hh, lx, ly, lw, hx, hy, hw, rm, bX, bY, bW, ap, aq, b1, b2, b3, b4⟩ := u'
      dsimp only
      have he3 := cd_env_le (show m ≤ m2 by omega) he2
      have hm := he.1
      refine br_f (nI_pos (by omega)) (cd_wstate he3 hu' hp hq (fun u' hu' => ?_))
      obtain ⟨cn, lv, x, y, w, hl, hh, lx, ly, lw, hx, hy, hw, rm, bX, bY, bW, ap, aq, b1, b2, b3, b4⟩ := u'
      dsimp only
      refine br_t (cd_hash_cg (fun i hi => ?_) vp vq) (loop _ _ _ _ _ _ _ _ _ _ _ _ _ _ _ _ _ _ _ _ _ _ _ ⟨m, l, d1, d2, d3, _, _, _, _, l1, l8, he3, hu'⟩)
      obtain ⟨f1, f2, f3⟩ := hc1 i hi
      obtain ⟨g1, g2, g3⟩ := hc2 i (by omega)
      exact ⟨g1.trans f1, g2.trans f2, g3.trans f3⟩
theorem i_vc (xs : Nat → Int32) (L : Nat) (hL : L ≤ 260) : wpL_law (fun r => r = 1) L xs := by
  unfold wpL_law
  refine ⟨4, 50, by decide, by decide, cd_winit (fun u hu => ?_)⟩
  obtain ⟨cn, lv, x, y, w, hl, hh, lx, ly, lw, hx, hy, hw, rm, bX, bY, bW, ap, aq, b1, b2, b3, b4⟩ := u
  dsimp only
  exact ⟨L + 1, cd_wlaw (post := fun r => r = 1) hL rfl L 0 (by omega) (by omega) _ _ _ _ _ _ _ _ _ _ _ _ _ _ _ _ _ _ _ _ _ _ _ hu⟩
end
