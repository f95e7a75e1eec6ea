section
/-! sets as functions Nat → Bool; sizes, weights; matroids by their independent sets -/
def cf_s (S : Nat → Bool) (x : Nat) (b : Bool) : Nat → Bool := fun e => if e = x then b else S e
def cf_n (S : Nat → Bool) : Nat → Nat
  | 0 => 0
  | k + 1 => cf_n S k + (if S k = true then 1 else 0)
def cf_w (w : Nat → Int) (S : Nat → Bool) : Nat → Int
  | 0 => 0
  | k + 1 => cf_w w S k + (if S k = true then w k else 0)
theorem cf_sx (S : Nat → Bool) (x : Nat) (b : Bool) : cf_s S x b x = b := by simp [cf_s]
theorem cf_sn {S : Nat → Bool} {x e : Nat} {b : Bool} (h : e ≠ x) : cf_s S x b e = S e := by simp [cf_s, h]
theorem cf_sc {S : Nat → Bool} {x z : Nat} {b c : Bool} (h : x ≠ z) : cf_s (cf_s S x b) z c = cf_s (cf_s S z c) x b := by
  funext e
  by_cases h1 : e = x
  · subst h1
    rw [cf_sn h, cf_sx, cf_sx]
  · by_cases h2 : e = z
    · subst h2
      rw [cf_sx, cf_sn h1, cf_sx]
    · rw [cf_sn h2, cf_sn h1, cf_sn h1, cf_sn h2]
theorem cf_nw (S : Nat → Bool) (N : Nat) : (cf_n S N : Int) = cf_w (fun _ => 1) S N := by
  induction N with
  | zero => rfl
  | succ k ih =>
    show ((cf_n S k + (if S k = true then 1 else 0) : Nat) : Int) = cf_w (fun _ => 1) S k + (if S k = true then 1 else 0)
    rw [← ih]
    split <;> omega
theorem cf_wc {w : Nat → Int} {S S' : Nat → Bool} {N : Nat} (h : ∀ e, e < N → S e = S' e) : cf_w w S N = cf_w w S' N := by
  induction N with
  | zero => rfl
  | succ k ih =>
    show cf_w w S k + (if S k = true then w k else 0) = cf_w w S' k + (if S' k = true then w k else 0)
    rw [ih (fun e he => h e (by omega)), h k (by omega)]
theorem cf_nc {S S' : Nat → Bool} {N : Nat} (h : ∀ e, e < N → S e = S' e) : cf_n S N = cf_n S' N := by
  have a := cf_nw S N
  have b := cf_nw S' N
  rw [cf_wc (w := fun _ => 1) h] at a
  omega
theorem cf_ws (w : Nat → Int) (S : Nat → Bool) {x N : Nat} (b : Bool) (h : x < N) : cf_w w (cf_s S x b) N = cf_w w S N - (if S x = true then w x else 0) + (if b = true then w x else 0) := by
  induction N with
  | zero => omega
  | succ k ih =>
    show cf_w w (cf_s S x b) k + (if cf_s S x b k = true then w k else 0) = cf_w w S k + (if S k = true then w k else 0) - (if S x = true then w x else 0) + (if b = true then w x else 0)
    by_cases e : x = k
    · subst e
      rw [cf_sx, cf_wc (w := w) (S := cf_s S x b) (S' := S) (fun e he => cf_sn (by omega))]
      omega
    · rw [ih (by omega), cf_sn (fun z => e z.symm)]
      omega
theorem cf_ni {S : Nat → Bool} {x N : Nat} (h : x < N) (hx : S x = false) : cf_n (cf_s S x true) N = cf_n S N + 1 := by
  have a := cf_nw (cf_s S x true) N
  have b := cf_nw S N
  rw [cf_ws (fun _ => 1) S true h, hx] at a
  simp at a
  omega
theorem cf_nd {S : Nat → Bool} {x N : Nat} (h : x < N) (hx : S x = true) : cf_n (cf_s S x false) N + 1 = cf_n S N := by
  have a := cf_nw (cf_s S x false) N
  have b := cf_nw S N
  rw [cf_ws (fun _ => 1) S false h, hx] at a
  simp at a
  omega
theorem cf_wi {w : Nat → Int} {S : Nat → Bool} {x N : Nat} (h : x < N) (hx : S x = false) : cf_w w (cf_s S x true) N = cf_w w S N + w x := by
  rw [cf_ws w S true h, hx]
  simp
theorem cf_wd {w : Nat → Int} {S : Nat → Bool} {x N : Nat} (h : x < N) (hx : S x = true) : cf_w w (cf_s S x false) N = cf_w w S N - w x := by
  rw [cf_ws w S false h, hx]
  simp
theorem cf_nm {A B : Nat → Bool} {N : Nat} (h : ∀ e, A e = true → B e = true) : cf_n A N ≤ cf_n B N := by
  induction N with
  | zero => exact Nat.le_refl _
  | succ k ih =>
    show cf_n A k + (if A k = true then 1 else 0) ≤ cf_n B k + (if B k = true then 1 else 0)
    by_cases e : A k = true
    · rw [if_pos e, if_pos (h k e)]
      omega
    · rw [if_neg e]
      omega
theorem cf_nf (N : Nat) : cf_n (fun _ => false) N = 0 := by
  induction N with
  | zero => rfl
  | succ k ih =>
    show cf_n (fun _ => false) k + (if false = true then 1 else 0) = 0
    rw [ih]
    simp
theorem cf_ex {A B : Nat → Bool} {N : Nat} (h : cf_n A N < cf_n B N) : ∃ y, y < N ∧ B y = true ∧ A y = false := by
  induction N with
  | zero => exact absurd h (by show ¬ 0 < 0; omega)
  | succ k ih =>
    have h' : cf_n A k + (if A k = true then 1 else 0) < cf_n B k + (if B k = true then 1 else 0) := h
    by_cases c : B k = true ∧ A k = false
    · exact ⟨k, by omega, c.1, c.2⟩
    · have : cf_n A k < cf_n B k := by
        by_cases b : B k = true
        · have a : A k = true := by
            cases ha : A k
            · exact absurd ⟨b, ha⟩ c
            · rfl
          rw [if_pos a, if_pos b] at h'
          omega
        · rw [if_neg b] at h'
          omega
      obtain ⟨y, hy, r⟩ := ih this
      exact ⟨y, by omega, r⟩
theorem cf_eq {A B : Nat → Bool} {N : Nat} (h : ∀ e, A e = true → B e = true) (hB : ∀ e, B e = true → e < N) (hc : cf_n B N ≤ cf_n A N) : A = B := by
  funext e
  cases ha : A e
  · cases hb : B e
    · rfl
    · exfalso
      have h1 : cf_n A N ≤ cf_n (cf_s B e false) N := cf_nm (fun z hz => by
        by_cases q : z = e
        · subst q
          rw [ha] at hz
          exact absurd hz (by decide)
        · rw [cf_sn q]
          exact h z hz)
      have h2 := cf_nd (hB e hb) hb
      omega
  · exact (h e ha).symm
theorem cf_n0 {S : Nat → Bool} {N : Nat} (h : cf_n S N = 0) : ∀ e, e < N → S e = false := by
  intro e he
  cases hs : S e
  · rfl
  · have := cf_nd he hs
    omega
theorem cf_nN (S : Nat → Bool) (N : Nat) : cf_n S N ≤ N := by
  induction N with
  | zero => exact Nat.le_refl _
  | succ k ih =>
    show cf_n S k + (if S k = true then 1 else 0) ≤ k + 1
    split <;> omega
theorem cf_min (w : Nat → Int) (S : Nat → Bool) (N : Nat) (h : ∃ x, x < N ∧ S x = true) : ∃ x, x < N ∧ S x = true ∧ ∀ z, z < N → S z = true → w x ≤ w z := by
  induction N with
  | zero =>
    obtain ⟨x, hx, _⟩ := h
    omega
  | succ k ih =>
    by_cases c : ∃ x, x < k ∧ S x = true
    · obtain ⟨x, hx, hs, hm⟩ := ih c
      by_cases d : S k = true ∧ w k < w x
      · refine ⟨k, by omega, d.1, fun z hz hS => ?_⟩
        by_cases e : z = k
        · rw [e]
          exact Int.le_refl _
        · have := hm z (by omega) hS
          omega
      · refine ⟨x, by omega, hs, fun z hz hS => ?_⟩
        by_cases e : z = k
        · subst e
          have : ¬ w z < w x := fun q => d ⟨hS, q⟩
          omega
        · exact hm z (by omega) hS
    · obtain ⟨x, hx, hs⟩ := h
      have ex : x = k := by
        by_cases e : x = k
        · exact e
        · exact absurd ⟨x, by omega, hs⟩ c
      subst ex
      refine ⟨x, by omega, hs, fun z hz hS => ?_⟩
      by_cases e : z = x
      · rw [e]
        exact Int.le_refl _
      · exact absurd ⟨z, by omega, hS⟩ c
theorem cf_bd (f : Nat → Int) (N : Nat) : ∃ M, ∀ e, e < N → f e ≤ M := by
  induction N with
  | zero => exact ⟨0, fun e he => absurd he (by omega)⟩
  | succ k ih =>
    obtain ⟨M, hM⟩ := ih
    by_cases c : f k ≤ M
    · refine ⟨M, fun e he => ?_⟩
      by_cases q : e = k
      · rw [q]
        exact c
      · exact hM e (by omega)
    · refine ⟨f k, fun e he => ?_⟩
      by_cases q : e = k
      · rw [q]
        exact Int.le_refl _
      · have := hM e (by omega)
        omega
/-- a matroid on the numbers below N: its independent sets -/
def cf_M (N : Nat) (P : (Nat → Bool) → Prop) : Prop :=
  (∀ A B : Nat → Bool, P B → (∀ e, A e = true → B e = true) → P A) ∧
  (∀ A B : Nat → Bool, P A → P B → cf_n A N < cf_n B N → ∃ x, B x = true ∧ A x = false ∧ P (cf_s A x true)) ∧
  (∀ A : Nat → Bool, P A → ∀ e, A e = true → e < N)
/-- y out, x in -/
def cf_x (I : Nat → Bool) (y x : Nat) : Nat → Bool := cf_s (cf_s I y false) x true
theorem cf_xx (I : Nat → Bool) (y x : Nat) : cf_x I y x x = true := cf_sx _ _ _
theorem cf_xo {I : Nat → Bool} {y x e : Nat} (h1 : e ≠ x) (h2 : e ≠ y) : cf_x I y x e = I e := by
  unfold cf_x
  rw [cf_sn h1, cf_sn h2]
theorem cf_xy {I : Nat → Bool} {y x : Nat} (h : y ≠ x) : cf_x I y x y = false := by
  unfold cf_x
  rw [cf_sn h, cf_sx]
theorem cf_ne {I : Nat → Bool} {y x : Nat} (hy : I y = true) (hx : I x = false) : y ≠ x := by
  intro e
  rw [e, hx] at hy
  exact absurd hy (by decide)
theorem cf_xn {I : Nat → Bool} {y x N : Nat} (hy : I y = true) (hx : I x = false) (hyN : y < N) (hxN : x < N) : cf_n (cf_x I y x) N = cf_n I N := by
  have a := cf_nd hyN hy
  have b := cf_ni (S := cf_s I y false) hxN (by rw [cf_sn (fun z => cf_ne hy hx z.symm)]; exact hx)
  unfold cf_x
  omega
theorem cf_xw {w : Nat → Int} {I : Nat → Bool} {y x N : Nat} (hy : I y = true) (hx : I x = false) (hyN : y < N) (hxN : x < N) : cf_w w (cf_x I y x) N = cf_w w I N - w y + w x := by
  have a := cf_wd (w := w) hyN hy
  have b := cf_wi (w := w) (S := cf_s I y false) hxN (by rw [cf_sn (fun z => cf_ne hy hx z.symm)]; exact hx)
  unfold cf_x
  omega
/-- A + x independent, A inside I and smaller: some y of I beyond A can be given for x -/
theorem cf_ext {N : Nat} {P : (Nat → Bool) → Prop} (hM : cf_M N P) {I : Nat → Bool} {x : Nat} (hI : P I) (hx : I x = false) :
    ∀ (k : Nat) (A : Nat → Bool), (∀ e, A e = true → I e = true) → cf_n A N + k + 1 = cf_n I N → P (cf_s A x true) →
      ∃ y, I y = true ∧ A y = false ∧ P (cf_x I y x) := by
  intro k
  induction k with
  | zero =>
    intro A hA hc hP
    obtain ⟨y, hyN, hy, hay⟩ := cf_ex (A := A) (B := I) (N := N) (by omega)
    refine ⟨y, hy, hay, ?_⟩
    have e : A = cf_s I y false := by
      refine cf_eq (N := N) (fun z hz => ?_) (fun z hz => ?_) ?_
      · have : z ≠ y := fun q => by rw [q, hay] at hz; exact absurd hz (by decide)
        rw [cf_sn this]
        exact hA z hz
      · by_cases q : z = y
        · rw [q]
          exact hyN
        · rw [cf_sn q] at hz
          exact hM.2.2 I hI z hz
      · have := cf_nd hyN hy
        omega
    unfold cf_x
    rw [← e]
    exact hP
  | succ k ih =>
    intro A hA hc hP
    have hxN : x < N := hM.2.2 _ hP x (cf_sx _ _ _)
    have hAx : A x = false := by
      cases q : A x
      · rfl
      · rw [hA x q] at hx
        exact absurd hx (by decide)
    have hn := cf_ni hxN hAx
    obtain ⟨z, hz, hAz, hPz⟩ := hM.2.1 _ _ hP hI (by omega)
    have hzx : z ≠ x := fun q => by
      rw [q, cf_sx] at hAz
      exact absurd hAz (by decide)
    rw [cf_sn hzx] at hAz
    have hzN : z < N := hM.2.2 I hI z hz
    rw [cf_sc (fun q => hzx q.symm)] at hPz
    have hn2 := cf_ni hzN hAz
    obtain ⟨y, hy, hay, hp⟩ := ih (cf_s A z true) (fun e he => by
      by_cases q : e = z
      · rw [q]
        exact hz
      · rw [cf_sn q] at he
        exact hA e he) (by omega) hPz
    refine ⟨y, hy, ?_, hp⟩
    by_cases q : y = z
    · rw [q, cf_sx] at hay
      exact absurd hay (by decide)
    · rw [cf_sn q] at hay
      exact hay
/-- no single exchange gains -/
def cf_LO (P : (Nat → Bool) → Prop) (w : Nat → Int) (I : Nat → Bool) : Prop :=
  ∀ x y, I y = true → I x = false → P (cf_x I y x) → w x ≤ w y
/-- of greatest weight among the independent sets of its size -/
def cf_GO (N : Nat) (P : (Nat → Bool) → Prop) (w : Nat → Int) (I : Nat → Bool) : Prop :=
  P I ∧ ∀ J : Nat → Bool, P J → cf_n J N = cf_n I N → cf_w w J N ≤ cf_w w I N
theorem cf_gl {N : Nat} {P : (Nat → Bool) → Prop} {w : Nat → Int} {I : Nat → Bool} (hM : cf_M N P) (h : cf_GO N P w I) : cf_LO P w I := by
  intro x y hy hx hP
  have hyN := hM.2.2 I h.1 y hy
  have hxN := hM.2.2 _ hP x (cf_xx _ _ _)
  have a := h.2 _ hP (cf_xn hy hx hyN hxN)
  rw [cf_xw hy hx hyN hxN] at a
  omega
def cf_df (J I : Nat → Bool) : Nat → Bool := fun e => J e && !I e
theorem cf_dt {J I : Nat → Bool} {e : Nat} : cf_df J I e = true ↔ J e = true ∧ I e = false := by simp [cf_df]
theorem cf_lg {N : Nat} {P : (Nat → Bool) → Prop} {w : Nat → Int} {I : Nat → Bool} (hM : cf_M N P) (hI : P I) (hL : cf_LO P w I) : cf_GO N P w I := by
  refine ⟨hI, ?_⟩
  have key : ∀ (d : Nat) (J : Nat → Bool), cf_n (cf_df J I) N = d → P J → cf_n J N = cf_n I N → cf_w w J N ≤ cf_w w I N := by
    intro d
    induction d with
    | zero =>
      intro J h0 hJ hc
      have hsub : ∀ e, J e = true → I e = true := by
        intro e he
        cases q : I e
        · have := cf_n0 h0 e (hM.2.2 J hJ e he)
          rw [cf_dt.mpr ⟨he, q⟩] at this
          exact absurd this (by decide)
        · rfl
      have e : J = I := cf_eq hsub (hM.2.2 I hI) (by omega)
      rw [e]
      exact Int.le_refl _
    | succ d ih =>
      intro J h0 hJ hc
      obtain ⟨x0, hx0, hx1, _⟩ := cf_ex (A := fun _ => false) (B := cf_df J I) (N := N) (by rw [cf_nf]; omega)
      obtain ⟨x, hxN, hxD, hmin⟩ := cf_min w (cf_df J I) N ⟨x0, hx0, hx1⟩
      obtain ⟨hxJ, hxI⟩ := cf_dt.mp hxD
      have hJx : P (cf_s J x false) := hM.1 _ _ hJ (fun e he => by
        by_cases q : e = x
        · rw [q]
          exact hxJ
        · rw [cf_sn q] at he
          exact he)
      have n1 := cf_nd hxN hxJ
      obtain ⟨y, hyI, hyJ, hPy⟩ := hM.2.1 _ _ hJx hI (by omega)
      have hyx : y ≠ x := cf_ne hyI hxI
      rw [cf_sn hyx] at hyJ
      have hyN := hM.2.2 I hI y hyI
      have hIy : P (cf_s I y false) := hM.1 _ _ hI (fun e he => by
        by_cases q : e = y
        · rw [q]
          exact hyI
        · rw [cf_sn q] at he
          exact he)
      have n2 := cf_nd hyN hyI
      obtain ⟨x', hxJ', hxI', hPx⟩ := hM.2.1 _ _ hIy hJ (by omega)
      have hxy' : x' ≠ y := cf_ne hxJ' hyJ
      rw [cf_sn hxy'] at hxI'
      have hxN' := hM.2.2 J hJ x' hxJ'
      have l1 := hL x' y hyI hxI' hPx
      have l2 := hmin x' hxN' (cf_dt.mpr ⟨hxJ', hxI'⟩)
      have hJ' : P (cf_x J x y) := hPy
      have c1 := cf_xn hxJ hyJ hxN hyN
      have c2 := cf_xw (w := w) hxJ hyJ hxN hyN
      have m : cf_df (cf_x J x y) I = cf_s (cf_df J I) x false := by
        funext e
        by_cases q : e = x
        · rw [q, cf_sx]
          unfold cf_df
          rw [cf_xy (fun z => hyx z.symm)]
          rfl
        · rw [cf_sn q]
          by_cases q2 : e = y
          · rw [q2]
            unfold cf_df
            rw [hyI]
            simp
          · unfold cf_df
            rw [cf_xo q2 q]
      have c3 := cf_nd hxN hxD
      have := ih (cf_x J x y) (by rw [m]; omega) hJ' (by omega)
      omega
  exact fun J hJ hc => key _ J rfl hJ hc
end
section
/-! many exchanges at once, and one matroid's share of an augmentation -/
def cf_ap (I : Nat → Bool) (L : List (Nat × Nat)) : Nat → Bool :=
  fun e => L.any (fun p => p.2 == e) || (I e && !(L.any (fun p => p.1 == e)))
theorem cf_apt {I : Nat → Bool} {L : List (Nat × Nat)} {e : Nat} : cf_ap I L e = true ↔ (∃ p, p ∈ L ∧ p.2 = e) ∨ (I e = true ∧ ∀ p, p ∈ L → p.1 ≠ e) := by
  unfold cf_ap
  rw [Bool.or_eq_true, Bool.and_eq_true, List.any_eq_true, Bool.not_eq_true', List.any_eq_false]
  constructor
  · rintro (⟨p, hp, h⟩ | ⟨h1, h2⟩)
    · exact Or.inl ⟨p, hp, by simpa using h⟩
    · exact Or.inr ⟨h1, fun p hp => by simpa using h2 p hp⟩
  · rintro (⟨p, hp, h⟩ | ⟨h1, h2⟩)
    · exact Or.inl ⟨p, hp, by simpa using h⟩
    · exact Or.inr ⟨h1, fun p hp => by simpa using h2 p hp⟩
def cf_ok (I : Nat → Bool) (L : List (Nat × Nat)) : Prop :=
  (∀ p, p ∈ L → I p.1 = true ∧ I p.2 = false) ∧ L.Pairwise (fun p q => p.1 ≠ q.1 ∧ p.2 ≠ q.2)
theorem cf_okc {I : Nat → Bool} {p : Nat × Nat} {L : List (Nat × Nat)} (h : cf_ok I (p :: L)) :
    cf_ok I L ∧ I p.1 = true ∧ I p.2 = false ∧ cf_ap I L p.1 = true ∧ cf_ap I L p.2 = false ∧ cf_ap I (p :: L) = cf_x (cf_ap I L) p.1 p.2 := by
  obtain ⟨h1, h2⟩ := h
  rw [List.pairwise_cons] at h2
  obtain ⟨h3, h4⟩ := h2
  have hp := h1 p (List.mem_cons_self ..)
  have hL : ∀ q, q ∈ L → I q.1 = true ∧ I q.2 = false := fun q hq => h1 q (List.mem_cons_of_mem _ hq)
  have hy : cf_ap I L p.1 = true := cf_apt.mpr (Or.inr ⟨hp.1, fun q hq => fun z => (h3 q hq).1 z.symm⟩)
  have hx : cf_ap I L p.2 = false := by
    cases q : cf_ap I L p.2
    · rfl
    · rcases cf_apt.mp q with ⟨r, hr, e⟩ | ⟨e, _⟩
      · exact absurd e.symm (h3 r hr).2
      · rw [hp.2] at e
        exact absurd e (by decide)
  refine ⟨⟨hL, h4⟩, hp.1, hp.2, hy, hx, ?_⟩
  have hne : p.1 ≠ p.2 := cf_ne hp.1 hp.2
  funext e
  rw [Bool.eq_iff_iff]
  by_cases e2 : e = p.2
  · rw [e2, cf_xx]
    exact ⟨fun _ => rfl, fun _ => cf_apt.mpr (Or.inl ⟨p, List.mem_cons_self .., rfl⟩)⟩
  · by_cases e1 : e = p.1
    · rw [e1, cf_xy hne]
      constructor
      · intro z
        rcases cf_apt.mp z with ⟨r, hr, er⟩ | ⟨_, er⟩
        · rw [List.mem_cons] at hr
          rcases hr with hr | hr
          · rw [hr] at er
            exact absurd er.symm hne
          · have := (hL r hr).2
            rw [er, hp.1] at this
            exact absurd this (by decide)
        · exact absurd rfl (er p (List.mem_cons_self ..))
      · intro z
        exact absurd z (by decide)
    · rw [cf_xo e2 e1, cf_apt, cf_apt]
      constructor
      · rintro (⟨r, hr, er⟩ | ⟨a, b⟩)
        · rw [List.mem_cons] at hr
          rcases hr with hr | hr
          · rw [hr] at er
            exact absurd er.symm e2
          · exact Or.inl ⟨r, hr, er⟩
        · exact Or.inr ⟨a, fun q hq => b q (List.mem_cons_of_mem _ hq)⟩
      · rintro (⟨r, hr, er⟩ | ⟨a, b⟩)
        · exact Or.inl ⟨r, List.mem_cons_of_mem _ hr, er⟩
        · refine Or.inr ⟨a, fun q hq => ?_⟩
          rw [List.mem_cons] at hq
          rcases hq with hq | hq
          · rw [hq]
            exact fun z => e1 z.symm
          · exact b q hq
theorem cf_ap0 (I : Nat → Bool) : cf_ap I [] = I := by
  funext e
  simp [cf_ap]
theorem cf_app {I : Nat → Bool} {L L' : List (Nat × Nat)} (h : ∀ p, p ∈ L' ↔ p ∈ L) : cf_ap I L' = cf_ap I L := by
  funext e
  rw [Bool.eq_iff_iff, cf_apt, cf_apt]
  constructor
  · rintro (⟨r, hr, er⟩ | ⟨a, b⟩)
    · exact Or.inl ⟨r, (h r).mp hr, er⟩
    · exact Or.inr ⟨a, fun q hq => b q ((h q).mpr hq)⟩
  · rintro (⟨r, hr, er⟩ | ⟨a, b⟩)
    · exact Or.inl ⟨r, (h r).mpr hr, er⟩
    · exact Or.inr ⟨a, fun q hq => b q ((h q).mp hq)⟩
theorem cf_apw {N : Nat} {w : Nat → Int} {I : Nat → Bool} : ∀ L : List (Nat × Nat), cf_ok I L → (∀ p, p ∈ L → p.1 < N ∧ p.2 < N ∧ w p.1 = w p.2) →
    cf_w w (cf_ap I L) N = cf_w w I N ∧ cf_n (cf_ap I L) N = cf_n I N := by
  intro L
  induction L with
  | nil =>
    intro _ _
    rw [cf_ap0]
    exact ⟨rfl, rfl⟩
  | cons p L ih =>
    intro hok hw
    obtain ⟨ho, hy, hx, ay, ax, e⟩ := cf_okc hok
    obtain ⟨i1, i2⟩ := ih ho (fun q hq => hw q (List.mem_cons_of_mem _ hq))
    obtain ⟨hyN, hxN, hww⟩ := hw p (List.mem_cons_self ..)
    rw [e]
    have a := cf_xw (w := w) ay ax hyN hxN
    have b := cf_xn ay ax hyN hxN
    constructor
    · omega
    · omega
/-- pairs in an order without an arc from an earlier y to a later x: all exchanges at once keep independence -/
theorem cf_tri {N : Nat} {P : (Nat → Bool) → Prop} {I : Nat → Bool} (hM : cf_M N P) (hI : P I) : ∀ L : List (Nat × Nat), cf_ok I L →
    (∀ p, p ∈ L → P (cf_x I p.1 p.2)) → L.Pairwise (fun p q => ¬ P (cf_x I p.1 q.2)) → P (cf_ap I L) ∧ cf_n (cf_ap I L) N = cf_n I N := by
  intro L
  induction L with
  | nil =>
    intro _ _ _
    rw [cf_ap0]
    exact ⟨hI, rfl⟩
  | cons p L ih =>
    intro hok harc hord
    obtain ⟨ho, hy, hx, ay, ax, e⟩ := cf_okc hok
    rw [List.pairwise_cons] at hord
    obtain ⟨o1, o2⟩ := hord
    obtain ⟨iP, iN⟩ := ih ho (fun q hq => harc q (List.mem_cons_of_mem _ hq)) o2
    have hPp := harc p (List.mem_cons_self ..)
    have hyN := hM.2.2 I hI _ hy
    have hxN := hM.2.2 _ hPp _ (cf_xx _ _ _)
    have n1 := cf_xn ay ax hyN hxN
    refine ⟨?_, by rw [e]; omega⟩
    have bP : P (cf_s (cf_ap I L) p.1 false) := hM.1 _ _ iP (fun z hz => by
      by_cases q : z = p.1
      · rw [q]
        exact ay
      · rw [cf_sn q] at hz
        exact hz)
    have n2 := cf_nd hyN ay
    have n3 := cf_xn hy hx hyN hxN
    obtain ⟨z, hz, hzb, hzP⟩ := hM.2.1 _ _ bP hPp (by omega)
    by_cases q : z = p.2
    · rw [q] at hzP
      rw [e]
      exact hzP
    · exfalso
      have hzy : z ≠ p.1 := fun c => by
        rw [c, cf_xy (cf_ne hy hx)] at hz
        exact absurd hz (by decide)
      rw [cf_xo q hzy] at hz
      rw [cf_sn hzy] at hzb
      have hzN := hM.2.2 I hI z hz
      have iy : P (cf_s I p.1 false) := hM.1 _ _ hI (fun z hz => by
        by_cases q : z = p.1
        · rw [q]
          exact hy
        · rw [cf_sn q] at hz
          exact hz)
      have n4 := cf_nd hyN hy
      have n5 := cf_ni (S := cf_s (cf_ap I L) p.1 false) hzN (by rw [cf_sn hzy]; exact hzb)
      obtain ⟨x', h1, h2, h3⟩ := hM.2.1 _ _ iy hzP (by omega)
      by_cases c : x' = z
      · rw [c, cf_sn hzy, hz] at h2
        exact absurd h2 (by decide)
      · rw [cf_sn c] at h1
        have c2 : x' ≠ p.1 := fun c2 => by
          rw [c2, cf_sx] at h1
          exact absurd h1 (by decide)
        rw [cf_sn c2] at h1 h2
        rcases cf_apt.mp h1 with ⟨r, hr, er⟩ | ⟨er, _⟩
        · refine o1 r hr ?_
          rw [er]
          exact h3
        · rw [h2] at er
          exact absurd er (by decide)
def cf_le (w : Nat → Int) (g : Nat → Int) (p q : Nat × Nat) : Bool := decide (w p.2 < w q.2 ∨ (w p.2 = w q.2 ∧ g p.2 ≤ g q.2))
theorem cf_let {w g : Nat → Int} {p q : Nat × Nat} : cf_le w g p q = true ↔ (w p.2 < w q.2 ∨ (w p.2 = w q.2 ∧ g p.2 ≤ g q.2)) := by
  unfold cf_le
  exact decide_eq_true_iff
/-- one matroid's share: tight pairs without a tight shortcut, and a best free element -/
theorem cf_aug1 {N : Nat} {P : (Nat → Bool) → Prop} {I : Nat → Bool} {w g : Nat → Int} {L : List (Nat × Nat)} {a : Nat} (hM : cf_M N P) (hI : P I)
    (hL : cf_LO P w I) (hok : cf_ok I L) (harc : ∀ p, p ∈ L → P (cf_x I p.1 p.2)) (ht : ∀ p, p ∈ L → w p.1 = w p.2)
    (hg : ∀ p q, p ∈ L → q ∈ L → g p.2 = g q.2 → p.2 = q.2)
    (hsh : ∀ p q, p ∈ L → q ∈ L → g p.2 < g q.2 → w p.1 = w q.2 → ¬ P (cf_x I p.1 q.2))
    (ha : I a = false) (haP : P (cf_s I a true)) (haL : ∀ p, p ∈ L → p.2 ≠ a)
    (hfree : ∀ p, p ∈ L → w p.2 = w a → ¬ P (cf_s I p.2 true))
    (hbest : ∀ x, I x = false → P (cf_s I x true) → w x ≤ w a) :
    cf_GO N P w (cf_s (cf_ap I L) a true) ∧ cf_n (cf_s (cf_ap I L) a true) N = cf_n I N + 1 := by
  have haN := hM.2.2 _ haP a (cf_sx _ _ _)
  have hB : ∀ p, p ∈ L → p.1 < N ∧ p.2 < N ∧ w p.1 = w p.2 := fun p hp =>
    ⟨hM.2.2 I hI _ (hok.1 p hp).1, hM.2.2 _ (harc p hp) _ (cf_xx _ _ _), ht p hp⟩
  obtain ⟨wB, nB⟩ := cf_apw L hok hB
  have aB : cf_ap I L a = false := by
    cases q : cf_ap I L a
    · rfl
    · rcases cf_apt.mp q with ⟨r, hr, er⟩ | ⟨er, _⟩
      · exact absurd er (haL r hr)
      · rw [ha] at er
        exact absurd er (by decide)
  have PB : P (cf_ap I L) := by
    have hs := List.pairwise_mergeSort (le := cf_le w g) (fun x y z h1 h2 => by
      rw [cf_let] at h1 h2 ⊢
      omega) (fun x y => by
      rw [Bool.or_eq_true, cf_let, cf_let]
      omega) L
    have hp := List.mergeSort_perm L (cf_le w g)
    have hmem : ∀ p, p ∈ L.mergeSort (cf_le w g) ↔ p ∈ L := fun p => hp.mem_iff
    have hne := (hp.pairwise_iff (R := fun p q : Nat × Nat => p.1 ≠ q.1 ∧ p.2 ≠ q.2) (fun h => ⟨fun e => h.1 e.symm, fun e => h.2 e.symm⟩)).mpr hok.2
    have hok' : cf_ok I (L.mergeSort (cf_le w g)) := ⟨fun p h => hok.1 p ((hmem p).mp h), hne⟩
    rw [← cf_app hmem]
    refine (cf_tri hM hI _ hok' (fun p h => harc p ((hmem p).mp h)) ?_).1
    have hboth := List.Pairwise.and hs hne
    refine List.Pairwise.imp_of_mem ?_ hboth
    intro p q mp mq hpq hP
    have mp' := (hmem p).mp mp
    have mq' := (hmem q).mp mq
    have l1 := hL q.2 p.1 (hok.1 p mp').1 (hok.1 q mq').2 hP
    have l2 := ht p mp'
    have l3 := cf_let.mp hpq.1
    have l4 : g p.2 ≠ g q.2 := fun e => hpq.2.2 (hg p q mp' mq' e)
    exact hsh p q mp' mq' (by omega) (by omega) hP
  have PC : P (cf_s (cf_ap I L) a true) := by
    have n1 := cf_ni haN ha
    obtain ⟨z, hz, hzB, hzP⟩ := hM.2.1 _ _ PB haP (by omega)
    by_cases q : z = a
    · rw [q] at hzP
      exact hzP
    · exfalso
      rw [cf_sn q] at hz
      have hzN := hM.2.2 I hI z hz
      have n2 := cf_ni hzN hzB
      obtain ⟨x', h1, h2, h3⟩ := hM.2.1 _ _ hI hzP (by omega)
      have c : x' ≠ z := fun c => by
        rw [c, hz] at h2
        exact absurd h2 (by decide)
      rw [cf_sn c] at h1
      rcases cf_apt.mp h1 with ⟨r, hr, er⟩ | ⟨er, _⟩
      · subst er
        have l1 := hbest _ h2 h3
        have hry := (hok.1 r hr).1
        have l2 := hL a r.1 hry ha (hM.1 _ _ haP (fun e he => by
          by_cases q : e = a
          · rw [q]
            exact cf_sx _ _ _
          · rw [cf_sn q]
            by_cases q2 : e = r.1
            · rw [q2]
              exact hry
            · rw [cf_xo q q2] at he
              exact he))
        have l3 := ht r hr
        exact hfree r hr (by omega) h3
      · rw [h2] at er
        exact absurd er (by decide)
  have n1 := cf_ni haN aB
  have w1 := cf_wi (w := w) haN aB
  refine ⟨⟨PC, fun J hJ hc => ?_⟩, by omega⟩
  obtain ⟨x, hx, hxI, hxP⟩ := hM.2.1 _ _ hI hJ (by omega)
  have hxN := hM.2.2 J hJ x hx
  have n2 := cf_nd hxN hx
  have w2 := cf_wd (w := w) hxN hx
  have l1 := (cf_lg hM hI hL).2 (cf_s J x false) (hM.1 _ _ hJ (fun z hz => by
      by_cases q : z = x
      · rw [q]
        exact hx
      · rw [cf_sn q] at hz
        exact hz)) (by omega)
  have l2 := hbest x hxI hxP
  omega
end
section
/-! both matroids: the split weights after a shortest path; no path means greatest size -/
/-- the certificate: a split of the weights in which I is best of its size on both sides -/
def cf_C (N : Nat) (P1 P2 : (Nat → Bool) → Prop) (w : Nat → Int) (I : Nat → Bool) : Prop :=
  ∃ w1 w2 : Nat → Int, (∀ e, w e = w1 e + w2 e) ∧ cf_GO N P1 w1 I ∧ cf_GO N P2 w2 I
theorem cf_wa {w w1 w2 : Nat → Int} (h : ∀ e, w e = w1 e + w2 e) (S : Nat → Bool) (N : Nat) : cf_w w S N = cf_w w1 S N + cf_w w2 S N := by
  induction N with
  | zero => rfl
  | succ k ih =>
    show cf_w w S k + (if S k = true then w k else 0) = (cf_w w1 S k + (if S k = true then w1 k else 0)) + (cf_w w2 S k + (if S k = true then w2 k else 0))
    have := h k
    split <;> omega
theorem cf_Cb {N : Nat} {P1 P2 : (Nat → Bool) → Prop} {w : Nat → Int} {I : Nat → Bool} (h : cf_C N P1 P2 w I) :
    P1 I ∧ P2 I ∧ ∀ J : Nat → Bool, P1 J → P2 J → cf_n J N = cf_n I N → cf_w w J N ≤ cf_w w I N := by
  obtain ⟨w1, w2, hw, h1, h2⟩ := h
  refine ⟨h1.1, h2.1, fun J a b c => ?_⟩
  have e1 := h1.2 J a c
  have e2 := h2.2 J b c
  rw [cf_wa hw J N, cf_wa hw I N]
  omega
theorem cf_C0 {N : Nat} {P1 P2 : (Nat → Bool) → Prop} {w : Nat → Int} (h1 : P1 (fun _ => false)) (h2 : P2 (fun _ => false))
    (m1 : cf_M N P1) (m2 : cf_M N P2) : cf_C N P1 P2 w (fun _ => false) := by
  refine ⟨w, fun _ => 0, fun e => (Int.add_zero _).symm, cf_lg m1 h1 ?_, cf_lg m2 h2 ?_⟩
  · intro x y hy
    exact absurd hy Bool.false_ne_true
  · intro x y hy
    exact absurd hy Bool.false_ne_true
/-- lexicographic comparison of (length, arcs) -/
def cf_lx (a : Int) (i : Nat) (b : Int) (j : Nat) : Prop := a < b ∨ (a = b ∧ i ≤ j)
def cf_L1 (pth : Nat → Nat) (t : Nat) : List (Nat × Nat) := (List.range t).map (fun j => (pth (2 * j + 1), pth (2 * j + 2)))
def cf_L2 (pth : Nat → Nat) (t : Nat) : List (Nat × Nat) := (List.range t).map (fun j => (pth (2 * j + 1), pth (2 * j)))
theorem cf_L1m {pth : Nat → Nat} {t : Nat} {p : Nat × Nat} : p ∈ cf_L1 pth t ↔ ∃ j, j < t ∧ p = (pth (2 * j + 1), pth (2 * j + 2)) := by
  unfold cf_L1
  rw [List.mem_map]
  constructor
  · rintro ⟨j, hj, e⟩
    exact ⟨j, List.mem_range.mp hj, e.symm⟩
  · rintro ⟨j, hj, e⟩
    exact ⟨j, List.mem_range.mpr hj, e.symm⟩
theorem cf_L2m {pth : Nat → Nat} {t : Nat} {p : Nat × Nat} : p ∈ cf_L2 pth t ↔ ∃ j, j < t ∧ p = (pth (2 * j + 1), pth (2 * j)) := by
  unfold cf_L2
  rw [List.mem_map]
  constructor
  · rintro ⟨j, hj, e⟩
    exact ⟨j, List.mem_range.mp hj, e.symm⟩
  · rintro ⟨j, hj, e⟩
    exact ⟨j, List.mem_range.mpr hj, e.symm⟩
/-- what is known of a shortest path: vertices pth 0 .. pth (2 t), lengths d, arcs s, reached R -/
def cf_path (P1 P2 : (Nat → Bool) → Prop) (w : Nat → Int) (I : Nat → Bool) (d : Nat → Int) (s : Nat → Nat) (R : Nat → Prop) (pth : Nat → Nat) (t : Nat) : Prop :=
  (∀ x, I x = false → P1 (cf_s I x true) → R x ∧ cf_lx (d x) (s x) (- w x) 0) ∧
  (∀ x y, I y = true → I x = false → P1 (cf_x I y x) → R y → R x ∧ cf_lx (d x) (s x) (d y - w x) (s y + 1)) ∧
  (∀ x y, I y = true → I x = false → P2 (cf_x I y x) → R x → R y ∧ cf_lx (d y) (s y) (d x + w y) (s x + 1)) ∧
  (P2 (cf_s I (pth (2 * t)) true) ∧ ∀ x, I x = false → P2 (cf_s I x true) → R x → cf_lx (d (pth (2 * t))) (s (pth (2 * t))) (d x) (s x)) ∧
  (∀ i, i ≤ 2 * t → R (pth i) ∧ s (pth i) = i) ∧
  (∀ j, j ≤ t → I (pth (2 * j)) = false) ∧
  (∀ j, j < t → I (pth (2 * j + 1)) = true ∧ P1 (cf_x I (pth (2 * j + 1)) (pth (2 * j + 2))) ∧ P2 (cf_x I (pth (2 * j + 1)) (pth (2 * j))) ∧
    d (pth (2 * j + 1)) = d (pth (2 * j)) + w (pth (2 * j + 1)) ∧ d (pth (2 * j + 2)) = d (pth (2 * j + 1)) - w (pth (2 * j + 2))) ∧
  (P1 (cf_s I (pth 0) true) ∧ d (pth 0) = - w (pth 0))
section
variable {N : Nat} {P1 P2 : (Nat → Bool) → Prop} {w : Nat → Int} {I : Nat → Bool} {d : Nat → Int} {s : Nat → Nat} {R : Nat → Prop} {pth : Nat → Nat} {t : Nat}
theorem cf_ptn (h : cf_path P1 P2 w I d s R pth t) {i j : Nat} (hi : i ≤ 2 * t) (hj : j ≤ 2 * t) (e : pth i = pth j) : i = j := by
  have a := (h.2.2.2.2.1 i hi).2
  have b := (h.2.2.2.2.1 j hj).2
  rw [e] at a
  omega
theorem cf_ok1 (h : cf_path P1 P2 w I d s R pth t) : cf_ok I (cf_L1 pth t) := by
  refine ⟨fun p hp => ?_, ?_⟩
  · obtain ⟨j, hj, rfl⟩ := cf_L1m.mp hp
    exact ⟨(h.2.2.2.2.2.2.1 j hj).1, h.2.2.2.2.2.1 (j + 1) (by omega)⟩
  · unfold cf_L1
    rw [List.pairwise_map]
    refine List.Pairwise.imp_of_mem ?_ (List.pairwise_lt_range (n := t))
    intro a b ha hb hab
    have ha := List.mem_range.mp ha
    have hb := List.mem_range.mp hb
    exact ⟨fun e => by have := cf_ptn h (by omega) (by omega) e; omega, fun e => by have := cf_ptn h (by omega) (by omega) e; omega⟩
theorem cf_ok2 (h : cf_path P1 P2 w I d s R pth t) : cf_ok I (cf_L2 pth t) := by
  refine ⟨fun p hp => ?_, ?_⟩
  · obtain ⟨j, hj, rfl⟩ := cf_L2m.mp hp
    exact ⟨(h.2.2.2.2.2.2.1 j hj).1, h.2.2.2.2.2.1 j (by omega)⟩
  · unfold cf_L2
    rw [List.pairwise_map]
    refine List.Pairwise.imp_of_mem ?_ (List.pairwise_lt_range (n := t))
    intro a b ha hb hab
    have ha := List.mem_range.mp ha
    have hb := List.mem_range.mp hb
    exact ⟨fun e => by have := cf_ptn h (by omega) (by omega) e; omega, fun e => by have := cf_ptn h (by omega) (by omega) e; omega⟩
/-- the set after the path -/
def cf_res (I : Nat → Bool) (pth : Nat → Nat) (t : Nat) (I' : Nat → Bool) : Prop :=
  ∀ e, I' e = true ↔ (∃ j, j ≤ t ∧ pth (2 * j) = e) ∨ (I e = true ∧ ∀ j, j < t → pth (2 * j + 1) ≠ e)
theorem cf_res1 (h : cf_path P1 P2 w I d s R pth t) {I' : Nat → Bool} (hr : cf_res I pth t I') : I' = cf_s (cf_ap I (cf_L1 pth t)) (pth 0) true := by
  funext e
  rw [Bool.eq_iff_iff, hr e]
  by_cases q : e = pth 0
  · rw [q, cf_sx]
    exact ⟨fun _ => rfl, fun _ => Or.inl ⟨0, by omega, rfl⟩⟩
  · rw [cf_sn q, cf_apt]
    constructor
    · rintro (⟨j, hj, ej⟩ | ⟨a, b⟩)
      · cases j with
        | zero => exact absurd ej.symm q
        | succ k => exact Or.inl ⟨_, cf_L1m.mpr ⟨k, by omega, rfl⟩, ej⟩
      · refine Or.inr ⟨a, fun p hp => ?_⟩
        obtain ⟨j, hj, rfl⟩ := cf_L1m.mp hp
        exact b j hj
    · rintro (⟨p, hp, ep⟩ | ⟨a, b⟩)
      · obtain ⟨j, hj, rfl⟩ := cf_L1m.mp hp
        exact Or.inl ⟨j + 1, by omega, ep⟩
      · exact Or.inr ⟨a, fun j hj => b _ (cf_L1m.mpr ⟨j, hj, rfl⟩)⟩
theorem cf_res2 (h : cf_path P1 P2 w I d s R pth t) {I' : Nat → Bool} (hr : cf_res I pth t I') : I' = cf_s (cf_ap I (cf_L2 pth t)) (pth (2 * t)) true := by
  funext e
  rw [Bool.eq_iff_iff, hr e]
  by_cases q : e = pth (2 * t)
  · rw [q, cf_sx]
    exact ⟨fun _ => rfl, fun _ => Or.inl ⟨t, by omega, rfl⟩⟩
  · rw [cf_sn q, cf_apt]
    constructor
    · rintro (⟨j, hj, ej⟩ | ⟨a, b⟩)
      · by_cases c : j = t
        · rw [c] at ej
          exact absurd ej.symm q
        · exact Or.inl ⟨_, cf_L2m.mpr ⟨j, by omega, rfl⟩, ej⟩
      · refine Or.inr ⟨a, fun p hp => ?_⟩
        obtain ⟨j, hj, rfl⟩ := cf_L2m.mp hp
        exact b j hj
    · rintro (⟨p, hp, ep⟩ | ⟨a, b⟩)
      · obtain ⟨j, hj, rfl⟩ := cf_L2m.mp hp
        exact Or.inl ⟨j, by omega, ep⟩
      · exact Or.inr ⟨a, fun j hj => b _ (cf_L2m.mpr ⟨j, hj, rfl⟩)⟩
/-- the potential: the distance where reached, else far away by the old split -/
noncomputable def cf_pot (M : Int) (w1 w2 : Nat → Int) (I : Nat → Bool) (d : Nat → Int) (R : Nat → Prop) : Nat → Int :=
  fun v => haveI := Classical.propDecidable (R v); if R v then d v else M + (if I v = true then w1 v else - w2 v)
theorem cf_potr {M : Int} {w1 w2 : Nat → Int} {v : Nat} (h : R v) : cf_pot M w1 w2 I d R v = d v := by
  unfold cf_pot
  rw [if_pos h]
theorem cf_potu {M : Int} {w1 w2 : Nat → Int} {v : Nat} (h : ¬ R v) : cf_pot M w1 w2 I d R v = M + (if I v = true then w1 v else - w2 v) := by
  unfold cf_pot
  rw [if_neg h]
theorem cf_ps {I : Nat → Bool} {e : Nat} (h : I e = true) (a b : Int) : (if I e = true then a else b) = a := if_pos h
theorem cf_ns {I : Nat → Bool} {e : Nat} (h : I e = false) (a b : Int) : (if I e = true then a else b) = b := if_neg (by rw [h]; decide)
theorem cf_aug (m1 : cf_M N P1) (m2 : cf_M N P2) (hC : cf_C N P1 P2 w I) (h : cf_path P1 P2 w I d s R pth t) {I' : Nat → Bool} (hr : cf_res I pth t I') :
    cf_C N P1 P2 w I' ∧ cf_n I' N = cf_n I N + 1 := by
  obtain ⟨w1, w2, hw, g1, g2⟩ := hC
  have l1 := cf_gl m1 g1
  have l2 := cf_gl m2 g2
  have hP := h
  obtain ⟨hsrc, ha1, ha2, ⟨hsk, hsm⟩, hR, hev, hod, ⟨h0, h0d⟩⟩ := h
  obtain ⟨M0, hM0⟩ : ∃ M0 : Int, ∀ e, e < N → d e + w e ≤ M0 ∧ - w1 e ≤ M0 ∧ d e - w e ≤ M0 ∧ w2 e ≤ M0 ∧ d e ≤ M0 := by
    obtain ⟨a1, b1⟩ := cf_bd (fun e => d e + w e) N
    obtain ⟨a2, b2⟩ := cf_bd (fun e => - w1 e) N
    obtain ⟨a3, b3⟩ := cf_bd (fun e => d e - w e) N
    obtain ⟨a4, b4⟩ := cf_bd w2 N
    obtain ⟨a5, b5⟩ := cf_bd d N
    refine ⟨(a1.natAbs + a2.natAbs + a3.natAbs + a4.natAbs + a5.natAbs : Nat), fun e he => ?_⟩
    have c1 : d e + w e ≤ a1 := b1 e he
    have c2 : - w1 e ≤ a2 := b2 e he
    have c3 : d e - w e ≤ a3 := b3 e he
    have c4 : w2 e ≤ a4 := b4 e he
    have c5 : d e ≤ a5 := b5 e he
    refine ⟨by omega, by omega, by omega, by omega, by omega⟩
  obtain ⟨p, pr, pu⟩ : ∃ p : Nat → Int, (∀ v, R v → p v = d v) ∧ (∀ v, ¬ R v → p v = 2 * M0 + (if I v = true then w1 v else - w2 v)) :=
    ⟨cf_pot (2 * M0) w1 w2 I d R, fun v hv => cf_potr hv, fun v hv => cf_potu hv⟩
  obtain ⟨v1, v1i, v1o⟩ : ∃ v1 : Nat → Int, (∀ v, I v = true → v1 v = p v) ∧ (∀ v, I v = false → v1 v = p v + w v) :=
    ⟨fun v => if I v = true then p v else p v + w v, fun v hv => cf_ps hv _ _, fun v hv => cf_ns hv _ _⟩
  obtain ⟨v2, v2i, v2o⟩ : ∃ v2 : Nat → Int, (∀ v, I v = true → v2 v = w v - p v) ∧ (∀ v, I v = false → v2 v = - p v) :=
    ⟨fun v => if I v = true then w v - p v else - p v, fun v hv => cf_ps hv _ _, fun v hv => cf_ns hv _ _⟩
  have hv : ∀ e, w e = v1 e + v2 e := by
    intro e
    cases c : I e
    · rw [v1o e c, v2o e c]
      omega
    · rw [v1i e c, v2i e c]
      omega
  have L1 : cf_LO P1 v1 I := by
    intro x y hy hx hp
    rw [v1o x hx, v1i y hy]
    have yN := m1.2.2 I g1.1 y hy
    have xN := m1.2.2 _ hp x (cf_xx _ _ _)
    have b1 := hM0 x xN
    have b2 := hM0 y yN
    by_cases ry : R y
    · obtain ⟨rx, lx⟩ := ha1 x y hy hx hp ry
      rw [pr x rx, pr y ry]
      unfold cf_lx at lx
      omega
    · rw [pu y ry, cf_ps hy]
      by_cases rx : R x
      · rw [pr x rx]
        omega
      · rw [pu x rx, cf_ns hx]
        have := l1 x y hy hx hp
        have := hw x
        omega
  have L2 : cf_LO P2 v2 I := by
    intro x y hy hx hp
    rw [v2o x hx, v2i y hy]
    have yN := m1.2.2 I g1.1 y hy
    have xN := m2.2.2 _ hp x (cf_xx _ _ _)
    have b1 := hM0 x xN
    have b2 := hM0 y yN
    by_cases rx : R x
    · obtain ⟨ry, lx⟩ := ha2 x y hy hx hp rx
      rw [pr x rx, pr y ry]
      unfold cf_lx at lx
      omega
    · rw [pu x rx, cf_ns hx]
      by_cases ry : R y
      · rw [pr y ry]
        omega
      · rw [pu y ry, cf_ps hy]
        have := l2 x y hy hx hp
        have := hw y
        omega
  have e1 := cf_res1 hP hr
  have e2 := cf_res2 hP hr
  have A1 := cf_aug1 (w := v1) (g := fun v => (s v : Int)) (L := cf_L1 pth t) (a := pth 0) m1 g1.1 L1 (cf_ok1 hP)
    (fun q hq => by
      obtain ⟨j, hj, rfl⟩ := cf_L1m.mp hq
      exact (hod j hj).2.1)
    (fun q hq => by
      obtain ⟨j, hj, rfl⟩ := cf_L1m.mp hq
      show v1 (pth (2 * j + 1)) = v1 (pth (2 * j + 2))
      have o := hod j hj
      rw [v1i _ o.1, v1o _ (show I (pth (2 * j + 2)) = false from hev (j + 1) (by omega)), pr _ (hR (2 * j + 1) (by omega)).1, pr _ (hR (2 * j + 2) (by omega)).1]
      omega)
    (fun q r hq hr' e => by
      obtain ⟨i, hi, rfl⟩ := cf_L1m.mp hq
      obtain ⟨j, hj, rfl⟩ := cf_L1m.mp hr'
      have e : (s (pth (2 * i + 2)) : Int) = s (pth (2 * j + 2)) := e
      rw [(hR (2 * i + 2) (by omega)).2, (hR (2 * j + 2) (by omega)).2] at e
      have : i = j := by omega
      rw [this])
    (fun q r hq hr' e ew hp => by
      obtain ⟨i, hi, rfl⟩ := cf_L1m.mp hq
      obtain ⟨j, hj, rfl⟩ := cf_L1m.mp hr'
      have e : (s (pth (2 * i + 2)) : Int) < s (pth (2 * j + 2)) := e
      have ew : v1 (pth (2 * i + 1)) = v1 (pth (2 * j + 2)) := ew
      have hp : P1 (cf_x I (pth (2 * i + 1)) (pth (2 * j + 2))) := hp
      rw [(hR (2 * i + 2) (by omega)).2, (hR (2 * j + 2) (by omega)).2] at e
      have xj : I (pth (2 * j + 2)) = false := hev (j + 1) (by omega)
      have yi := (hod i hi).1
      have q1 := (ha1 _ _ yi xj hp (hR (2 * i + 1) (by omega)).1).2
      rw [v1i _ yi, v1o _ xj, pr _ (hR (2 * i + 1) (by omega)).1, pr _ (hR (2 * j + 2) (by omega)).1] at ew
      have q1 : cf_lx (d (pth (2 * j + 2))) (s (pth (2 * j + 2))) (d (pth (2 * i + 1)) - w (pth (2 * j + 2))) (s (pth (2 * i + 1)) + 1) := q1
      rw [(hR (2 * j + 2) (by omega)).2, (hR (2 * i + 1) (by omega)).2] at q1
      unfold cf_lx at q1
      have ew : d (pth (2 * i + 1)) = d (pth (2 * j + 2)) + w (pth (2 * j + 2)) := ew
      omega)
    (hev 0 (by omega)) h0
    (fun q hq e => by
      obtain ⟨j, hj, rfl⟩ := cf_L1m.mp hq
      have e : pth (2 * j + 2) = pth 0 := e
      have := cf_ptn hP (by omega) (by omega) e
      omega)
    (fun q hq ew hp => by
      obtain ⟨j, hj, rfl⟩ := cf_L1m.mp hq
      have ew : v1 (pth (2 * j + 2)) = v1 (pth 0) := ew
      have hp : P1 (cf_s I (pth (2 * j + 2)) true) := hp
      have xj : I (pth (2 * j + 2)) = false := hev (j + 1) (by omega)
      have x0 : I (pth 0) = false := hev 0 (by omega)
      have q1 := (hsrc _ xj hp).2
      rw [v1o _ xj, v1o _ x0, pr _ (hR (2 * j + 2) (by omega)).1, pr _ (hR 0 (by omega)).1] at ew
      rw [(hR (2 * j + 2) (by omega)).2] at q1
      unfold cf_lx at q1
      omega)
    (fun x hx hp => by
      obtain ⟨rx, q1⟩ := hsrc x hx hp
      have x0 : I (pth 0) = false := hev 0 (by omega)
      rw [v1o _ hx, v1o _ x0, pr _ rx, pr _ (hR 0 (by omega)).1]
      unfold cf_lx at q1
      omega)
  have xT : I (pth (2 * t)) = false := hev t (by omega)
  have rT := (hR (2 * t) (by omega)).1
  have A2 := cf_aug1 (w := v2) (g := fun v => - (s v : Int)) (L := cf_L2 pth t) (a := pth (2 * t)) m2 g2.1 L2 (cf_ok2 hP)
    (fun q hq => by
      obtain ⟨j, hj, rfl⟩ := cf_L2m.mp hq
      exact (hod j hj).2.2.1)
    (fun q hq => by
      obtain ⟨j, hj, rfl⟩ := cf_L2m.mp hq
      show v2 (pth (2 * j + 1)) = v2 (pth (2 * j))
      have o := hod j hj
      rw [v2i _ o.1, v2o _ (hev j (by omega)), pr _ (hR (2 * j + 1) (by omega)).1, pr _ (hR (2 * j) (by omega)).1]
      omega)
    (fun q r hq hr' e => by
      obtain ⟨i, hi, rfl⟩ := cf_L2m.mp hq
      obtain ⟨j, hj, rfl⟩ := cf_L2m.mp hr'
      have e : - (s (pth (2 * i)) : Int) = - (s (pth (2 * j)) : Int) := e
      rw [(hR (2 * i) (by omega)).2, (hR (2 * j) (by omega)).2] at e
      have : i = j := by omega
      rw [this])
    (fun q r hq hr' e ew hp => by
      obtain ⟨i, hi, rfl⟩ := cf_L2m.mp hq
      obtain ⟨j, hj, rfl⟩ := cf_L2m.mp hr'
      have e : - (s (pth (2 * i)) : Int) < - (s (pth (2 * j)) : Int) := e
      have ew : v2 (pth (2 * i + 1)) = v2 (pth (2 * j)) := ew
      have hp : P2 (cf_x I (pth (2 * i + 1)) (pth (2 * j))) := hp
      rw [(hR (2 * i) (by omega)).2, (hR (2 * j) (by omega)).2] at e
      have xj := hev j (by omega)
      have yi := (hod i hi).1
      have q1 := (ha2 _ _ yi xj hp (hR (2 * j) (by omega)).1).2
      rw [v2i _ yi, v2o _ xj, pr _ (hR (2 * i + 1) (by omega)).1, pr _ (hR (2 * j) (by omega)).1] at ew
      rw [(hR (2 * j) (by omega)).2, (hR (2 * i + 1) (by omega)).2] at q1
      unfold cf_lx at q1
      omega)
    xT hsk
    (fun q hq e => by
      obtain ⟨j, hj, rfl⟩ := cf_L2m.mp hq
      have e : pth (2 * j) = pth (2 * t) := e
      have := cf_ptn hP (by omega) (by omega) e
      omega)
    (fun q hq ew hp => by
      obtain ⟨j, hj, rfl⟩ := cf_L2m.mp hq
      have ew : v2 (pth (2 * j)) = v2 (pth (2 * t)) := ew
      have hp : P2 (cf_s I (pth (2 * j)) true) := hp
      have xj : I (pth (2 * j)) = false := hev j (by omega)
      have q1 := hsm _ xj hp (hR (2 * j) (by omega)).1
      rw [v2o _ xj, v2o _ xT, pr _ (hR (2 * j) (by omega)).1, pr _ rT] at ew
      rw [(hR (2 * j) (by omega)).2, (hR (2 * t) (by omega)).2] at q1
      unfold cf_lx at q1
      omega)
    (fun x hx hp => by
      rw [v2o _ hx, v2o _ xT, pr _ rT]
      by_cases rx : R x
      · have q1 := hsm x hx hp rx
        rw [pr _ rx]
        unfold cf_lx at q1
        omega
      · rw [pu _ rx, cf_ns hx]
        have b1 := hM0 x (m2.2.2 _ hp x (cf_sx _ _ _))
        have b2 := hM0 (pth (2 * t)) (m2.2.2 _ hsk _ (cf_sx _ _ _))
        omega)
  rw [← e1] at A1
  rw [← e2] at A2
  exact ⟨⟨v1, v2, hv, A1.1, A2.1⟩, A1.2⟩
end
theorem cf_spl (J R : Nat → Bool) (N : Nat) : cf_n J N = cf_n (fun e => J e && R e) N + cf_n (fun e => J e && !R e) N := by
  induction N with
  | zero => rfl
  | succ k ih =>
    show cf_n J k + (if J k = true then 1 else 0) = (cf_n (fun e => J e && R e) k + (if (J k && R k) = true then 1 else 0)) + (cf_n (fun e => J e && !R e) k + (if (J k && !R k) = true then 1 else 0))
    cases J k <;> cases R k <;> simp <;> omega
/-- one side's count: nothing of B can be taken into A beside the arcs that are closed off -/
theorem cf_mx1 {N : Nat} {P : (Nat → Bool) → Prop} (m : cf_M N P) {I J A B : Nat → Bool} (hI : P I) (hJ : P J) (hA : ∀ e, A e = true → I e = true) (hB : ∀ e, B e = true → J e = true)
    (hfree : ∀ x, B x = true → I x = false → ¬ P (cf_s I x true)) (hBA : ∀ x, B x = true → A x = false → I x = false)
    (harc : ∀ x y, B x = true → I x = false → I y = true → A y = false → ¬ P (cf_x I y x)) : cf_n B N ≤ cf_n A N := by
  by_cases c : cf_n B N ≤ cf_n A N
  · exact c
  · exfalso
    have pA := m.1 _ _ hI hA
    have pB := m.1 _ _ hJ hB
    obtain ⟨x, hx, hxA, hP⟩ := m.2.1 _ _ pA pB (by omega)
    have hxI := hBA x hx hxA
    have le := cf_nm (N := N) hA
    by_cases d : cf_n A N = cf_n I N
    · have e := cf_eq hA (m.2.2 I hI) (by omega)
      rw [e] at hP
      exact hfree x hx hxI hP
    · obtain ⟨y, hy, hyA, hp⟩ := cf_ext m hI hxI (cf_n I N - cf_n A N - 1) A hA (by omega) hP
      exact harc x y hx hxI hy hyA hp
theorem cf_max {N : Nat} {P1 P2 : (Nat → Bool) → Prop} (m1 : cf_M N P1) (m2 : cf_M N P2) {I : Nat → Bool} (h1 : P1 I) (h2 : P2 I) (R : Nat → Bool)
    (hsrc : ∀ x, I x = false → P1 (cf_s I x true) → R x = true)
    (ha1 : ∀ x y, I y = true → I x = false → P1 (cf_x I y x) → R y = true → R x = true)
    (ha2 : ∀ x y, I y = true → I x = false → P2 (cf_x I y x) → R x = true → R y = true)
    (hsk : ∀ x, I x = false → P2 (cf_s I x true) → R x = false) :
    ∀ J : Nat → Bool, P1 J → P2 J → cf_n J N ≤ cf_n I N := by
  intro J j1 j2
  have a : cf_n (fun e => J e && !R e) N ≤ cf_n (fun e => I e && !R e) N := by
    refine cf_mx1 m1 h1 j1 (fun e he => ?_) (fun e he => ?_) (fun x hx hi hp => ?_) (fun x hx ha => ?_) (fun x y hx hi hy hya hp => ?_)
    · simp at he
      exact he.1
    · simp at he
      exact he.1
    · have := hsrc x hi hp
      simp [this] at hx
    · simp at hx ha
      cases q : I x
      · rfl
      · have := ha q
        rw [hx.2] at this
        exact absurd this (by decide)
    · simp at hx hya
      have := ha1 x y hy hi hp (hya hy)
      rw [hx.2] at this
      exact absurd this (by decide)
  have b : cf_n (fun e => J e && R e) N ≤ cf_n (fun e => I e && R e) N := by
    refine cf_mx1 m2 h2 j2 (fun e he => ?_) (fun e he => ?_) (fun x hx hi hp => ?_) (fun x hx ha => ?_) (fun x y hx hi hy hya hp => ?_)
    · simp at he
      exact he.1
    · simp at he
      exact he.1
    · have := hsk x hi hp
      simp [this] at hx
    · simp at hx ha
      cases q : I x
      · rfl
      · have := ha q
        rw [hx.2] at this
        exact absurd this (by decide)
    · simp at hx hya
      have := ha2 x y hy hi hp hx.2
      rw [hya hy] at this
      exact absurd this (by decide)
  have s1 := cf_spl J R N
  have s2 := cf_spl I R N
  omega
end
section
/-! forests by labels; quotas: both are matroids -/
def gf_mg (f : Nat → Nat) (u v : Nat) : Nat → Nat := fun w => if f w = f v then f u else f w
def gf_l (U V : Nat → Nat) (S : Nat → Bool) : Nat → Nat → Nat
  | 0 => fun w => w
  | e + 1 => if S e = true then gf_mg (gf_l U V S e) (U e) (V e) else gf_l U V S e
def gf_F (U V : Nat → Nat) (S : Nat → Bool) (N : Nat) : Prop := ∀ e, e < N → S e = true → gf_l U V S e (U e) ≠ gf_l U V S e (V e)
def gf_id (f : Nat → Nat) (n : Nat) : Prop := (∀ w, f (f w) = f w) ∧ ∀ w, w < n → f w < n
def gf_k (f : Nat → Nat) (n : Nat) : Nat := cf_n (fun w => decide (f w = w)) n
theorem gf_mgt {f : Nat → Nat} {u v w : Nat} (h : f w = f v) : gf_mg f u v w = f u := if_pos h
theorem gf_mgf {f : Nat → Nat} {u v w : Nat} (h : f w ≠ f v) : gf_mg f u v w = f w := if_neg h
theorem gf_mgs {f : Nat → Nat} {u v : Nat} (h : f u = f v) : gf_mg f u v = f := by
  funext w
  by_cases c : f w = f v
  · rw [gf_mgt c, c, h]
  · rw [gf_mgf c]
theorem gf_mgid {f : Nat → Nat} {n u v : Nat} (h : gf_id f n) (hu : u < n) : gf_id (gf_mg f u v) n := by
  refine ⟨fun w => ?_, fun w hw => ?_⟩
  · by_cases c : f w = f v
    · rw [gf_mgt c]
      by_cases c2 : f (f u) = f v
      · rw [gf_mgt c2]
      · rw [gf_mgf c2, h.1]
    · rw [gf_mgf c]
      have c2 : f (f w) ≠ f v := by rw [h.1]; exact c
      rw [gf_mgf c2, h.1]
  · by_cases c : f w = f v
    · rw [gf_mgt c]
      exact h.2 u hu
    · rw [gf_mgf c]
      exact h.2 w hw
theorem gf_mgk {f : Nat → Nat} {n u v : Nat} (h : gf_id f n) (hv : v < n) (hne : f u ≠ f v) : gf_k (gf_mg f u v) n + 1 = gf_k f n := by
  have e : (fun w => decide (gf_mg f u v w = w)) = cf_s (fun w => decide (f w = w)) (f v) false := by
    funext w
    by_cases q : w = f v
    · rw [q, cf_sx]
      have c : f (f v) = f v := h.1 v
      rw [gf_mgt c]
      exact decide_eq_false hne
    · rw [cf_sn q]
      by_cases c : f w = f v
      · rw [gf_mgt c]
        have a : ¬ f u = w := fun z => by
          rw [← z, h.1] at c
          exact hne c
        have b : ¬ f w = w := fun z => by
          rw [c] at z
          exact q z.symm
        rw [decide_eq_false a, decide_eq_false b]
      · rw [gf_mgf c]
  unfold gf_k
  rw [e]
  exact cf_nd (S := fun w => decide (f w = w)) (h.2 v hv) (decide_eq_true (h.1 v))
theorem gf_lt {U V : Nat → Nat} {S : Nat → Bool} {e : Nat} (h : S e = true) : gf_l U V S (e + 1) = gf_mg (gf_l U V S e) (U e) (V e) := if_pos h
theorem gf_lf {U V : Nat → Nat} {S : Nat → Bool} {e : Nat} (h : S e = false) : gf_l U V S (e + 1) = gf_l U V S e := if_neg (by rw [h]; decide)
theorem gf_lid {U V : Nat → Nat} {n : Nat} (S : Nat → Bool) : ∀ N, (∀ e, e < N → U e < n ∧ V e < n) → gf_id (gf_l U V S N) n := by
  intro N
  induction N with
  | zero => exact fun _ => ⟨fun _ => rfl, fun _ h => h⟩
  | succ k ih =>
    intro hU
    have i := ih (fun e he => hU e (by omega))
    cases c : S k
    · rw [gf_lf c]
      exact i
    · rw [gf_lt c]
      exact gf_mgid i (hU k (by omega)).1
theorem gf_min {U V : Nat → Nat} {S : Nat → Bool} {g : Nat → Nat} : ∀ N, (∀ e, e < N → S e = true → g (U e) = g (V e)) → ∀ w, g (gf_l U V S N w) = g w := by
  intro N
  induction N with
  | zero => exact fun _ _ => rfl
  | succ k ih =>
    intro hg w
    have i := ih (fun e he => hg e (by omega))
    cases c : S k
    · rw [gf_lf c]
      exact i w
    · rw [gf_lt c]
      by_cases q : gf_l U V S k w = gf_l U V S k (V k)
      · rw [gf_mgt q, i, hg k (by omega) c, ← i (V k), ← q, i]
      · rw [gf_mgf q, i]
theorem gf_con {U V : Nat → Nat} {S : Nat → Bool} : ∀ N e, e < N → S e = true → gf_l U V S N (U e) = gf_l U V S N (V e) := by
  intro N
  induction N with
  | zero => exact fun e he => absurd he (by omega)
  | succ k ih =>
    intro e he hS
    by_cases q : e = k
    · subst q
      rw [gf_lt hS, gf_mgt (w := V e) rfl]
      by_cases c : gf_l U V S e (U e) = gf_l U V S e (V e)
      · rw [gf_mgt c]
      · rw [gf_mgf c]
    · have i := ih e (by omega) hS
      cases c : S k
      · rw [gf_lf c]
        exact i
      · rw [gf_lt c]
        unfold gf_mg
        rw [i]
theorem gf_inj {φ : Nat → Nat} {m : Nat} : ∀ (n : Nat) (A B : Nat → Bool), (∀ w, w < n → A w = true → φ w < m ∧ B (φ w) = true) →
    (∀ w w', w < n → w' < n → A w = true → A w' = true → φ w = φ w' → w = w') → cf_n A n ≤ cf_n B m := by
  intro n
  induction n with
  | zero => exact fun _ _ _ _ => Nat.zero_le _
  | succ k ih =>
    intro A B h1 h2
    show cf_n A k + (if A k = true then 1 else 0) ≤ cf_n B m
    by_cases c : A k = true
    · rw [if_pos c]
      obtain ⟨hm, hB⟩ := h1 k (by omega) c
      have n1 := cf_nd hm hB
      have := ih A (cf_s B (φ k) false) (fun w hw hA => by
        obtain ⟨a, b⟩ := h1 w (by omega) hA
        refine ⟨a, ?_⟩
        have : φ w ≠ φ k := fun z => by
          have := h2 w k (by omega) (by omega) hA c z
          omega
        rw [cf_sn this]
        exact b) (fun w w' hw hw' => h2 w w' (by omega) (by omega))
      omega
    · rw [if_neg c]
      exact ih A B (fun w hw => h1 w (by omega)) (fun w w' hw hw' => h2 w w' (by omega) (by omega))
theorem gf_kle {f g : Nat → Nat} {n : Nat} (hf : gf_id f n) (h : ∀ w w', f w = f w' → g w = g w') : gf_k g n ≤ gf_k f n := by
  refine gf_inj (φ := f) n _ _ (fun w hw _ => ⟨hf.2 w hw, decide_eq_true (hf.1 w)⟩) (fun w w' _ _ a b e => ?_)
  have a := of_decide_eq_true a
  have b := of_decide_eq_true b
  have := h w w' e
  rw [a, b] at this
  exact this
/-- the edges whose merge succeeds -/
def gf_suc (U V : Nat → Nat) (S : Nat → Bool) : Nat → Bool := fun e => S e && decide (gf_l U V S e (U e) ≠ gf_l U V S e (V e))
theorem gf_suct {U V : Nat → Nat} {S : Nat → Bool} {e : Nat} : gf_suc U V S e = true ↔ S e = true ∧ gf_l U V S e (U e) ≠ gf_l U V S e (V e) := by
  unfold gf_suc
  rw [Bool.and_eq_true, decide_eq_true_iff]
theorem gf_k0 (n : Nat) : gf_k (fun w => w) n = n := by
  induction n with
  | zero => rfl
  | succ k ih =>
    show gf_k (fun w => w) k + (if decide (k = k) = true then 1 else 0) = k + 1
    rw [ih]
    simp
theorem gf_cnt {U V : Nat → Nat} {n : Nat} (S : Nat → Bool) : ∀ N, (∀ e, e < N → U e < n ∧ V e < n) → gf_k (gf_l U V S N) n + cf_n (gf_suc U V S) N = n := by
  intro N
  induction N with
  | zero => exact fun _ => gf_k0 n
  | succ k ih =>
    intro hU
    have hU' : ∀ e, e < k → U e < n ∧ V e < n := fun e he => hU e (by omega)
    have i := ih hU'
    have d := gf_lid S k hU'
    show gf_k (gf_l U V S (k + 1)) n + (cf_n (gf_suc U V S) k + (if gf_suc U V S k = true then 1 else 0)) = n
    by_cases c : gf_suc U V S k = true
    · rw [if_pos c]
      obtain ⟨c1, c2⟩ := gf_suct.mp c
      rw [gf_lt c1]
      have := gf_mgk d (hU k (by omega)).2 c2
      omega
    · rw [if_neg c]
      cases q : S k
      · rw [gf_lf q]
        omega
      · have c2 : gf_l U V S k (U k) = gf_l U V S k (V k) := by
          by_cases z : gf_l U V S k (U k) = gf_l U V S k (V k)
          · exact z
          · exact absurd (gf_suct.mpr ⟨q, z⟩) c
        rw [gf_lt q, gf_mgs c2]
        omega
theorem gf_Fn {U V : Nat → Nat} {S : Nat → Bool} {n N : Nat} (hU : ∀ e, e < N → U e < n ∧ V e < n) : gf_F U V S N ↔ gf_k (gf_l U V S N) n + cf_n S N = n := by
  have c := gf_cnt S N hU
  constructor
  · intro h
    have : cf_n (gf_suc U V S) N = cf_n S N := cf_nc (fun e he => by
      cases q : S e
      · unfold gf_suc
        rw [q]
        rfl
      · exact gf_suct.mpr ⟨q, h e he q⟩)
    omega
  · intro h e he hS z
    have q : gf_suc U V S e = false := by
      cases q : gf_suc U V S e
      · rfl
      · exact absurd z (gf_suct.mp q).2
    have a : cf_n (gf_suc U V S) N ≤ cf_n (cf_s S e false) N := cf_nm (fun x hx => by
      by_cases y : x = e
      · rw [y, q] at hx
        exact absurd hx (by decide)
      · rw [cf_sn y]
        exact (gf_suct.mp hx).1)
    have b := cf_nd he hS
    omega
theorem gf_kN {U V : Nat → Nat} {S : Nat → Bool} {n N : Nat} (hU : ∀ e, e < N → U e < n ∧ V e < n) : n ≤ gf_k (gf_l U V S N) n + cf_n S N := by
  have c := gf_cnt S N hU
  have a : cf_n (gf_suc U V S) N ≤ cf_n S N := cf_nm (fun x hx => (gf_suct.mp hx).1)
  omega
/-- what A connects, B connects, if B connects the ends of A's edges -/
theorem gf_sub {U V : Nat → Nat} {A B : Nat → Bool} {N : Nat} (h : ∀ e, e < N → A e = true → gf_l U V B N (U e) = gf_l U V B N (V e)) :
    ∀ w w', gf_l U V A N w = gf_l U V A N w' → gf_l U V B N w = gf_l U V B N w' := by
  intro w w' e
  have a := gf_min (g := gf_l U V B N) N h w
  have b := gf_min (g := gf_l U V B N) N h w'
  rw [← a, ← b, e]
def gf_P (U V : Nat → Nat) (G : Nat → Bool) (N : Nat) (S : Nat → Bool) : Prop := (∀ e, S e = true → e < N ∧ G e = true) ∧ gf_F U V S N
theorem gf_down {U V : Nat → Nat} {A B : Nat → Bool} {N : Nat} (hB : gf_F U V B N) (h : ∀ e, A e = true → B e = true) : gf_F U V A N := by
  intro e he hA z
  refine hB e he (h e hA) ?_
  exact gf_sub (N := e) (fun x hx hxA => gf_con e x hx (h x hxA)) _ _ z
theorem gf_M {U V : Nat → Nat} {n N : Nat} (G : Nat → Bool) (hU : ∀ e, e < N → U e < n ∧ V e < n) : cf_M N (gf_P U V G N) := by
  refine ⟨fun A B hB h => ⟨fun e he => hB.1 e (h e he), gf_down hB.2 h⟩, fun A B hA hB hc => ?_, fun A hA e he => (hA.1 e he).1⟩
  by_cases c : ∃ x, B x = true ∧ A x = false ∧ gf_P U V G N (cf_s A x true)
  · exact c
  · exfalso
    have hall : ∀ e, e < N → B e = true → gf_l U V A N (U e) = gf_l U V A N (V e) := by
      intro x hx hBx
      cases q : A x
      · by_cases z : gf_l U V A N (U x) = gf_l U V A N (V x)
        · exact z
        · refine absurd ⟨x, hBx, q, fun e he => ?_, ?_⟩ c
          · by_cases y : e = x
            · rw [y]
              exact hB.1 x hBx
            · rw [cf_sn y] at he
              exact hA.1 e he
          · rw [gf_Fn hU]
            have k1 := gf_mgk (gf_lid A N hU) (hU x hx).2 z
            have k2 := (gf_Fn hU).mp hA.2
            have k3 := gf_kN (S := cf_s A x true) hU
            have k4 := cf_ni hx q
            have gA : ∀ w, gf_l U V (cf_s A x true) N (gf_l U V A N w) = gf_l U V (cf_s A x true) N w :=
              gf_min N (fun e he hAe => gf_con N e he (by
                by_cases y : e = x
                · rw [y, cf_sx]
                · rw [cf_sn y]
                  exact hAe))
            have gx : gf_l U V (cf_s A x true) N (U x) = gf_l U V (cf_s A x true) N (V x) := gf_con N x hx (cf_sx _ _ _)
            have gm : ∀ w, gf_l U V (cf_s A x true) N (gf_mg (gf_l U V A N) (U x) (V x) w) = gf_l U V (cf_s A x true) N w := by
              intro w
              by_cases y : gf_l U V A N w = gf_l U V A N (V x)
              · rw [gf_mgt y, gA, gx, ← gA (V x), ← y, gA]
              · rw [gf_mgf y, gA]
            have k5 : gf_k (gf_l U V (cf_s A x true) N) n ≤ gf_k (gf_mg (gf_l U V A N) (U x) (V x)) n :=
              gf_kle (gf_mgid (gf_lid A N hU) (hU x hx).1) (fun w w' e => by rw [← gm w, ← gm w', e])
            omega
      · exact gf_con N x hx q
    have k1 := gf_kle (gf_lid B N hU) (gf_sub hall)
    have k2 := (gf_Fn hU).mp hA.2
    have k3 := (gf_Fn hU).mp hB.2
    omega
theorem gf_P0 (U V : Nat → Nat) (G : Nat → Bool) (N : Nat) : gf_P U V G N (fun _ => false) :=
  ⟨fun _ h => absurd h Bool.false_ne_true, fun _ _ h => absurd h Bool.false_ne_true⟩
/-- a forest on n ≥ 1 vertices has fewer than n edges -/
theorem gf_small {U V : Nat → Nat} {S : Nat → Bool} {n N : Nat} (hn : 0 < n) (hU : ∀ e, e < N → U e < n ∧ V e < n) (h : gf_F U V S N) : cf_n S N < n := by
  have k := (gf_Fn hU).mp h
  have d := gf_lid S N hU
  have p := cf_nd (S := fun w => decide (gf_l U V S N w = w)) (d.2 0 hn) (decide_eq_true (d.1 0))
  have e : gf_k (gf_l U V S N) n = cf_n (fun w => decide (gf_l U V S N w = w)) n := rfl
  omega
/-- the rank: the greedy count over all edges -/
theorem gf_rk {U V : Nat → Nat} {S : Nat → Bool} {n N : Nat} (hU : ∀ e, e < N → U e < n ∧ V e < n) (h : gf_F U V S N) :
    cf_n S N ≤ cf_n (gf_suc U V (fun _ => true)) N := by
  have a := gf_kle (gf_lid S N hU) (gf_sub (B := fun _ => true) (fun e he _ => gf_con N e he rfl))
  have b := (gf_Fn hU).mp h
  have c := gf_cnt (fun _ => true) N hU
  omega
theorem gf_rl {U V : Nat → Nat} {S : Nat → Bool} : ∀ N, (∀ e, e < N → S e = gf_suc U V (fun _ => true) e) → gf_l U V S N = gf_l U V (fun _ => true) N := by
  intro N
  induction N with
  | zero => exact fun _ => rfl
  | succ k ih =>
    intro h
    have i := ih (fun e he => h e (by omega))
    have hk := h k (by omega)
    rw [gf_lt (S := fun _ => true) rfl]
    cases q : gf_suc U V (fun _ => true) k
    · rw [q] at hk
      rw [gf_lf hk, i]
      have : gf_l U V (fun _ => true) k (U k) = gf_l U V (fun _ => true) k (V k) := by
        by_cases z : gf_l U V (fun _ => true) k (U k) = gf_l U V (fun _ => true) k (V k)
        · exact z
        · rw [gf_suct.mpr ⟨rfl, z⟩] at q
          exact absurd q (by decide)
      rw [gf_mgs this]
    · rw [q] at hk
      rw [gf_lt hk, i]
theorem gf_rF {U V : Nat → Nat} {S : Nat → Bool} {N : Nat} (h : ∀ e, e < N → S e = gf_suc U V (fun _ => true) e) : gf_F U V S N := by
  intro e he hS
  rw [gf_rl e (fun x hx => h x (by omega))]
  rw [h e he] at hS
  exact (gf_suct.mp hS).2
def qf_s (C : Nat → Nat) (S : Nat → Bool) (c : Nat) : Nat → Bool := fun e => S e && (C e == c)
theorem qf_st {C : Nat → Nat} {S : Nat → Bool} {c e : Nat} : qf_s C S c e = true ↔ S e = true ∧ C e = c := by simp [qf_s]
def qf_P (C : Nat → Nat) (Q : Nat → Nat) (G : Nat → Bool) (N : Nat) (S : Nat → Bool) : Prop :=
  (∀ e, S e = true → e < N ∧ G e = true) ∧ ∀ c, c < 4 → cf_n (qf_s C S c) N ≤ Q c
theorem qf_4 {C : Nat → Nat} (S : Nat → Bool) : ∀ N, (∀ e, e < N → C e < 4) → cf_n S N = cf_n (qf_s C S 0) N + cf_n (qf_s C S 1) N + cf_n (qf_s C S 2) N + cf_n (qf_s C S 3) N := by
  intro N
  induction N with
  | zero => exact fun _ => rfl
  | succ k ih =>
    intro hC
    have i := ih (fun e he => hC e (by omega))
    have hk := hC k (by omega)
    show cf_n S k + (if S k = true then 1 else 0) = (cf_n (qf_s C S 0) k + (if (S k && (C k == 0)) = true then 1 else 0)) + (cf_n (qf_s C S 1) k + (if (S k && (C k == 1)) = true then 1 else 0)) + (cf_n (qf_s C S 2) k + (if (S k && (C k == 2)) = true then 1 else 0)) + (cf_n (qf_s C S 3) k + (if (S k && (C k == 3)) = true then 1 else 0))
    generalize C k = c at *
    have : c = 0 ∨ c = 1 ∨ c = 2 ∨ c = 3 := by omega
    rcases this with rfl | rfl | rfl | rfl <;> cases S k <;> simp <;> omega
theorem qf_M {C Q : Nat → Nat} {N : Nat} (G : Nat → Bool) (hC : ∀ e, e < N → C e < 4) : cf_M N (qf_P C Q G N) := by
  refine ⟨fun A B hB h => ⟨fun e he => hB.1 e (h e he), fun c hc => Nat.le_trans (cf_nm (fun e he => ?_)) (hB.2 c hc)⟩, fun A B hA hB hc => ?_, fun A hA e he => (hA.1 e he).1⟩
  · rw [qf_st] at he ⊢
    exact ⟨h e he.1, he.2⟩
  · have hex : ∃ c, c < 4 ∧ cf_n (qf_s C A c) N < cf_n (qf_s C B c) N := by
      by_cases z : ∃ c, c < 4 ∧ cf_n (qf_s C A c) N < cf_n (qf_s C B c) N
      · exact z
      · exfalso
        have hz : ∀ c, c < 4 → cf_n (qf_s C B c) N ≤ cf_n (qf_s C A c) N := fun c h4 => by
          by_cases y : cf_n (qf_s C A c) N < cf_n (qf_s C B c) N
          · exact absurd ⟨c, h4, y⟩ z
          · omega
        have a := qf_4 A N hC
        have b := qf_4 B N hC
        have z0 := hz 0 (by omega)
        have z1 := hz 1 (by omega)
        have z2 := hz 2 (by omega)
        have z3 := hz 3 (by omega)
        omega
    obtain ⟨c, h4, hlt⟩ := hex
    obtain ⟨x, hx, hxB, hxA⟩ := cf_ex hlt
    obtain ⟨b1, b2⟩ := qf_st.mp hxB
    have a1 : A x = false := by
      cases q : A x
      · rfl
      · rw [qf_st.mpr ⟨q, b2⟩] at hxA
        exact absurd hxA (by decide)
    refine ⟨x, b1, a1, fun e he => ?_, fun c' h4' => ?_⟩
    · by_cases y : e = x
      · rw [y]
        exact hB.1 x b1
      · rw [cf_sn y] at he
        exact hA.1 e he
    · by_cases y : c' = c
      · subst y
        have e : qf_s C (cf_s A x true) c' = cf_s (qf_s C A c') x true := by
          funext z
          by_cases q : z = x
          · rw [q, cf_sx]
            exact qf_st.mpr ⟨cf_sx _ _ _, b2⟩
          · rw [cf_sn q]
            unfold qf_s
            rw [cf_sn q]
        rw [e]
        have := cf_ni hx hxA
        have := hB.2 c' h4'
        omega
      · have e : qf_s C (cf_s A x true) c' = qf_s C A c' := by
          funext z
          by_cases q : z = x
          · unfold qf_s
            rw [q, a1, b2]
            simp
            exact fun _ => fun z => y z.symm
          · unfold qf_s
            rw [cf_sn q]
        rw [e]
        exact hA.2 c' h4'
theorem qf_P0 (C Q : Nat → Nat) (G : Nat → Bool) (N : Nat) : qf_P C Q G N (fun _ => false) := by
  refine ⟨fun _ h => absurd h Bool.false_ne_true, fun c _ => ?_⟩
  have : qf_s C (fun _ => false) c = fun _ => false := by
    funext e
    rfl
  rw [this, cf_nf]
  exact Nat.zero_le _
end
section
/-! shortest walks by rounds of relaxing, lengths and arcs compared lexicographically -/
def bf_s (l : Nat → Int) : List Nat → Int
  | [] => 0
  | e :: L => l e + bf_s l L
def bf_u {α : Type} (f : Nat → α) (v : Nat) (a : α) : Nat → α := fun e => if e = v then a else f e
theorem bf_ux {α : Type} (f : Nat → α) (v : Nat) (a : α) : bf_u f v a v = a := if_pos rfl
theorem bf_un {α : Type} {f : Nat → α} {v e : Nat} {a : α} (h : e ≠ v) : bf_u f v a e = f e := if_neg h
/-- a walk, its last vertex first; every vertex on it is known to be at least as near -/
def bf_W (arc : Nat → Nat → Prop) (src : Nat → Prop) (l : Nat → Int) (F : Int) (N : Nat) (d : Nat → Int) (s : Nat → Nat) : List Nat → Prop
  | [] => True
  | v :: L => cf_lx (d v) (s v) (bf_s l (v :: L)) L.length ∧ v < N ∧ d v < F ∧ (L = [] → src v) ∧ (∀ u L', L = u :: L' → arc u v) ∧ bf_W arc src l F N d s L
def bf_I (arc : Nat → Nat → Prop) (src : Nat → Prop) (l : Nat → Int) (F : Int) (N : Nat) (r : Nat) (don : Nat → Nat → Prop) (d : Nat → Int) (s : Nat → Nat) (b : Nat → Option Nat) : Prop :=
  (∀ v, v < N → d v ≤ F) ∧
  (∀ v, v < N → d v < F → ∃ L, bf_W arc src l F N d s (v :: L) ∧ (v :: L).Nodup ∧ d v = bf_s l (v :: L) ∧ s v = L.length) ∧
  (∀ v, v < N → d v < F → (b v = none ∧ src v ∧ d v = l v ∧ s v = 0) ∨ (∃ u, b v = some u ∧ u < N ∧ d u < F ∧ arc u v ∧ cf_lx (d u + l v) (s u + 1) (d v) (s v))) ∧
  (∀ v, src v → cf_lx (d v) (s v) (l v) 0) ∧
  (∀ u v, arc u v → d u < F → cf_lx (d v) (s v) (d u + l v) (s u + 1) ∨ (r ≤ s u ∧ (don u v → r + 1 ≤ s u)))
section
variable {arc : Nat → Nat → Prop} {src : Nat → Prop} {l : Nat → Int} {F : Int} {N : Nat}
theorem bf_Wm {d d' : Nat → Int} {s s' : Nat → Nat} (h : ∀ e, cf_lx (d' e) (s' e) (d e) (s e)) : ∀ L, bf_W arc src l F N d s L → bf_W arc src l F N d' s' L := by
  intro L
  induction L with
  | nil => exact fun _ => trivial
  | cons v L ih =>
    rintro ⟨a, b, c, e, f, g⟩
    have hv := h v
    unfold cf_lx at a hv
    refine ⟨?_, b, by omega, e, f, ih g⟩
    unfold cf_lx
    omega
theorem bf_We {d : Nat → Int} {s : Nat → Nat} : ∀ L, bf_W arc src l F N d s L → ∀ e, e ∈ L → e < N ∧ d e < F := by
  intro L
  induction L with
  | nil => exact fun _ e he => absurd he (by simp)
  | cons v L ih =>
    rintro ⟨a, b, c, _, _, g⟩ e he
    rw [List.mem_cons] at he
    rcases he with he | he
    · rw [he]
      exact ⟨b, c⟩
    · exact ih g e he
theorem bf_mem {p : Nat → Int} (hp : ∀ u v, arc u v → p v ≤ p u + l v) {d : Nat → Int} {s : Nat → Nat} {v : Nat} : ∀ (L0 : List Nat) (u : Nat), bf_W arc src l F N d s (u :: L0) → v ∈ u :: L0 →
    ∃ (a : Int) (k : Nat), cf_lx (d v) (s v) a k ∧ a - p v ≤ bf_s l (u :: L0) - p u ∧ k ≤ L0.length := by
  intro L0
  induction L0 with
  | nil =>
    intro u h hv
    have e : v = u := by simpa using hv
    subst e
    exact ⟨_, _, h.1, Int.le_refl _, Nat.le_refl _⟩
  | cons u' L ih =>
    intro u h hv
    rw [List.mem_cons] at hv
    rcases hv with e | hv
    · subst e
      exact ⟨_, _, h.1, Int.le_refl _, Nat.le_refl _⟩
    · obtain ⟨_, _, _, _, f, g⟩ := h
      obtain ⟨a, k, h1, h2, h3⟩ := ih u' g hv
      have h4 := hp u' u (f u' L rfl)
      refine ⟨a, k, h1, ?_, by simp only [List.length_cons]; omega⟩
      show a - p v ≤ l u + bf_s l (u' :: L) - p u
      omega
/-- an arc that needs nothing, or that isn't there -/
theorem bf_skip {r : Nat} {don don' : Nat → Nat → Prop} {d : Nat → Int} {s : Nat → Nat} {b : Nat → Option Nat} {u v : Nat} (h : bf_I arc src l F N r don d s b)
    (hd : ∀ x y, don' x y → don x y ∨ (x = u ∧ y = v)) (hk : arc u v → d u < F → cf_lx (d v) (s v) (d u + l v) (s u + 1)) : bf_I arc src l F N r don' d s b := by
  obtain ⟨h1, h2, h3, h4, h5⟩ := h
  refine ⟨h1, h2, h3, h4, fun x y ha hF => ?_⟩
  rcases h5 x y ha hF with q | ⟨q1, q2⟩
  · exact Or.inl q
  · by_cases c : x = u ∧ y = v
    · obtain ⟨rfl, rfl⟩ := c
      exact Or.inl (hk ha hF)
    · refine Or.inr ⟨q1, fun z => ?_⟩
      rcases hd x y z with z | z
      · exact q2 z
      · exact absurd z c
theorem bf_step {p : Nat → Int} (hp : ∀ u v, arc u v → p v ≤ p u + l v) (hN : ∀ u v, arc u v → u < N ∧ v < N ∧ u ≠ v)
    (hB : ∀ L : List Nat, L.Nodup → (∀ e, e ∈ L → e < N) → bf_s l L < F)
    {r : Nat} {don don' : Nat → Nat → Prop} {d : Nat → Int} {s : Nat → Nat} {b : Nat → Option Nat} {u v : Nat} (h : bf_I arc src l F N r don d s b)
    (hd : ∀ x y, don' x y → don x y ∨ (x = u ∧ y = v)) (ha : arc u v) (hu : d u < F) (hk : d u + l v < d v ∨ (d u + l v = d v ∧ s u + 1 < s v)) :
    bf_I arc src l F N r don' (bf_u d v (d u + l v)) (bf_u s v (s u + 1)) (bf_u b v (some u)) := by
  obtain ⟨h1, h2, h3, h4, h5⟩ := h
  obtain ⟨uN, vN, une⟩ := hN u v ha
  have hdec : ∀ e, cf_lx (bf_u d v (d u + l v) e) (bf_u s v (s u + 1) e) (d e) (s e) := by
    intro e
    by_cases c : e = v
    · subst c
      rw [bf_ux, bf_ux]
      unfold cf_lx
      omega
    · rw [bf_un c, bf_un c]
      exact Or.inr ⟨rfl, Nat.le_refl _⟩
  have hr : r ≤ s u := by
    rcases h5 u v ha hu with q | q
    · unfold cf_lx at q
      omega
    · exact q.1
  obtain ⟨L, hW, hnd, hdu, hsu⟩ := h2 u uN hu
  have hvL : v ∉ u :: L := by
    intro hv
    obtain ⟨a, k, q1, q2, q3⟩ := bf_mem hp L u hW hv
    have q4 := hp u v ha
    unfold cf_lx at q1
    rw [← hdu] at q2
    omega
  have hmem : ∀ e, e ∈ v :: u :: L → e < N := by
    intro e he
    rw [List.mem_cons] at he
    rcases he with he | he
    · rw [he]
      exact vN
    · exact (bf_We _ hW e he).1
  have hnd' : (v :: u :: L).Nodup := List.nodup_cons.mpr ⟨hvL, hnd⟩
  have hway : d u + l v = bf_s l (v :: u :: L) := by
    show d u + l v = l v + bf_s l (u :: L)
    omega
  have hlt : d u + l v < F := by
    rw [hway]
    exact hB _ hnd' hmem
  refine ⟨fun e he => ?_, fun e he hF => ?_, fun e he hF => ?_, fun e he => ?_, fun x y hxy hF => ?_⟩
  · by_cases c : e = v
    · rw [c, bf_ux]
      omega
    · rw [bf_un c]
      exact h1 e he
  · by_cases c : e = v
    · subst c
      refine ⟨u :: L, ⟨?_, vN, hF, fun z => absurd z (by simp), fun x L' z => ?_, bf_Wm hdec _ hW⟩, hnd', by rw [bf_ux]; exact hway, ?_⟩
      · rw [bf_ux, bf_ux, hway]
        refine Or.inr ⟨rfl, ?_⟩
        simp only [List.length_cons]
        omega
      · have : u = x := by
          injection z
        rw [← this]
        exact ha
      · rw [bf_ux]
        simp only [List.length_cons]
        omega
    · rw [bf_un c] at hF ⊢
      rw [bf_un c]
      obtain ⟨L', a1, a2, a3, a4⟩ := h2 e he hF
      exact ⟨L', bf_Wm hdec _ a1, a2, a3, a4⟩
  · by_cases c : e = v
    · subst c
      refine Or.inr ⟨u, bf_ux _ _ _, uN, ?_, ha, ?_⟩
      · rw [bf_un une]
        exact hu
      · rw [bf_un une, bf_un une, bf_ux, bf_ux]
        exact Or.inr ⟨rfl, Nat.le_refl _⟩
    · rw [bf_un c] at hF ⊢
      rw [bf_un c, bf_un c]
      rcases h3 e he hF with q | ⟨x, q1, q2, q3, q4, q5⟩
      · exact Or.inl q
      · have q6 := hdec x
        unfold cf_lx at q5 q6
        refine Or.inr ⟨x, q1, q2, by omega, q4, ?_⟩
        unfold cf_lx
        omega
  · have q1 := h4 e he
    have q2 := hdec e
    unfold cf_lx at q1 q2 ⊢
    omega
  · by_cases c : x = v
    · subst c
      refine Or.inr ?_
      rw [bf_ux]
      exact ⟨by omega, fun _ => by omega⟩
    · rw [bf_un c] at hF ⊢
      rw [bf_un c]
      by_cases c2 : x = u ∧ y = v
      · obtain ⟨rfl, rfl⟩ := c2
        rw [bf_ux, bf_ux]
        exact Or.inl (Or.inr ⟨rfl, Nat.le_refl _⟩)
      · rcases h5 x y hxy hF with q | ⟨q1, q2⟩
        · have q3 := hdec y
          refine Or.inl ?_
          unfold cf_lx at q q3 ⊢
          omega
        · refine Or.inr ⟨q1, fun z => ?_⟩
          rcases hd x y z with z | z
          · exact q2 z
          · exact absurd z c2
theorem bf_next {r : Nat} {don : Nat → Nat → Prop} {d : Nat → Int} {s : Nat → Nat} {b : Nat → Option Nat} (h : bf_I arc src l F N r don d s b)
    (hd : ∀ u v, arc u v → don u v) : bf_I arc src l F N (r + 1) (fun _ _ => False) d s b := by
  obtain ⟨h1, h2, h3, h4, h5⟩ := h
  refine ⟨h1, h2, h3, h4, fun x y ha hF => ?_⟩
  rcases h5 x y ha hF with q | ⟨q1, q2⟩
  · exact Or.inl q
  · exact Or.inr ⟨q2 (hd x y ha), fun z => z.elim⟩
theorem bf_init {d : Nat → Int} {s : Nat → Nat} {b : Nat → Option Nat} (hl : ∀ v, v < N → l v < F) (hsN : ∀ v, src v → v < N) (hs : ∀ v, v < N → s v = 0) (hb : ∀ v, v < N → b v = none)
    (h1 : ∀ v, src v → d v = l v) (h2 : ∀ v, v < N → ¬ src v → d v = F) (hN : ∀ u v, arc u v → u < N ∧ v < N ∧ u ≠ v) : bf_I arc src l F N 0 (fun _ _ => False) d s b := by
  have key : ∀ v, v < N → d v < F → src v := by
    intro v hv hF
    by_cases c : src v
    · exact c
    · have := h2 v hv c
      omega
  refine ⟨fun v hv => ?_, fun v hv hF => ?_, fun v hv hF => ?_, fun v hv => ?_, fun u v ha hF => ?_⟩
  · by_cases c : src v
    · have := h1 v c
      have := hl v hv
      omega
    · have := h2 v hv c
      omega
  · have c := key v hv hF
    have e : d v = bf_s l [v] := by
      show d v = l v + 0
      rw [h1 v c]
      omega
    refine ⟨[], ⟨Or.inr ⟨e, ?_⟩, hv, hF, fun _ => c, fun u L' z => absurd z (by simp), trivial⟩, by simp, e, hs v hv⟩
    rw [hs v hv]
    exact Nat.le_refl _
  · have c := key v hv hF
    exact Or.inl ⟨hb v hv, c, h1 v c, hs v hv⟩
  · rw [h1 v hv, hs v (hsN v hv)]
    exact Or.inr ⟨rfl, Nat.le_refl _⟩
  · exact Or.inr ⟨Nat.zero_le _, fun z => z.elim⟩
/-- after as many rounds as vertices every arc is relaxed, and what an arc reaches is reached -/
theorem bf_fin (hN : ∀ u v, arc u v → u < N ∧ v < N ∧ u ≠ v) (hB : ∀ L : List Nat, L.Nodup → (∀ e, e ∈ L → e < N) → bf_s l L < F)
    {don : Nat → Nat → Prop} {d : Nat → Int} {s : Nat → Nat} {b : Nat → Option Nat} (h : bf_I arc src l F N N don d s b) :
    ∀ u v, arc u v → d u < F → d v < F ∧ cf_lx (d v) (s v) (d u + l v) (s u + 1) := by
  obtain ⟨h1, h2, h3, h4, h5⟩ := h
  intro u v ha hF
  obtain ⟨uN, vN, une⟩ := hN u v ha
  obtain ⟨L, hW, hnd, hdu, hsu⟩ := h2 u uN hF
  have hmem : ∀ e, e ∈ u :: L → e < N := fun e he => (bf_We _ hW e he).1
  have hlen : (u :: L).length ≤ (List.range N).length := hnd.length_le_of_subset (fun e he => List.mem_range.mpr (hmem e he))
  rw [List.length_range, List.length_cons] at hlen
  have hlx : cf_lx (d v) (s v) (d u + l v) (s u + 1) := by
    rcases h5 u v ha hF with q | ⟨q, _⟩
    · exact q
    · omega
  refine ⟨?_, hlx⟩
  by_cases c : d v < F
  · exact c
  · exfalso
    have hv : v ∉ u :: L := fun hv => c (bf_We _ hW v hv).2
    have := hB (v :: u :: L) (List.nodup_cons.mpr ⟨hv, hnd⟩) (fun e he => by
      rw [List.mem_cons] at he
      rcases he with he | he
      · rw [he]
        exact vN
      · exact hmem e he)
    have e : bf_s l (v :: u :: L) = l v + bf_s l (u :: L) := rfl
    unfold cf_lx at hlx
    omega
theorem bf_trace {don : Nat → Nat → Prop} {r : Nat} {d : Nat → Int} {s : Nat → Nat} {b : Nat → Option Nat} (h : bf_I arc src l F N r don d s b)
    (hf : ∀ u v, arc u v → d u < F → d v < F ∧ cf_lx (d v) (s v) (d u + l v) (s u + 1)) :
    ∀ (T : Nat) (v : Nat), v < N → d v < F → s v = T → ∃ pth : Nat → Nat, pth T = v ∧ (∀ i, i ≤ T → pth i < N ∧ d (pth i) < F ∧ s (pth i) = i) ∧
      (∀ i, i < T → b (pth (i + 1)) = some (pth i) ∧ arc (pth i) (pth (i + 1)) ∧ d (pth (i + 1)) = d (pth i) + l (pth (i + 1))) ∧
      b (pth 0) = none ∧ src (pth 0) ∧ d (pth 0) = l (pth 0) := by
  intro T
  induction T with
  | zero =>
    intro v hv hF hs
    rcases h.2.2.1 v hv hF with ⟨q1, q2, q3, q4⟩ | ⟨u, q1, q2, q3, q4, q5⟩
    · refine ⟨fun _ => v, rfl, fun i hi => ⟨hv, hF, ?_⟩, fun i hi => absurd hi (by omega), q1, q2, q3⟩
      show s v = i
      omega
    · have q6 := (hf u v q4 q3).2
      unfold cf_lx at q5 q6
      omega
  | succ T ih =>
    intro v hv hF hs
    rcases h.2.2.1 v hv hF with ⟨q1, q2, q3, q4⟩ | ⟨u, q1, q2, q3, q4, q5⟩
    · omega
    · have q6 := (hf u v q4 q3).2
      unfold cf_lx at q5 q6
      obtain ⟨pth, p1, p2, p3, p4, p5, p6⟩ := ih u q2 q3 (by omega)
      refine ⟨bf_u pth (T + 1) v, bf_ux _ _ _, fun i hi => ?_, fun i hi => ?_, ?_⟩
      · by_cases c : i = T + 1
        · rw [c, bf_ux]
          exact ⟨hv, hF, hs⟩
        · rw [bf_un c]
          exact p2 i (by omega)
      · rw [bf_un (show i ≠ T + 1 by omega)]
        by_cases c : i = T
        · subst c
          rw [bf_ux, p1]
          exact ⟨q1, q4, by omega⟩
        · rw [bf_un (show i + 1 ≠ T + 1 by omega)]
          exact p3 i (by omega)
      · rw [bf_un (show (0 : Nat) ≠ T + 1 by omega)]
        exact ⟨p4, p5, p6⟩
end
/-- sums over lists without repetition -/
theorem bf_sum {l : Nat → Int} {N f : Nat} {K E : Int} (hK : 0 ≤ K) (hE : 0 ≤ E) (hl : ∀ e, e < N → - (K + (if e = f then E else 0)) ≤ l e ∧ l e ≤ K + (if e = f then E else 0)) :
    ∀ L : List Nat, L.Nodup → (∀ e, e ∈ L → e < N) → - (K * L.length + (if f ∈ L then E else 0)) ≤ bf_s l L ∧ bf_s l L ≤ K * L.length + (if f ∈ L then E else 0) := by
  intro L
  induction L with
  | nil =>
    intro _ _
    show - (K * ((0 : Nat) : Int) + (if f ∈ [] then E else 0)) ≤ 0 ∧ 0 ≤ K * ((0 : Nat) : Int) + (if f ∈ [] then E else 0)
    simp
  | cons a L ih =>
    intro hnd hm
    obtain ⟨h1, h2⟩ := List.nodup_cons.mp hnd
    obtain ⟨i1, i2⟩ := ih h2 (fun e he => hm e (List.mem_cons_of_mem _ he))
    have ha := hl a (hm a (List.mem_cons_self ..))
    have e1 : K * ((a :: L).length : Int) = K * (L.length : Int) + K := by
      rw [List.length_cons]
      rw [show ((L.length + 1 : Nat) : Int) = (L.length : Int) + 1 from rfl, Int.mul_add, Int.mul_one]
    rw [e1]
    have e2 : bf_s l (a :: L) = l a + bf_s l L := rfl
    rw [e2]
    by_cases c : a = f
    · subst c
      rw [if_pos rfl] at ha
      rw [if_neg h1] at i1 i2
      rw [if_pos (List.mem_cons_self ..)]
      omega
    · rw [if_neg c] at ha
      by_cases c2 : f ∈ L
      · rw [if_pos c2] at i1 i2
        rw [if_pos (List.mem_cons_of_mem _ c2)]
        omega
      · rw [if_neg c2] at i1 i2
        have : ¬ f ∈ a :: L := by
          rw [List.mem_cons]
          rintro (z | z)
          · exact c z.symm
          · exact c2 z
        rw [if_neg this]
        omega
end
section
/-! the graph of exchanges: from the relaxed lengths to a path, or to the greatest size -/
def af_arc (P1 P2 : (Nat → Bool) → Prop) (I : Nat → Bool) (u v : Nat) : Prop :=
  (I u = true ∧ I v = false ∧ P1 (cf_x I u v)) ∨ (I u = false ∧ I v = true ∧ P2 (cf_x I v u))
def af_src (P1 : (Nat → Bool) → Prop) (I : Nat → Bool) (x : Nat) : Prop := I x = false ∧ P1 (cf_s I x true)
def af_l (w : Nat → Int) (I : Nat → Bool) (e : Nat) : Int := if I e = true then w e else - w e
section
variable {N : Nat} {P1 P2 : (Nat → Bool) → Prop} {w : Nat → Int} {I : Nat → Bool} {d : Nat → Int} {s : Nat → Nat} {b : Nat → Option Nat} {F : Int}
theorem af_li {e : Nat} (h : I e = true) : af_l w I e = w e := cf_ps h _ _
theorem af_lo {e : Nat} (h : I e = false) : af_l w I e = - w e := cf_ns h _ _
theorem af_N (m1 : cf_M N P1) (m2 : cf_M N P2) (hI : P1 I) : ∀ u v, af_arc P1 P2 I u v → u < N ∧ v < N ∧ u ≠ v := by
  rintro u v (⟨a, b, c⟩ | ⟨a, b, c⟩)
  · exact ⟨m1.2.2 I hI u a, m1.2.2 _ c v (cf_xx _ _ _), cf_ne a b⟩
  · exact ⟨m2.2.2 _ c u (cf_xx _ _ _), m1.2.2 I hI v b, fun z => cf_ne b a z.symm⟩
theorem af_p (m1 : cf_M N P1) (m2 : cf_M N P2) (hC : cf_C N P1 P2 w I) : ∃ p : Nat → Int, ∀ u v, af_arc P1 P2 I u v → p v ≤ p u + af_l w I v := by
  obtain ⟨w1, w2, hw, g1, g2⟩ := hC
  have l1 := cf_gl m1 g1
  have l2 := cf_gl m2 g2
  refine ⟨fun e => if I e = true then w1 e else - w2 e, ?_⟩
  rintro u v (⟨a, b, c⟩ | ⟨a, b, c⟩)
  · show (if I v = true then w1 v else - w2 v) ≤ (if I u = true then w1 u else - w2 u) + af_l w I v
    rw [cf_ps a, cf_ns b, af_lo b]
    have := l1 v u a b c
    have := hw v
    omega
  · show (if I v = true then w1 v else - w2 v) ≤ (if I u = true then w1 u else - w2 u) + af_l w I v
    rw [cf_ns a, cf_ps b, af_li b]
    have := l2 u v b a c
    have := hw v
    omega
theorem af_end {don : Nat → Nat → Prop} {x : Nat} (m1 : cf_M N P1) (m2 : cf_M N P2) (hI : P1 I)
    (hB : ∀ L : List Nat, L.Nodup → (∀ e, e ∈ L → e < N) → bf_s (af_l w I) L < F)
    (h : bf_I (af_arc P1 P2 I) (af_src P1 I) (af_l w I) F N N don d s b) (hx : I x = false) (hxN : x < N) (hF : d x < F) (hP : P2 (cf_s I x true))
    (hmin : ∀ z, z < N → I z = false → d z < F → P2 (cf_s I z true) → cf_lx (d x) (s x) (d z) (s z)) :
    ∃ (pth : Nat → Nat) (t : Nat), s x = 2 * t ∧ pth (2 * t) = x ∧ 2 * t < N ∧ cf_path P1 P2 w I d s (fun v => v < N ∧ d v < F) pth t ∧ (∀ i, i ≤ 2 * t → pth i < N) ∧
      (∀ i, i < 2 * t → b (pth (i + 1)) = some (pth i)) ∧ b (pth 0) = none := by
  have hN := af_N m1 m2 hI
  have hf := bf_fin hN hB h
  obtain ⟨pth, p1, p2, p3, p4, p5, p6⟩ := bf_trace h hf (s x) x hxN hF rfl
  have hpar : ∀ i, i ≤ s x → (i % 2 = 0 → I (pth i) = false) ∧ (i % 2 = 1 → I (pth i) = true) := by
    intro i
    induction i with
    | zero => exact fun _ => ⟨fun _ => p5.1, fun z => absurd z (by omega)⟩
    | succ k ih =>
      intro hk
      have i1 := ih (by omega)
      rcases (p3 k (by omega)).2.1 with ⟨a, b, _⟩ | ⟨a, b, _⟩
      · refine ⟨fun _ => b, fun z => ?_⟩
        have := i1.1 (by omega)
        rw [a] at this
        exact absurd this (by decide)
      · refine ⟨fun z => ?_, fun _ => b⟩
        have := i1.2 (by omega)
        rw [a] at this
        exact absurd this (by decide)
  have hT : s x = 2 * (s x / 2) := by
    have q := (hpar (s x) (Nat.le_refl _)).2
    by_cases c : s x % 2 = 1
    · have := q c
      rw [p1, hx] at this
      exact absurd this (by decide)
    · omega
  obtain ⟨L, hW, hnd, _, hsL⟩ := h.2.1 x hxN hF
  have hlen : (x :: L).length ≤ (List.range N).length := hnd.length_le_of_subset (fun e he => List.mem_range.mpr (bf_We _ hW e he).1)
  rw [List.length_range, List.length_cons] at hlen
  generalize ht : s x / 2 = t at hT
  rw [hT] at p1 p2 p3 hpar
  refine ⟨pth, t, hT, p1, by omega, ⟨?_, ?_, ?_, ⟨?_, ?_⟩, ?_, ?_, ?_, ?_⟩, fun i hi => (p2 i hi).1, fun i hi => (p3 i hi).1, p4⟩
  · intro z hz hp
    have hzN := m1.2.2 _ hp z (cf_sx _ _ _)
    have q := h.2.2.2.1 z ⟨hz, hp⟩
    rw [af_lo hz] at q
    have q2 := hB [z] (by simp) (fun e he => by
      have : e = z := by simpa using he
      rw [this]
      exact hzN)
    have e : bf_s (af_l w I) [z] = - w z + 0 := by
      rw [← af_lo (w := w) hz]
      rfl
    refine ⟨⟨hzN, ?_⟩, q⟩
    unfold cf_lx at q
    omega
  · intro z y hy hz hp hR
    have q := hf y z (Or.inl ⟨hy, hz, hp⟩) hR.2
    rw [af_lo hz] at q
    refine ⟨⟨m1.2.2 _ hp z (cf_xx _ _ _), q.1⟩, ?_⟩
    have := q.2
    unfold cf_lx at this ⊢
    omega
  · intro z y hy hz hp hR
    have q := hf z y (Or.inr ⟨hz, hy, hp⟩) hR.2
    rw [af_li hy] at q
    exact ⟨⟨m1.2.2 I hI y hy, q.1⟩, q.2⟩
  · rw [p1]
    exact hP
  · intro z hz hp hR
    rw [p1]
    exact hmin z hR.1 hz hR.2 hp
  · intro i hi
    have := p2 i hi
    exact ⟨⟨this.1, this.2.1⟩, this.2.2⟩
  · intro j hj
    exact (hpar (2 * j) (by omega)).1 (by omega)
  · intro j hj
    have o := (hpar (2 * j + 1) (by omega)).2 (by omega)
    have e0 := (hpar (2 * j) (by omega)).1 (by omega)
    have e2 := (hpar (2 * j + 2) (by omega)).1 (by omega)
    have a0 := p3 (2 * j) (by omega)
    have a1 := p3 (2 * j + 1) (by omega)
    have b0 := a0.2.2
    have b1 := a1.2.2
    rw [af_li o] at b0
    have b1 : d (pth (2 * j + 2)) = d (pth (2 * j + 1)) + af_l w I (pth (2 * j + 2)) := b1
    rw [af_lo e2] at b1
    refine ⟨o, ?_, ?_, b0, by omega⟩
    · rcases a1.2.1 with ⟨_, _, c⟩ | ⟨c, _, _⟩
      · exact c
      · rw [o] at c
        exact absurd c (by decide)
    · rcases a0.2.1 with ⟨c, _, _⟩ | ⟨_, _, c⟩
      · rw [e0] at c
        exact absurd c (by decide)
      · exact c
  · exact ⟨p5.2, by rw [p6, af_lo p5.1]⟩
theorem af_max {don : Nat → Nat → Prop} (m1 : cf_M N P1) (m2 : cf_M N P2) (hI : P1 I) (hI2 : P2 I)
    (hB : ∀ L : List Nat, L.Nodup → (∀ e, e ∈ L → e < N) → bf_s (af_l w I) L < F)
    (h : bf_I (af_arc P1 P2 I) (af_src P1 I) (af_l w I) F N N don d s b)
    (hno : ∀ z, z < N → I z = false → d z < F → ¬ P2 (cf_s I z true)) : ∀ J : Nat → Bool, P1 J → P2 J → cf_n J N ≤ cf_n I N := by
  have hN := af_N m1 m2 hI
  have hf := bf_fin hN hB h
  refine cf_max m1 m2 hI hI2 (fun v => decide (v < N ∧ d v < F)) (fun z hz hp => ?_) (fun z y hy hz hp hR => ?_) (fun z y hy hz hp hR => ?_) (fun z hz hp => ?_)
  · have hzN := m1.2.2 _ hp z (cf_sx _ _ _)
    have q := h.2.2.2.1 z ⟨hz, hp⟩
    have q2 := hB [z] (by simp) (fun e he => by
      have : e = z := by simpa using he
      rw [this]
      exact hzN)
    have e : bf_s (af_l w I) [z] = af_l w I z + 0 := rfl
    refine decide_eq_true ⟨hzN, ?_⟩
    unfold cf_lx at q
    omega
  · have hR := of_decide_eq_true hR
    have q := hf y z (Or.inl ⟨hy, hz, hp⟩) hR.2
    exact decide_eq_true ⟨m1.2.2 _ hp z (cf_xx _ _ _), q.1⟩
  · have hR := of_decide_eq_true hR
    have q := hf z y (Or.inr ⟨hz, hy, hp⟩) hR.2
    exact decide_eq_true ⟨m1.2.2 I hI y hy, q.1⟩
  · refine decide_eq_false (fun hR => ?_)
    exact hno z hR.1 hz hR.2 hp
end
/-- the masks along the path, from its end -/
def af_m (m : Nat) (pth : Nat → Nat) (T : Nat) : Nat → Nat
  | 0 => m
  | k + 1 => af_m m pth T k ^^^ 2 ^ pth (T - k)
theorem af_mt {m T : Nat} {pth : Nat → Nat} (hinj : ∀ i j, i ≤ T → j ≤ T → pth i = pth j → i = j) : ∀ k, k ≤ T + 1 →
    (∀ i, i ≤ T → T < i + k → (af_m m pth T k).testBit (pth i) = !(m.testBit (pth i))) ∧
    (∀ e, (∀ i, i ≤ T → T < i + k → pth i ≠ e) → (af_m m pth T k).testBit e = m.testBit e) := by
  intro k
  induction k with
  | zero => exact fun _ => ⟨fun i h1 h2 => absurd h2 (by omega), fun e _ => rfl⟩
  | succ k ih =>
    intro hk
    obtain ⟨i1, i2⟩ := ih (by omega)
    refine ⟨fun i h1 h2 => ?_, fun e he => ?_⟩
    · show (af_m m pth T k ^^^ 2 ^ pth (T - k)).testBit (pth i) = _
      rw [Nat.testBit_xor, Nat.testBit_two_pow]
      by_cases c : i = T - k
      · subst c
        rw [i2 _ (fun j hj hjk z => by
          have := hinj j (T - k) hj (by omega) z
          omega)]
        simp
      · have : ¬ pth (T - k) = pth i := fun z => c (hinj (T - k) i (by omega) h1 z).symm
        rw [i1 i h1 (by omega), decide_eq_false this]
        simp
    · show (af_m m pth T k ^^^ 2 ^ pth (T - k)).testBit e = _
      rw [Nat.testBit_xor, Nat.testBit_two_pow, decide_eq_false (he (T - k) (by omega) (by omega)), i2 e (fun i h1 h2 => he i h1 (by omega))]
      simp
theorem af_res {m t N : Nat} {pth : Nat → Nat} (hinj : ∀ i j, i ≤ 2 * t → j ≤ 2 * t → pth i = pth j → i = j) (hN : ∀ i, i ≤ 2 * t → pth i < N) (hm : m < 2 ^ N)
    (he : ∀ j, j ≤ t → m.testBit (pth (2 * j)) = false) (ho : ∀ j, j < t → m.testBit (pth (2 * j + 1)) = true) :
    cf_res m.testBit pth t (af_m m pth (2 * t) (2 * t + 1)).testBit ∧ af_m m pth (2 * t) (2 * t + 1) < 2 ^ N := by
  obtain ⟨a, b⟩ := af_mt (m := m) hinj (2 * t + 1) (Nat.le_refl _)
  constructor
  · intro e
    by_cases c : ∃ i, i ≤ 2 * t ∧ pth i = e
    · obtain ⟨i, hi, rfl⟩ := c
      rw [a i hi (by omega)]
      by_cases c2 : i % 2 = 0
      · have e2 : i = 2 * (i / 2) := by omega
        have := he (i / 2) (by omega)
        rw [← e2] at this
        rw [this]
        exact ⟨fun _ => Or.inl ⟨i / 2, by omega, by rw [← e2]⟩, fun _ => rfl⟩
      · have e2 : i = 2 * (i / 2) + 1 := by omega
        have := ho (i / 2) (by omega)
        rw [← e2] at this
        rw [this]
        constructor
        · intro z
          exact absurd z (by decide)
        · rintro (⟨j, hj, ej⟩ | ⟨_, z⟩)
          · have := hinj _ _ (by omega) hi ej
            omega
          · exact absurd (by rw [← e2]) (z (i / 2) (by omega))
    · rw [b e (fun i hi _ z => c ⟨i, hi, z⟩)]
      constructor
      · exact fun z => Or.inr ⟨z, fun j hj q => c ⟨2 * j + 1, by omega, q⟩⟩
      · rintro (⟨j, hj, ej⟩ | ⟨z, _⟩)
        · exact absurd ⟨2 * j, by omega, ej⟩ c
        · exact z
  · apply Nat.lt_pow_two_of_testBit
    intro i hi
    rw [b i (fun j hj _ z => by
      have := hN j hj
      omega)]
    exact Nat.testBit_lt_two_pow (Nat.lt_of_lt_of_le hm (Nat.pow_le_pow_right (by omega) hi))
/-- costs: 4096 times the weight, and the mask itself -/
theorem mk_sum (W : Nat → Int) (m : Nat) : ∀ N, cf_w (fun e => 4096 * W e + ((2 ^ e : Nat) : Int)) m.testBit N = 4096 * cf_w W m.testBit N + ((m % 2 ^ N : Nat) : Int) := by
  intro N
  induction N with
  | zero =>
    show (0 : Int) = 4096 * 0 + ((m % 1 : Nat) : Int)
    omega
  | succ k ih =>
    show cf_w _ m.testBit k + (if m.testBit k = true then 4096 * W k + ((2 ^ k : Nat) : Int) else 0) = 4096 * (cf_w W m.testBit k + (if m.testBit k = true then W k else 0)) + ((m % 2 ^ (k + 1) : Nat) : Int)
    rw [ih, Nat.mod_pow_succ]
    have hb : m.testBit k = decide (m / 2 ^ k % 2 = 1) := Nat.testBit_eq_decide_div_mod_eq
    have h2 : m / 2 ^ k % 2 < 2 := Nat.mod_lt _ (by omega)
    generalize m / 2 ^ k % 2 = z at hb h2
    have : z = 0 ∨ z = 1 := by omega
    rcases this with rfl | rfl
    · rw [hb]
      simp
    · rw [hb]
      simp
      omega
theorem mk_uniq {N m m' : Nat} {W : Nat → Int} (hN : N ≤ 12) (hm : m < 2 ^ N) (hm' : m' < 2 ^ N)
    (h : cf_w (fun e => 4096 * W e + ((2 ^ e : Nat) : Int)) m.testBit N = cf_w (fun e => 4096 * W e + ((2 ^ e : Nat) : Int)) m'.testBit N) : m = m' := by
  rw [mk_sum, mk_sum, Nat.mod_eq_of_lt hm, Nat.mod_eq_of_lt hm'] at h
  have : 2 ^ N ≤ 2 ^ 12 := Nat.pow_le_pow_right (by omega) hN
  omega
end
section
/-! rows of kit/rows (starting text) -/
theorem pk_us {f : Nat → Int32} {k : Nat} {x : Int32} : upd f k x k = x := if_pos rfl
theorem pk_un {f : Nat → Int32} {k j : Nat} {x : Int32} (h : j ≠ k) : upd f k x j = f j := if_neg h
theorem pk_sub {a b : Nat} (h : b ≤ a) : nI a - nI b = nI (a - b) := by
  obtain ⟨c, rfl⟩ : ∃ c, a = c + b := ⟨a - b, by omega⟩
  rw [← nI_add, Int32.add_sub_cancel, Nat.add_sub_cancel]
theorem pk_m1 (n : Nat) : nI (n + 1) + (-1) = nI n := by
  rw [← nI_1, Int32.add_assoc, show (1 : Int32) + (-1) = 0 from rfl, Int32.add_zero]
theorem pk_mul (a b : Nat) : nI a * nI b = nI (a * b) := (Int32.ofNat_mul a b).symm
theorem pk_div {a d : Nat} (ha : a < 2 ^ 31) (h0 : 0 < d) (hd : d < 2 ^ 31) : nI a / nI d = nI (a / d) := by
  apply Int32.toInt_inj.mp
  rw [lg_idiv_nonneg (by rw [nI_toInt ha]; omega) (by rw [nI_toInt hd]; omega), nI_toInt ha, nI_toInt hd, nI_toInt (Nat.lt_of_le_of_lt (Nat.div_le_self a d) ha)]
  first | rfl | exact (Int.natCast_ediv _ _).symm
theorem pk_rem {a d : Nat} (ha : a < 2 ^ 31) (h0 : 0 < d) (hd : d < 2 ^ 31) : nI a - nI a / nI d * nI d = nI (a % d) := by
  rw [pk_div ha h0 hd, pk_mul, pk_sub (Nat.div_mul_le_self a d)]
  exact congrArg nI (by have := Nat.div_add_mod' a d; omega)
theorem pk_ix (x : Int32) {n : Nat} (hn : n < 2 ^ 31) : x < 0 ∨ nI n ≤ x ∨ ∃ j : Nat, j < n ∧ x = nI j := by
  by_cases h : x < 0
  · exact Or.inl h
  · obtain ⟨j, hj, rfl⟩ := nI_of h
    by_cases h2 : j < n
    · exact Or.inr (Or.inr ⟨j, h2, rfl⟩)
    · exact Or.inr (Or.inl (nI_le (by omega) hj))
theorem pk_le {x y : Int32} {A B : Prop} (a b : Nat) (f : a ≤ b → A) (g : b < a → B) (hx : x = nI a := by rfl) (hy : y = nI b := by rfl) (ha : a < 2 ^ 31 := by omega) (hb : b < 2 ^ 31 := by omega) : (x ≤ y → A) ∧ (¬ x ≤ y → B) := by
  subst hx hy
  rw [nI_leI ha hb]
  exact ⟨f, fun z => g (by omega)⟩
theorem pk_lt {x y : Int32} {A B : Prop} (a b : Nat) (f : a < b → A) (g : b ≤ a → B) (hx : x = nI a := by rfl) (hy : y = nI b := by rfl) (ha : a < 2 ^ 31 := by omega) (hb : b < 2 ^ 31 := by omega) : (x < y → A) ∧ (¬ x < y → B) := by
  subst hx hy
  rw [nI_ltI ha hb]
  exact ⟨f, fun z => g (by omega)⟩
theorem pk_eq {x y : Int32} {A B : Prop} (a b : Nat) (f : a = b → A) (g : a ≠ b → B) (hx : x = nI a := by rfl) (hy : y = nI b := by rfl) (ha : a < 2 ^ 31 := by omega) (hb : b < 2 ^ 31 := by omega) : (x = y → A) ∧ (¬ x = y → B) := by
  subst hx hy
  rw [nI_eq ha hb]
  exact ⟨f, g⟩
theorem pk_in {x : Int32} (n N : Nat) (h : n < N) (hx : x = nI n := by rfl) (hN : N < 2 ^ 31 := by omega) : vp_in x N := by
  subst hx
  exact vp_in_nI h hN
theorem pk_cl {x : Int32} (n : Nat) (hx : x = nI n := by rfl) (h : n < 2 ^ 31 := by omega) : x.toNatClampNeg = n := by
  subst hx
  exact nI_clamp h
theorem pk_tn {n : Nat} (h : n < 2 ^ 32) : (nI n).toBitVec.toNat = n := Nat.mod_eq_of_lt h
theorem pk_and (x : Int32) {m : Int32} (k : Nat) (hm : m.toBitVec.toNat = 2 ^ k - 1) : x &&& m = nI (x.toBitVec.toNat % 2 ^ k) := by
  apply Int32.toBitVec_inj.mp
  apply BitVec.eq_of_toNat_eq
  rw [Int32.toBitVec_and, BitVec.toNat_and, hm, Nat.and_two_pow_sub_one_eq_mod]
  show _ = (BitVec.ofNat 32 _).toNat
  rw [BitVec.toNat_ofNat]
  exact (Nat.mod_eq_of_lt (Nat.lt_of_le_of_lt (Nat.mod_le _ _) x.toBitVec.isLt)).symm
theorem pk_andN {n : Nat} (h : n < 2 ^ 32) {m : Int32} (k : Nat) (hm : m.toBitVec.toNat = 2 ^ k - 1) : nI n &&& m = nI (n % 2 ^ k) := by
  rw [pk_and _ k hm, pk_tn h]
theorem pk_andE (x : Int32) {m : Int32} (k : Nat) (hm : m.toBitVec.toNat = 2 ^ k - 1) : ∃ j : Nat, j < 2 ^ k ∧ x &&& m = nI j := ⟨_, Nat.mod_lt _ (Nat.two_pow_pos k), pk_and x k hm⟩
theorem pk_shl (a s : Int32) (k : Nat) (hs : (s.toBitVec.smod 32).toNat = k) : (a <<< s).toBitVec.toNat = a.toBitVec.toNat * 2 ^ k % 2 ^ 32 := by
  show (a.toBitVec <<< (s.toBitVec.smod 32).toNat).toNat = _
  rw [hs, BitVec.toNat_shiftLeft, Nat.shiftLeft_eq]
theorem pk_shlN {n : Nat} (s : Int32) (k : Nat) (hs : (s.toBitVec.smod 32).toNat = k) (h : n * 2 ^ k < 2 ^ 32) : nI n <<< s = nI (n * 2 ^ k) := by
  apply Int32.toBitVec_inj.mp
  apply BitVec.eq_of_toNat_eq
  have hn : n < 2 ^ 32 := Nat.lt_of_le_of_lt (Nat.le_mul_of_pos_right n (Nat.two_pow_pos k)) h
  rw [pk_shl _ _ k hs, pk_tn hn, pk_tn h, Nat.mod_eq_of_lt h]
theorem pk_shr (a s : Int32) (k : Nat) (hs : (s.toBitVec.smod 32).toNat = k) : (a >>> s).toInt = a.toInt >>> k := by
  show (a.toBitVec.sshiftRight (s.toBitVec.smod 32).toNat).toInt = _
  rw [hs, BitVec.toInt_sshiftRight]
  rfl
theorem pk_shrN {n : Nat} (h : n < 2 ^ 31) (s : Int32) (k : Nat) (hs : (s.toBitVec.smod 32).toNat = k) : nI n >>> s = nI (n / 2 ^ k) := by
  apply Int32.toInt_inj.mp
  have h2 : n / 2 ^ k ≤ n := Nat.div_le_self _ _
  rw [pk_shr _ _ k hs, nI_toInt h, nI_toInt (by omega), Int.shiftRight_eq_div_pow]
  rfl
theorem s_l : ∀ n, n < 32 → ((nI n &&& 31).toBitVec.smod 32).toNat = n := by decide +kernel
theorem nx_and (a b : Nat) : nI a &&& nI b = nI (a &&& b) := by
  apply Int32.toBitVec_inj.1
  show BitVec.ofNat 32 a &&& BitVec.ofNat 32 b = BitVec.ofNat 32 (a &&& b)
  apply BitVec.eq_of_getLsbD_eq
  intro i hi
  simp [hi]
theorem nx_xor (a b : Nat) : nI a ^^^ nI b = nI (a ^^^ b) := by
  apply Int32.toBitVec_inj.1
  show BitVec.ofNat 32 a ^^^ BitVec.ofNat 32 b = BitVec.ofNat 32 (a ^^^ b)
  apply BitVec.eq_of_getLsbD_eq
  intro i hi
  simp [hi]
end
section
/-! Int32 by integers, and bits of masks -/
def zi_z (z : Int) : Int32 := Int32.ofInt z
theorem zi_add (a b : Int) : zi_z a + zi_z b = zi_z (a + b) := (Int32.ofInt_add a b).symm
theorem zi_neg (a : Int) : - zi_z a = zi_z (- a) := (Int32.ofInt_neg a).symm
theorem zi_mul (a b : Int) : zi_z a * zi_z b = zi_z (a * b) := (Int32.ofInt_mul a b).symm
theorem zi_n (n : Nat) : nI n = zi_z n := Int32.ofInt_eq_ofNat.symm
theorem zi_t (x : Int32) : zi_z x.toInt = x := Int32.ofInt_toInt x
theorem zi_i {z : Int} (h1 : -2147483648 ≤ z) (h2 : z < 2147483648) : (zi_z z).toInt = z := Int32.toInt_ofInt_of_le h1 h2
theorem zi_lt {a b : Int} (a1 : -2147483648 ≤ a) (a2 : a < 2147483648) (b1 : -2147483648 ≤ b) (b2 : b < 2147483648) : zi_z a < zi_z b ↔ a < b := by
  rw [Int32.lt_iff_toInt_lt, zi_i a1 a2, zi_i b1 b2]
theorem zi_le {a b : Int} (a1 : -2147483648 ≤ a) (a2 : a < 2147483648) (b1 : -2147483648 ≤ b) (b2 : b < 2147483648) : zi_z a ≤ zi_z b ↔ a ≤ b := by
  rw [Int32.le_iff_toInt_le, zi_i a1 a2, zi_i b1 b2]
theorem zi_eq {a b : Int} (a1 : -2147483648 ≤ a) (a2 : a < 2147483648) (b1 : -2147483648 ≤ b) (b2 : b < 2147483648) : zi_z a = zi_z b ↔ a = b := by
  rw [← Int32.toInt_inj, zi_i a1 a2, zi_i b1 b2]
theorem xb_s {m e : Nat} (hm : m < 4096) (he : e < 31) : (nI m >>> (nI e &&& 31)) &&& 1 = nI (m / 2 ^ e % 2) := by
  have h : m / 2 ^ e ≤ m := Nat.div_le_self _ _
  rw [pk_shrN (by omega) _ e (s_l e (by omega)), pk_andN (by omega) 1 (by decide)]
theorem xb_t {m e : Nat} (hm : m < 4096) (he : e < 31) (h : m.testBit e = true) : ((nI m >>> (nI e &&& 31)) &&& 1) = 1 := by
  rw [xb_s hm he]
  rw [Nat.testBit_eq_decide_div_mod_eq, decide_eq_true_iff] at h
  rw [h]
  rfl
theorem xb_f {m e : Nat} (hm : m < 4096) (he : e < 31) (h : m.testBit e = false) : ((nI m >>> (nI e &&& 31)) &&& 1) = 0 := by
  rw [xb_s hm he]
  rw [Nat.testBit_eq_decide_div_mod_eq, decide_eq_false_iff_not] at h
  have h2 : m / 2 ^ e % 2 < 2 := Nat.mod_lt _ (by omega)
  have : m / 2 ^ e % 2 = 0 := by omega
  rw [this]
  rfl
theorem xb_01 : ¬ (0 : Int32) = 1 := by decide
theorem xb_10 : ¬ (1 : Int32) = 0 := by decide
/-- a branch on a bit -/
theorem xb_br {m e : Nat} {A B : Prop} (hm : m < 4096) (he : e < 31) (f : m.testBit e = true → A) (g : m.testBit e = false → B) :
    (((nI m >>> (nI e &&& 31)) &&& 1) = 1 → A) ∧ (¬ ((nI m >>> (nI e &&& 31)) &&& 1) = 1 → B) := by
  cases h : m.testBit e
  · rw [xb_f hm he h]
    exact br_f xb_01 (g h)
  · rw [xb_t hm he h]
    exact br_t rfl (f h)
theorem xb_br0 {m e : Nat} {A B : Prop} (hm : m < 4096) (he : e < 31) (f : m.testBit e = false → A) (g : m.testBit e = true → B) :
    (((nI m >>> (nI e &&& 31)) &&& 1) = 0 → A) ∧ (¬ ((nI m >>> (nI e &&& 31)) &&& 1) = 0 → B) := by
  cases h : m.testBit e
  · rw [xb_f hm he h]
    exact br_t rfl (f h)
  · rw [xb_t hm he h]
    exact br_f xb_10 (g h)
theorem xb_p {e : Nat} (he : e < 31) : (1 : Int32) <<< (nI e &&& 31) = nI (2 ^ e) := by
  have h : 2 ^ e < 2 ^ 31 := Nat.pow_lt_pow_right (by omega) he
  have := pk_shlN (n := 1) (nI e &&& 31) e (s_l e (by omega)) (by omega)
  rw [Nat.one_mul] at this
  exact this
theorem xb_or (a b : Nat) : nI a ||| nI b = nI (a ||| b) := by
  apply Int32.toBitVec_inj.1
  show BitVec.ofNat 32 a ||| BitVec.ofNat 32 b = BitVec.ofNat 32 (a ||| b)
  apply BitVec.eq_of_getLsbD_eq
  intro i hi
  simp [hi]
theorem xb_pl {e N : Nat} (he : e < N) : 2 ^ e < 2 ^ N := Nat.pow_lt_pow_right (by omega) he
theorem xb_12 {m N : Nat} (h : m < 2 ^ N) (hN : N ≤ 12) : m < 4096 := Nat.lt_of_lt_of_le h (Nat.pow_le_pow_right (n := 2) (by omega) hN)
theorem xb_ins (m x : Nat) : (m ||| 2 ^ x).testBit = cf_s m.testBit x true := by
  funext e
  rw [Nat.testBit_or, Nat.testBit_two_pow]
  by_cases h : e = x
  · rw [h, cf_sx]
    simp
  · rw [cf_sn h, decide_eq_false (fun z => h z.symm)]
    simp
theorem xb_ex {m y x : Nat} (hy : m.testBit y = true) (hx : m.testBit x = false) : ((m ^^^ 2 ^ y) ^^^ 2 ^ x).testBit = cf_x m.testBit y x := by
  funext e
  rw [Nat.testBit_xor, Nat.testBit_xor, Nat.testBit_two_pow, Nat.testBit_two_pow]
  have hne : y ≠ x := cf_ne hy hx
  by_cases h : e = x
  · rw [h, cf_xx, hx, decide_eq_false hne]
    simp
  · by_cases h2 : e = y
    · rw [h2, cf_xy hne, hy, decide_eq_false (show ¬ x = y from fun z => hne z.symm)]
      simp
    · rw [cf_xo h h2, decide_eq_false (show ¬ x = e from fun z => h z.symm), decide_eq_false (show ¬ y = e from fun z => h2 z.symm)]
      simp
theorem xb_exc (m y x : Nat) : (m ^^^ 2 ^ x) ^^^ 2 ^ y = (m ^^^ 2 ^ y) ^^^ 2 ^ x := by
  rw [Nat.xor_assoc, Nat.xor_assoc, Nat.xor_comm (2 ^ x)]
theorem xb_exl {m y x N : Nat} (hm : m < 2 ^ N) (hy : y < N) (hx : x < N) : ((m ^^^ 2 ^ y) ^^^ 2 ^ x) < 2 ^ N :=
  Nat.xor_lt_two_pow (Nat.xor_lt_two_pow hm (xb_pl hy)) (xb_pl hx)
theorem xb_orl {m x N : Nat} (hm : m < 2 ^ N) (hx : x < N) : (m ||| 2 ^ x) < 2 ^ N := Nat.or_lt_two_pow hm (xb_pl hx)
theorem xb_sup {m N : Nat} (hm : m < 2 ^ N) : ∀ e, m.testBit e = true → e < N := by
  intro e he
  by_cases c : e < N
  · exact c
  · rw [Nat.testBit_lt_two_pow (Nat.lt_of_lt_of_le hm (Nat.pow_le_pow_right (by omega) (by omega)))] at he
    exact absurd he (by decide)
theorem xb_0 : (0 : Nat).testBit = fun _ => false := by
  funext e
  exact Nat.zero_testBit e
theorem xb_1c {N : Nat} (hN : N ≤ 12) : (1 : Int32) <<< (nI N &&& 31) = nI (2 ^ N) := xb_p (by omega)
/-- every set below N has a mask -/
theorem xb_mk (f : Nat → Bool) : ∀ N, ∃ m, m < 2 ^ N ∧ ∀ e, e < N → m.testBit e = f e := by
  intro N
  induction N with
  | zero => exact ⟨0, by decide, fun e he => absurd he (by omega)⟩
  | succ k ih =>
    obtain ⟨m, hm, h⟩ := ih
    have h2 : m < 2 ^ (k + 1) := Nat.lt_of_lt_of_le hm (Nat.pow_le_pow_right (by omega) (by omega))
    have hk : m.testBit k = false := Nat.testBit_lt_two_pow hm
    cases q : f k
    · refine ⟨m, h2, fun e he => ?_⟩
      by_cases c : e = k
      · rw [c, hk, q]
      · exact h e (by omega)
    · refine ⟨m ||| 2 ^ k, xb_orl h2 (by omega), fun e he => ?_⟩
      rw [xb_ins]
      by_cases c : e = k
      · rw [c, cf_sx, q]
      · rw [cf_sn c]
        exact h e (by omega)
theorem ek_i {c d A B : Prop} (e : c ↔ d) (f : d → A) (g : ¬ d → B) : (c → A) ∧ (¬ c → B) := ⟨fun h => f (e.mp h), fun h => g (fun z => h (e.mpr z))⟩
end
section
/-! X: merging, forests, quotas -/
/-- what both objects hold: n vertices, N edges; ends, colours, weights, quotas -/
def cx_ok (n N : Nat) (us vs cs ws qs : Nat → Int32) (U V C Q : Nat → Nat) (W : Nat → Int) : Prop :=
  2 ≤ n ∧ n ≤ 7 ∧ N ≤ 12 ∧
  (∀ e, e < N → us e = nI (U e) ∧ U e < n ∧ vs e = nI (V e) ∧ V e < n ∧ cs e = nI (C e) ∧ C e < 4 ∧ ws e = zi_z (W e) ∧ -20 ≤ W e ∧ W e ≤ 50) ∧
  (∀ c, c < 4 → qs c = nI (Q c) ∧ Q c ≤ 6)
section
variable {n N : Nat} {sz : Int32} {us vs cs ws qs co ch ro ud di sp be ar : Nat → Int32} {U V C Q : Nat → Nat} {W : Nat → Int}
theorem cx_n (h : cx_ok n N us vs cs ws qs U V C Q W) : n ≤ 7 := h.2.1
theorem cx_N (h : cx_ok n N us vs cs ws qs U V C Q W) : N ≤ 12 := h.2.2.1
theorem cx_us (h : cx_ok n N us vs cs ws qs U V C Q W) {e : Nat} (he : e < N) : us e = nI (U e) := (h.2.2.2.1 e he).1
theorem cx_U (h : cx_ok n N us vs cs ws qs U V C Q W) {e : Nat} (he : e < N) : U e < n := (h.2.2.2.1 e he).2.1
theorem cx_vs (h : cx_ok n N us vs cs ws qs U V C Q W) {e : Nat} (he : e < N) : vs e = nI (V e) := (h.2.2.2.1 e he).2.2.1
theorem cx_V (h : cx_ok n N us vs cs ws qs U V C Q W) {e : Nat} (he : e < N) : V e < n := (h.2.2.2.1 e he).2.2.2.1
theorem cx_cs (h : cx_ok n N us vs cs ws qs U V C Q W) {e : Nat} (he : e < N) : cs e = nI (C e) := (h.2.2.2.1 e he).2.2.2.2.1
theorem cx_C (h : cx_ok n N us vs cs ws qs U V C Q W) {e : Nat} (he : e < N) : C e < 4 := (h.2.2.2.1 e he).2.2.2.2.2.1
theorem cx_ws (h : cx_ok n N us vs cs ws qs U V C Q W) {e : Nat} (he : e < N) : ws e = zi_z (W e) := (h.2.2.2.1 e he).2.2.2.2.2.2.1
theorem cx_W (h : cx_ok n N us vs cs ws qs U V C Q W) {e : Nat} (he : e < N) : -20 ≤ W e ∧ W e ≤ 50 := (h.2.2.2.1 e he).2.2.2.2.2.2.2
theorem cx_qs (h : cx_ok n N us vs cs ws qs U V C Q W) {c : Nat} (hc : c < 4) : qs c = nI (Q c) := (h.2.2.2.2 c hc).1
theorem cx_Q (h : cx_ok n N us vs cs ws qs U V C Q W) {c : Nat} (hc : c < 4) : Q c ≤ 6 := (h.2.2.2.2 c hc).2
theorem cx_UV (h : cx_ok n N us vs cs ws qs U V C Q W) : ∀ e, e < N → U e < n ∧ V e < n := fun _ he => ⟨cx_U h he, cx_V h he⟩
theorem cx_fu {k fuel : Nat} (h : k < fuel) : ∃ g, fuel = g + 1 ∧ k ≤ g := ⟨fuel - 1, by omega, by omega⟩
theorem xm_26 {post : Int32 → SX → Prop} {f : Nat → Nat} {a b : Nat} (hn : n ≤ 7) (hf : ∀ w, w < n → f w < n) (hb : b < n)
    (hp : ∀ ro' : Nat → Int32, (∀ w, w < n → ro' w = nI (if f w = b then a else f w)) → post 1 (nI n, nI N, sz, us, vs, cs, ws, qs, co, ch, ro', ud, di, sp, be, ar)) :
    ∀ (k e fuel : Nat) (ro : Nat → Int32), e + k = n → k < fuel → (∀ w, w < n → ro w = nI (if w < e ∧ f w = b then a else f w)) →
    wX_merge_26 post (nI a) (nI b) (nI n) (nI N) sz fuel (nI e) us vs cs ws qs co ch ro ud di sp be ar := by
  intro k
  induction k with
  | zero =>
    intro e fuel ro he hfu hro
    obtain ⟨g, rfl, hg⟩ := cx_fu hfu
    refine br_t (nI_le (by omega) (by omega)) (hp ro fun w hw => ?_)
    rw [hro w hw]
    have h : w < e := by omega
    simp [h]
  | succ k ih =>
    intro e fuel ro he hfu hro
    obtain ⟨g, rfl, hg⟩ := cx_fu hfu
    have hi : vp_in (nI e) 7 := vp_in_nI (by omega) (by omega)
    have hc : (nI e).toNatClampNeg = e := nI_clamp (by omega)
    have he' : ro e = nI (f e) := by
      rw [hro e (by omega)]
      simp
    have hfe := hf e (by omega)
    refine br_f (nI_ge (by omega) (by omega)) ⟨hi, ?_⟩
    rw [hc, he']
    by_cases q : f e = b
    · refine br_t (by rw [q]) ⟨hi, nm_e (nm_r (nI_1 e) (ih (e + 1) g _ (by omega) (by omega) (fun w hw => ?_)))⟩
      by_cases c : w = e
      · subst c
        rw [pk_us, if_pos ⟨by omega, q⟩]
      · rw [pk_un c, hro w hw]
        have h : w < e ↔ w < e + 1 := by omega
        simp only [h]
    · refine br_f (fun z => q ((nI_eq (by omega) (by omega)).mp z)) (nm_r (nI_1 e) (ih (e + 1) g _ (by omega) (by omega) (fun w hw => ?_)))
      rw [hro w hw]
      by_cases c : w = e
      · subst c
        simp [q]
      · have h : w < e ↔ w < e + 1 := by omega
        simp only [h]
theorem xm_merge {post : Int32 → SX → Prop} {f : Nat → Nat} {u v : Nat} (hn : n ≤ 7) (hf : ∀ w, w < n → f w < n) (hu : u < n) (hv : v < n)
    (hro : ∀ w, w < n → ro w = nI (f w)) (h0 : f u = f v → post 0 (nI n, nI N, sz, us, vs, cs, ws, qs, co, ch, ro, ud, di, sp, be, ar))
    (h1 : f u ≠ f v → ∀ ro' : Nat → Int32, (∀ w, w < n → ro' w = nI (gf_mg f u v w)) → post 1 (nI n, nI N, sz, us, vs, cs, ws, qs, co, ch, ro', ud, di, sp, be, ar)) : wpX_merge post (nI n, nI N, sz, us, vs, cs, ws, qs, co, ch, ro, ud, di, sp, be, ar) (nI u) (nI v) := by
  have fu := hf u hu
  have fv := hf v hv
  refine And.intro (vp_in_nI (by omega) (by omega)) (nm_r (e' := nI (f u)) (by rw [nI_clamp (by omega)]; exact hro u hu)
    (And.intro (vp_in_nI (by omega) (by omega)) (nm_r (e' := nI (f v)) (by rw [nI_clamp (by omega)]; exact hro v hv) ?_)))
  by_cases q : f u = f v
  · exact br_t (by rw [q]) (h0 q)
  · refine br_f (fun z => q ((nI_eq (by omega) (by omega)).mp z)) ⟨n + 1, xm_26 (f := f) hn hf fv (h1 q) n 0 (n + 1) ro (by omega) (by omega) (fun w hw => ?_)⟩
    rw [hro w hw]
    simp
theorem xf_25 {post : Int32 → SX → Prop} {m : Nat} (h : cx_ok n N us vs cs ws qs U V C Q W) (hm : m < 4096)
    (ht : gf_F U V m.testBit N → ∀ ro' : Nat → Int32, post 1 (nI n, nI N, sz, us, vs, cs, ws, qs, co, ch, ro', ud, di, sp, be, ar)) (hf : ¬ gf_F U V m.testBit N → ∀ ro' : Nat → Int32, post 0 (nI n, nI N, sz, us, vs, cs, ws, qs, co, ch, ro', ud, di, sp, be, ar)) :
    ∀ (k e fuel : Nat) (ro : Nat → Int32), e + k = N → k < fuel → (∀ w, w < n → ro w = nI (gf_l U V m.testBit e w)) → gf_F U V m.testBit e →
    wX_isForest_25 post (nI m) fuel (nI e) (nI n) (nI N) sz us vs cs ws qs co ch ro ud di sp be ar := by
  have hn := cx_n h
  have hN := cx_N h
  intro k
  induction k with
  | zero =>
    intro e fuel ro he hfu hro hF
    obtain ⟨g, rfl, hg⟩ := cx_fu hfu
    have e2 : e = N := by omega
    subst e2
    exact br_t (nI_le (by omega) (by omega)) (ht hF ro)
  | succ k ih =>
    intro e fuel ro he hfu hro hF
    obtain ⟨g, rfl, hg⟩ := cx_fu hfu
    have eN : e < N := by omega
    have hi : vp_in (nI e) 12 := vp_in_nI (by omega) (by omega)
    have hc : (nI e).toNatClampNeg = e := nI_clamp (by omega)
    refine br_f (nI_ge (by omega) (by omega)) (xb_br hm (by omega) (fun hb => ⟨hi, hi, ?_⟩) (fun hb => nm_r (nI_1 e) (ih (e + 1) g ro (by omega) (by omega) ?_ ?_)))
    · rw [hc, cx_us h eN, cx_vs h eN]
      have hid := gf_lid (n := n) m.testBit e (fun i hi => cx_UV h i (by omega))
      refine xm_merge hn hid.2 (cx_U h eN) (cx_V h eN) hro (fun q => br_t rfl (hf (fun F => F e eN hb q) ro)) (fun q ro' hro' => br_f xb_10 (nm_r (nI_1 e) (ih (e + 1) g ro' (by omega) (by omega) ?_ ?_)))
      · intro w hw
        rw [hro' w hw, gf_lt hb]
      · intro i hi hb'
        by_cases c : i = e
        · subst c
          exact q
        · exact hF i (by omega) hb'
    · intro w hw
      rw [hro w hw, gf_lf hb]
    · intro i hi hb'
      by_cases c : i = e
      · subst c
        rw [hb] at hb'
        exact absurd hb' (by decide)
      · exact hF i (by omega) hb'
theorem xf_2 {post : Int32 → SX → Prop} {m : Nat} (h : cx_ok n N us vs cs ws qs U V C Q W) (hm : m < 4096)
    (ht : gf_F U V m.testBit N → ∀ ro' : Nat → Int32, post 1 (nI n, nI N, sz, us, vs, cs, ws, qs, co, ch, ro', ud, di, sp, be, ar)) (hf : ¬ gf_F U V m.testBit N → ∀ ro' : Nat → Int32, post 0 (nI n, nI N, sz, us, vs, cs, ws, qs, co, ch, ro', ud, di, sp, be, ar)) :
    ∀ (k e fuel : Nat) (ro : Nat → Int32), e + k = n → k < fuel → (∀ w, w < e → ro w = nI w) →
    wX_isForest_2 post (nI m) (nI n) (nI N) sz fuel (nI e) us vs cs ws qs co ch ro ud di sp be ar := by
  have hn := cx_n h
  have hN := cx_N h
  intro k
  induction k with
  | zero =>
    intro e fuel ro he hfu hro
    obtain ⟨g, rfl, hg⟩ := cx_fu hfu
    exact br_t (nI_le (by omega) (by omega)) ⟨N + 1, xf_25 h hm ht hf N 0 (N + 1) ro (by omega) (by omega) (fun w hw => hro w (by omega)) (fun i hi => absurd hi (by omega))⟩
  | succ k ih =>
    intro e fuel ro he hfu hro
    obtain ⟨g, rfl, hg⟩ := cx_fu hfu
    have hc : (nI e).toNatClampNeg = e := nI_clamp (by omega)
    refine br_f (nI_ge (by omega) (by omega)) ⟨vp_in_nI (by omega) (by omega), nm_e (nm_r (nI_1 e) (ih (e + 1) g _ (by omega) (by omega) (fun w hw => ?_)))⟩
    rw [hc]
    by_cases c : w = e
    · subst c
      rw [pk_us]
    · rw [pk_un c]
      exact hro w (by omega)
theorem xf_forest {post : Int32 → SX → Prop} {m : Nat} (h : cx_ok n N us vs cs ws qs U V C Q W) (hm : m < 4096)
    (ht : gf_F U V m.testBit N → ∀ ro' : Nat → Int32, post 1 (nI n, nI N, sz, us, vs, cs, ws, qs, co, ch, ro', ud, di, sp, be, ar)) (hf : ¬ gf_F U V m.testBit N → ∀ ro' : Nat → Int32, post 0 (nI n, nI N, sz, us, vs, cs, ws, qs, co, ch, ro', ud, di, sp, be, ar)) :
    wpX_isForest post (nI n, nI N, sz, us, vs, cs, ws, qs, co, ch, ro, ud, di, sp, be, ar) (nI m) := by
  have hn := cx_n h
  exact Exists.intro (n + 1) (xf_2 h hm ht hf n 0 (n + 1) ro (by omega) (by omega) (fun w hw => absurd hw (by omega)))
/-- within the quotas -/
def qx_F (C Q : Nat → Nat) (S : Nat → Bool) (N : Nat) : Prop := ∀ c, c < 4 → cf_n (qf_s C S c) N ≤ Q c
theorem xq_57 {post : Int32 → SX → Prop} {m : Nat} (h : cx_ok n N us vs cs ws qs U V C Q W)
    (ht : qx_F C Q m.testBit N → post 1 (nI n, nI N, sz, us, vs, cs, ws, qs, co, ch, ro, ud, di, sp, be, ar)) (hf : ¬ qx_F C Q m.testBit N → post 0 (nI n, nI N, sz, us, vs, cs, ws, qs, co, ch, ro, ud, di, sp, be, ar)) (hud : ∀ c, c < 4 → ud c = nI (cf_n (qf_s C m.testBit c) N)) :
    ∀ (k c fuel : Nat), c + k = 4 → k < fuel → (∀ i, i < c → cf_n (qf_s C m.testBit i) N ≤ Q i) →
    wX_inQuotas_57 post (nI n) (nI N) sz us vs cs ws qs co ch ro ud di sp be ar fuel (nI c) := by
  have hN := cx_N h
  intro k
  induction k with
  | zero =>
    intro c fuel he hfu hF
    obtain ⟨g, rfl, hg⟩ := cx_fu hfu
    exact br_t (nI_le (a := 4) (by omega) (by omega)) (ht (fun i hi => hF i (by omega)))
  | succ k ih =>
    intro c fuel he hfu hF
    obtain ⟨g, rfl, hg⟩ := cx_fu hfu
    have hi : vp_in (nI c) 4 := vp_in_nI (by omega) (by omega)
    have hc : (nI c).toNatClampNeg = c := nI_clamp (by omega)
    have l1 := cf_nN (qf_s C m.testBit c) N
    have l2 := cx_Q h (c := c) (by omega)
    refine br_f (nI_ge (b := 4) (by omega) (by omega)) ⟨hi, hi, ?_⟩
    rw [hc, hud c (by omega), cx_qs h (by omega)]
    refine pk_le _ _ (fun q => nm_r (nI_1 c) (ih (c + 1) g (by omega) (by omega) (fun i hi => ?_))) (fun q => hf (fun F => ?_)) rfl rfl (by omega) (by omega)
    · by_cases z : i = c
      · rw [z]
        exact q
      · exact hF i (by omega)
    · have := F c (by omega)
      omega
theorem xq_22 {post : Int32 → SX → Prop} {m : Nat} (h : cx_ok n N us vs cs ws qs U V C Q W) (hm : m < 4096)
    (ht : qx_F C Q m.testBit N → ∀ ud' : Nat → Int32, post 1 (nI n, nI N, sz, us, vs, cs, ws, qs, co, ch, ro, ud', di, sp, be, ar)) (hf : ¬ qx_F C Q m.testBit N → ∀ ud' : Nat → Int32, post 0 (nI n, nI N, sz, us, vs, cs, ws, qs, co, ch, ro, ud', di, sp, be, ar)) :
    ∀ (k e fuel : Nat) (ud : Nat → Int32), e + k = N → k < fuel → (∀ c, c < 4 → ud c = nI (cf_n (qf_s C m.testBit c) e)) →
    wX_inQuotas_22 post (nI m) (nI n) (nI N) sz fuel (nI e) us vs cs ws qs co ch ro ud di sp be ar := by
  have hN := cx_N h
  intro k
  induction k with
  | zero =>
    intro e fuel ud he hfu hud
    obtain ⟨g, rfl, hg⟩ := cx_fu hfu
    have e2 : e = N := by omega
    subst e2
    exact br_t (nI_le (by omega) (by omega)) ⟨5, xq_57 h (fun F => ht F ud) (fun F => hf F ud) hud 4 0 5 (by omega) (by omega) (fun i hi => absurd hi (by omega))⟩
  | succ k ih =>
    intro e fuel ud he hfu hud
    obtain ⟨g, rfl, hg⟩ := cx_fu hfu
    have eN : e < N := by omega
    have hi : vp_in (nI e) 12 := vp_in_nI (by omega) (by omega)
    have hc : (nI e).toNatClampNeg = e := nI_clamp (by omega)
    have hC := cx_C h eN
    have hi2 : vp_in (cs (nI e).toNatClampNeg) 4 := by
      rw [hc, cx_cs h eN]
      exact vp_in_nI (by omega) (by omega)
    refine br_f (nI_ge (by omega) (by omega)) ⟨hi, hi2, hi2, nm_e (nm_r (nI_1 e) (ih (e + 1) g _ (by omega) (by omega) (fun c h4 => ?_)))⟩
    rw [hc, cx_cs h eN, nI_clamp (by omega), hud (C e) hC]
    by_cases z : c = C e
    · subst z
      rw [pk_us]
      show _ = nI (cf_n (qf_s C m.testBit (C e)) e + (if qf_s C m.testBit (C e) e = true then 1 else 0))
      cases hb : m.testBit e
      · rw [xb_f hm (by omega) hb, if_neg (by rw [qf_st, hb]; exact fun z => absurd z.1 (by decide))]
        exact Int32.add_zero _
      · rw [xb_t hm (by omega) hb, if_pos (by rw [qf_st]; exact ⟨hb, rfl⟩), nI_1]
    · rw [pk_un z, hud c h4]
      show _ = nI (cf_n (qf_s C m.testBit c) e + (if qf_s C m.testBit c e = true then 1 else 0))
      rw [if_neg (by rw [qf_st]; exact fun y => z y.2.symm)]
      rfl
theorem xq_2 {post : Int32 → SX → Prop} {m : Nat} (h : cx_ok n N us vs cs ws qs U V C Q W) (hm : m < 4096)
    (ht : qx_F C Q m.testBit N → ∀ ud' : Nat → Int32, post 1 (nI n, nI N, sz, us, vs, cs, ws, qs, co, ch, ro, ud', di, sp, be, ar)) (hf : ¬ qx_F C Q m.testBit N → ∀ ud' : Nat → Int32, post 0 (nI n, nI N, sz, us, vs, cs, ws, qs, co, ch, ro, ud', di, sp, be, ar)) :
    ∀ (k c fuel : Nat) (ud : Nat → Int32), c + k = 4 → k < fuel → (∀ i, i < c → ud i = 0) →
    wX_inQuotas_2 post (nI m) (nI n) (nI N) sz fuel (nI c) us vs cs ws qs co ch ro ud di sp be ar := by
  intro k
  induction k with
  | zero =>
    intro c fuel ud he hfu hud
    obtain ⟨g, rfl, hg⟩ := cx_fu hfu
    exact br_t (nI_le (a := 4) (by omega) (by omega)) ⟨N + 1, xq_22 h hm ht hf N 0 (N + 1) ud (by omega) (by omega) (fun i hi => hud i (by omega))⟩
  | succ k ih =>
    intro c fuel ud he hfu hud
    obtain ⟨g, rfl, hg⟩ := cx_fu hfu
    have hc : (nI c).toNatClampNeg = c := nI_clamp (by omega)
    refine br_f (nI_ge (b := 4) (by omega) (by omega)) ⟨vp_in_nI (by omega) (by omega), nm_e (nm_r (nI_1 c) (ih (c + 1) g _ (by omega) (by omega) (fun w hw => ?_)))⟩
    rw [hc]
    by_cases z : w = c
    · subst z
      rw [pk_us]
    · rw [pk_un z]
      exact hud w (by omega)
theorem xq_quotas {post : Int32 → SX → Prop} {m : Nat} (h : cx_ok n N us vs cs ws qs U V C Q W) (hm : m < 4096)
    (ht : qx_F C Q m.testBit N → ∀ ud' : Nat → Int32, post 1 (nI n, nI N, sz, us, vs, cs, ws, qs, co, ch, ro, ud', di, sp, be, ar)) (hf : ¬ qx_F C Q m.testBit N → ∀ ud' : Nat → Int32, post 0 (nI n, nI N, sz, us, vs, cs, ws, qs, co, ch, ro, ud', di, sp, be, ar)) :
    wpX_inQuotas post (nI n, nI N, sz, us, vs, cs, ws, qs, co, ch, ro, ud, di, sp, be, ar) (nI m) :=
  Exists.intro 5 (xq_2 h hm ht hf 4 0 5 ud (by omega) (by omega) (fun w hw => absurd hw (by omega)))
end
end
section
/-! X: sums, costs -/
/-- the costs -/
def kx_c (W : Nat → Int) : Nat → Int := fun e => 4096 * W e + ((2 ^ e : Nat) : Int)
section
variable {n N : Nat} {sz : Int32} {us vs cs ws qs co ch ro ud di sp be ar : Nat → Int32} {U V C Q : Nat → Nat} {W : Nat → Int}
theorem xs_t {w : Nat → Int} {S : Nat → Bool} {e : Nat} (h : S e = true) : cf_w w S (e + 1) = cf_w w S e + w e := by
  show cf_w w S e + (if S e = true then w e else 0) = _
  rw [if_pos h]
theorem xs_f {w : Nat → Int} {S : Nat → Bool} {e : Nat} (h : S e = false) : cf_w w S (e + 1) = cf_w w S e := by
  show cf_w w S e + (if S e = true then w e else 0) = _
  rw [if_neg (by rw [h]; decide)]
  omega
theorem xs_w4 {post : Int32 → Prop} {m : Nat} (h : cx_ok n N us vs cs ws qs U V C Q W) (hm : m < 4096) (hp : post (zi_z (cf_w W m.testBit N))) :
    ∀ (k e fuel : Nat), e + k = N → k < fuel → wX_weightOf_4 post (nI m) (nI n) (nI N) sz us vs cs ws qs co ch ro ud di sp be ar fuel (zi_z (cf_w W m.testBit e)) (nI e) := by
  have hN := cx_N h
  intro k
  induction k with
  | zero =>
    intro e fuel he hfu
    obtain ⟨g, rfl, hg⟩ := cx_fu hfu
    have e2 : e = N := by omega
    subst e2
    exact br_t (nI_le (by omega) (by omega)) hp
  | succ k ih =>
    intro e fuel he hfu
    obtain ⟨g, rfl, hg⟩ := cx_fu hfu
    have eN : e < N := by omega
    have i := ih (e + 1) g (by omega) (by omega)
    refine br_f (nI_ge (by omega) (by omega)) (xb_br hm (by omega) (fun hb => ⟨vp_in_nI (by omega) (by omega), nm_r (e' := zi_z (cf_w W m.testBit (e + 1))) ?_ (nm_r (nI_1 e) i)⟩)
      (fun hb => nm_r (e' := zi_z (cf_w W m.testBit (e + 1))) ?_ (nm_r (nI_1 e) i)))
    · rw [nI_clamp (by omega), cx_ws h eN, zi_add, xs_t hb]
    · rw [xs_f hb]
      exact Int32.add_zero _
theorem xs_weight {post : Int32 → Prop} {m : Nat} (h : cx_ok n N us vs cs ws qs U V C Q W) (hm : m < 4096) (hp : post (zi_z (cf_w W m.testBit N))) :
    wpX_weightOf post (nI n, nI N, sz, us, vs, cs, ws, qs, co, ch, ro, ud, di, sp, be, ar) (nI m) := Exists.intro (N + 1) (xs_w4 h hm hp N 0 (N + 1) (by omega) (by omega))
theorem xs_c4 {post : Int32 → Prop} {m : Nat} {K : Nat → Int} (hN : N ≤ 12) (hco : ∀ e, e < N → co e = zi_z (K e)) (hm : m < 4096) (hp : post (zi_z (cf_w K m.testBit N))) :
    ∀ (k e fuel : Nat), e + k = N → k < fuel → wX_costOf_4 post (nI m) (nI n) (nI N) sz us vs cs ws qs co ch ro ud di sp be ar fuel (zi_z (cf_w K m.testBit e)) (nI e) := by
  intro k
  induction k with
  | zero =>
    intro e fuel he hfu
    obtain ⟨g, rfl, hg⟩ := cx_fu hfu
    have e2 : e = N := by omega
    subst e2
    exact br_t (nI_le (by omega) (by omega)) hp
  | succ k ih =>
    intro e fuel he hfu
    obtain ⟨g, rfl, hg⟩ := cx_fu hfu
    have eN : e < N := by omega
    have i := ih (e + 1) g (by omega) (by omega)
    refine br_f (nI_ge (by omega) (by omega)) (xb_br hm (by omega) (fun hb => ⟨vp_in_nI (by omega) (by omega), nm_r (e' := zi_z (cf_w K m.testBit (e + 1))) ?_ (nm_r (nI_1 e) i)⟩)
      (fun hb => nm_r (e' := zi_z (cf_w K m.testBit (e + 1))) ?_ (nm_r (nI_1 e) i)))
    · rw [nI_clamp (by omega), hco e eN, zi_add, xs_t hb]
    · rw [xs_f hb]
      exact Int32.add_zero _
theorem xs_cost {post : Int32 → Prop} {m : Nat} {K : Nat → Int} (hN : N ≤ 12) (hco : ∀ e, e < N → co e = zi_z (K e)) (hm : m < 4096) (hp : post (zi_z (cf_w K m.testBit N))) :
    wpX_costOf post (nI n, nI N, sz, us, vs, cs, ws, qs, co, ch, ro, ud, di, sp, be, ar) (nI m) := Exists.intro (N + 1) (xs_c4 hN hco hm hp N 0 (N + 1) (by omega) (by omega))
theorem xs_t2 {post : SX → Prop} (h : cx_ok n N us vs cs ws qs U V C Q W) (hp : ∀ co' : Nat → Int32, (∀ e, e < N → co' e = zi_z (kx_c W e)) → post (nI n, nI N, sz, us, vs, cs, ws, qs, co', ch, ro, ud, di, sp, be, ar)) :
    ∀ (k e fuel : Nat) (co : Nat → Int32), e + k = N → k < fuel → (∀ i, i < e → co i = zi_z (kx_c W i)) → wX_takeCosts_2 post (nI n) (nI N) sz fuel (nI e) us vs cs ws qs co ch ro ud di sp be ar := by
  have hN := cx_N h
  intro k
  induction k with
  | zero =>
    intro e fuel co he hfu hco
    obtain ⟨g, rfl, hg⟩ := cx_fu hfu
    exact br_t (nI_le (by omega) (by omega)) (hp co (fun i hi => hco i (by omega)))
  | succ k ih =>
    intro e fuel co he hfu hco
    obtain ⟨g, rfl, hg⟩ := cx_fu hfu
    have eN : e < N := by omega
    have hi : vp_in (nI e) 12 := vp_in_nI (by omega) (by omega)
    refine br_f (nI_ge (by omega) (by omega)) ⟨hi, hi, nm_e (nm_r (nI_1 e) (ih (e + 1) g _ (by omega) (by omega) (fun i hi => ?_)))⟩
    rw [nI_clamp (by omega), cx_ws h eN, xb_p (by omega)]
    by_cases c : i = e
    · subst c
      rw [pk_us, zi_n, show (4096 : Int32) = zi_z 4096 from rfl, zi_mul, zi_add]
      rfl
    · rw [pk_un c]
      exact hco i (by omega)
theorem xs_take {post : SX → Prop} (h : cx_ok n N us vs cs ws qs U V C Q W) (hp : ∀ co' : Nat → Int32, (∀ e, e < N → co' e = zi_z (kx_c W e)) → post (nI n, nI N, sz, us, vs, cs, ws, qs, co', ch, ro, ud, di, sp, be, ar)) :
    wpX_takeCosts post (nI n, nI N, sz, us, vs, cs, ws, qs, co, ch, ro, ud, di, sp, be, ar) := Exists.intro (N + 1) (xs_t2 h hp N 0 (N + 1) co (by omega) (by omega) (fun i hi => absurd hi (by omega)))
end
end
section
/-! X: the arcs -/
def gx_G (bar : Int32) : Nat → Bool := fun e => decide (¬ nI e = bar)
theorem gx_t {bar : Int32} {e : Nat} : gx_G bar e = true ↔ ¬ nI e = bar := decide_eq_true_iff
theorem gx_f {bar : Int32} {e : Nat} (h : nI e = bar) : ¬ gx_G bar e = true := fun z => gx_t.mp z h
section
variable {n N : Nat} {sz bar : Int32} {us vs cs ws qs co ch ro ud di sp be ar : Nat → Int32} {U V C Q : Nat → Nat} {W : Nat → Int} {G I : Nat → Bool}
theorem px_e1 {y x : Nat} (hI : gf_P U V G N I) (hx : x < N) (hG : G x = true) : gf_P U V G N (cf_x I y x) ↔ gf_F U V (cf_x I y x) N := by
  refine ⟨fun h => h.2, fun h => ⟨fun e he => ?_, h⟩⟩
  by_cases c : e = x
  · rw [c]
    exact ⟨hx, hG⟩
  · by_cases c2 : e = y
    · rw [c2, cf_xy (fun z => c (c2.trans z))] at he
      exact absurd he (by decide)
    · rw [cf_xo c c2] at he
      exact hI.1 e he
theorem px_s1 {x : Nat} (hI : gf_P U V G N I) (hx : x < N) (hG : G x = true) : gf_P U V G N (cf_s I x true) ↔ gf_F U V (cf_s I x true) N := by
  refine ⟨fun h => h.2, fun h => ⟨fun e he => ?_, h⟩⟩
  by_cases c : e = x
  · rw [c]
    exact ⟨hx, hG⟩
  · rw [cf_sn c] at he
    exact hI.1 e he
theorem px_e2 {y x : Nat} (hI : qf_P C Q G N I) (hx : x < N) (hG : G x = true) : qf_P C Q G N (cf_x I y x) ↔ qx_F C Q (cf_x I y x) N := by
  refine ⟨fun h => h.2, fun h => ⟨fun e he => ?_, h⟩⟩
  by_cases c : e = x
  · rw [c]
    exact ⟨hx, hG⟩
  · by_cases c2 : e = y
    · rw [c2, cf_xy (fun z => c (c2.trans z))] at he
      exact absurd he (by decide)
    · rw [cf_xo c c2] at he
      exact hI.1 e he
theorem px_s2 {x : Nat} (hI : qf_P C Q G N I) (hx : x < N) (hG : G x = true) : qf_P C Q G N (cf_s I x true) ↔ qx_F C Q (cf_s I x true) N := by
  refine ⟨fun h => h.2, fun h => ⟨fun e he => ?_, h⟩⟩
  by_cases c : e = x
  · rw [c]
    exact ⟨hx, hG⟩
  · rw [cf_sn c] at he
    exact hI.1 e he
/-- the graph of exchanges of the two matroids -/
abbrev px_A (U V C Q : Nat → Nat) (G : Nat → Bool) (N : Nat) (I : Nat → Bool) : Nat → Nat → Prop := af_arc (gf_P U V G N) (qf_P C Q G N) I
theorem px_N {u v : Nat} (hI : gf_P U V G N I) (h : px_A U V C Q G N I u v) : u < N ∧ v < N ∧ G u = true ∧ G v = true := by
  rcases h with ⟨a, b, c⟩ | ⟨a, b, c⟩
  · have h1 := hI.1 u a
    have h2 := c.1 v (cf_xx _ _ _)
    exact ⟨h1.1, h2.1, h1.2, h2.2⟩
  · have h1 := hI.1 v b
    have h2 := c.1 u (cf_xx _ _ _)
    exact ⟨h2.1, h1.1, h2.2, h1.2⟩
def xd_A (arc : Nat → Nat → Prop) (ar : Nat → Int32) (k : Nat) : Prop := ∀ j, j < k → (¬ ar j = 0 ↔ arc (j / 12) (j % 12))
theorem xd_st {arc : Nat → Nat → Prop} {k : Nat} {v : Int32} (h : xd_A arc ar k) (hv : ¬ v = 0 ↔ arc (k / 12) (k % 12)) : xd_A arc (upd ar k v) (k + 1) := by
  intro j hj
  by_cases c : j = k
  · subst c
    rw [pk_us]
    exact hv
  · rw [pk_un c]
    exact h j (by omega)
theorem xd_kp {arc : Nat → Nat → Prop} {k : Nat} {v : Int32} (h : xd_A arc ar k) : xd_A arc (upd ar k v) k := by
  intro j hj
  rw [pk_un (by omega)]
  exact h j hj
theorem xn_0 : vp_nar .boolean 0 = 0 := rfl
theorem xn_1 : vp_nar .boolean 1 = 1 := rfl
theorem xd_2 {post : SX → Prop} {m : Nat} (h : cx_ok n N us vs cs ws qs U V C Q W) (hm : m < 2 ^ N) (h1 : gf_P U V (gx_G bar) N m.testBit) (h2 : qf_P C Q (gx_G bar) N m.testBit)
    (hp : ∀ ro' ud' ar' : Nat → Int32, xd_A (px_A U V C Q (gx_G bar) N m.testBit) ar' 144 → post (nI n, nI N, sz, us, vs, cs, ws, qs, co, ch, ro', ud', di, sp, be, ar')) :
    ∀ (k e fuel : Nat) (ro ud ar : Nat → Int32), e + k = 144 → k < fuel → xd_A (px_A U V C Q (gx_G bar) N m.testBit) ar e →
    wX_drawArcs_2 post (nI m) bar fuel (nI e) (nI n) (nI N) sz us vs cs ws qs co ch ro ud di sp be ar := by
  have hN := cx_N h
  have hm12 := xb_12 hm hN
  intro k
  induction k with
  | zero =>
    intro e fuel ro ud ar he hfu hA
    obtain ⟨g, rfl, hg⟩ := cx_fu hfu
    have e2 : e = 144 := by omega
    subst e2
    exact br_t (nI_le (a := 144) (by omega) (by omega)) (hp ro ud ar hA)
  | succ k ih =>
    intro e fuel ro ud ar he hfu hA
    obtain ⟨g, rfl, hg⟩ := cx_fu hfu
    have hi : vp_in (nI e) 144 := vp_in_nI (by omega) (by omega)
    have hc : (nI e).toNatClampNeg = e := nI_clamp (by omega)
    have dy : e / 12 < 12 := by omega
    have dx : e % 12 < 12 := by omega
    have K : ∀ (ro' ud' ar' : Nat → Int32), xd_A (px_A U V C Q (gx_G bar) N m.testBit) ar' (e + 1) →
        wX_drawArcs_2 post (nI m) bar g (nI (e + 1)) (nI n) (nI N) sz us vs cs ws qs co ch ro' ud' di sp be ar' := fun ro' ud' ar' q => ih (e + 1) g ro' ud' ar' (by omega) (by omega) q
    have no : (px_A U V C Q (gx_G bar) N m.testBit (e / 12) (e % 12) → False) → xd_A (px_A U V C Q (gx_G bar) N m.testBit) (upd ar e (vp_nar .boolean 0)) (e + 1) := by
      intro q
      exact xd_st hA ⟨fun z => absurd xn_0 z, fun z => (q z).elim⟩
    refine br_f (nI_ge (b := 144) (by omega) (by omega)) ⟨by decide, nm_r (e' := nI (e / 12)) (pk_div (d := 12) (by omega) (by omega) (by omega)) ⟨by decide,
      nm_r (e' := nI (e % 12)) (pk_rem (d := 12) (by omega) (by omega) (by omega)) ⟨hi, nm_e ?_⟩⟩⟩
    rw [hc]
    refine pk_le N (e / 12) (fun q => nm_r (nI_1 e) (K _ _ _ (no fun z => ?_))) (fun qy => ?_) rfl rfl (by omega) (by omega)
    · have := (px_N h1 z).1
      omega
    refine pk_le N (e % 12) (fun q => nm_r (nI_1 e) (K _ _ _ (no fun z => ?_))) (fun qx => ?_) rfl rfl (by omega) (by omega)
    · have := (px_N h1 z).2.1
      omega
    refine br_c (fun q => nm_r (nI_1 e) (K _ _ _ (no fun z => gx_f q (px_N h1 z).2.2.2))) (fun bx => ?_)
    refine br_c (fun q => nm_r (nI_1 e) (K _ _ _ (no fun z => gx_f q (px_N h1 z).2.2.1))) (fun bY => ?_)
    have Gx := gx_t.mpr bx
    have Gy := gx_t.mpr bY
    have ho : (nI m ^^^ ((1 : Int32) <<< (nI (e / 12) &&& 31))) ^^^ ((1 : Int32) <<< (nI (e % 12) &&& 31)) = nI ((m ^^^ 2 ^ (e / 12)) ^^^ 2 ^ (e % 12)) := by
      rw [xb_p (by omega), xb_p (by omega), nx_xor, nx_xor]
    have hol := xb_exl hm qy qx
    have hol12 := xb_12 hol hN
    refine xb_br hm12 (by omega) (fun iy => ?_) (fun iy => ?_)
    · refine xb_br hm12 (by omega) (fun ix => ?_) (fun ix => ?_)
      · refine nm_r ho (br_f xb_10 (br_f xb_10 (br_f xb_10 (nm_r (nI_1 e) (K _ _ _ (no fun z => ?_))))))
        rcases z with ⟨_, z, _⟩ | ⟨z, _, _⟩
        · rw [ix] at z
          exact absurd z (by decide)
        · rw [iy] at z
          exact absurd z (by decide)
      · refine nm_r ho (br_f xb_10 (br_t rfl ?_))
        have key : gf_F U V ((m ^^^ 2 ^ (e / 12)) ^^^ 2 ^ (e % 12)).testBit N ↔ px_A U V C Q (gx_G bar) N m.testBit (e / 12) (e % 12) := by
          rw [xb_ex iy ix, ← px_e1 h1 qx Gx]
          constructor
          · exact fun z => Or.inl ⟨iy, ix, z⟩
          · rintro (⟨_, _, z⟩ | ⟨z, _, _⟩)
            · exact z
            · rw [iy] at z
              exact absurd z (by decide)
        refine xf_forest h hol12 (fun F ro' => ⟨hi, nm_e (nm_r (nI_1 e) (K _ _ _ ?_))⟩) (fun F ro' => ⟨hi, nm_e (nm_r (nI_1 e) (K _ _ _ ?_))⟩)
        · rw [hc]
          exact xd_st (xd_kp hA) ⟨fun _ => key.mp F, fun _ => by rw [xn_1]; decide⟩
        · rw [hc]
          exact xd_st (xd_kp hA) ⟨fun z => absurd xn_0 z, fun z => absurd (key.mpr z) F⟩
    · refine xb_br hm12 (by omega) (fun ix => ?_) (fun ix => ?_)
      · refine nm_r ho (br_t rfl (br_t rfl (br_f xb_10 ?_)))
        have key : qx_F C Q ((m ^^^ 2 ^ (e / 12)) ^^^ 2 ^ (e % 12)).testBit N ↔ px_A U V C Q (gx_G bar) N m.testBit (e / 12) (e % 12) := by
          rw [xb_exc, xb_ex ix iy, ← px_e2 h2 qy Gy]
          constructor
          · exact fun z => Or.inr ⟨iy, ix, z⟩
          · rintro (⟨z, _, _⟩ | ⟨_, _, z⟩)
            · rw [iy] at z
              exact absurd z (by decide)
            · exact z
        refine xq_quotas h hol12 (fun F ro' => ⟨hi, nm_e (nm_r (nI_1 e) (K _ _ _ ?_))⟩) (fun F ro' => ⟨hi, nm_e (nm_r (nI_1 e) (K _ _ _ ?_))⟩)
        · rw [hc]
          exact xd_st (xd_kp hA) ⟨fun _ => key.mp F, fun _ => by rw [xn_1]; decide⟩
        · rw [hc]
          exact xd_st (xd_kp hA) ⟨fun z => absurd xn_0 z, fun z => absurd (key.mpr z) F⟩
      · refine nm_r ho (br_t rfl (br_t rfl (br_t rfl (nm_r (nI_1 e) (K _ _ _ (no fun z => ?_))))))
        rcases z with ⟨z, _, _⟩ | ⟨_, z, _⟩
        · rw [iy] at z
          exact absurd z (by decide)
        · rw [ix] at z
          exact absurd z (by decide)
theorem xd_draw {post : SX → Prop} {m : Nat} (h : cx_ok n N us vs cs ws qs U V C Q W) (hm : m < 2 ^ N) (h1 : gf_P U V (gx_G bar) N m.testBit) (h2 : qf_P C Q (gx_G bar) N m.testBit)
    (hp : ∀ ro' ud' ar' : Nat → Int32, xd_A (px_A U V C Q (gx_G bar) N m.testBit) ar' 144 → post (nI n, nI N, sz, us, vs, cs, ws, qs, co, ch, ro', ud', di, sp, be, ar')) :
    wpX_drawArcs post (nI n, nI N, sz, us, vs, cs, ws, qs, co, ch, ro, ud, di, sp, be, ar) (nI m) bar :=
  Exists.intro 145 (xd_2 h hm h1 h2 hp 144 0 145 ro ud ar (by omega) (by omega) (fun j hj => absurd hj (by omega)))
end
end
section
/-! X: relaxing one arc, a round, all rounds -/
def xr_e (o : Option Nat) : Int32 := match o with
  | none => -1
  | some u => nI u
def xr_R (N : Nat) (d : Nat → Int) (s : Nat → Nat) (b : Nat → Option Nat) (di sp be : Nat → Int32) : Prop :=
  ∀ v, v < N → di v = zi_z (d v) ∧ sp v = nI (s v) ∧ be v = xr_e (b v)
def xr_don (k : Nat) (x y : Nat) : Prop := y < 12 ∧ 12 * x + y < k
theorem xr_dn {k : Nat} : ∀ x y, xr_don (k + 1) x y → xr_don k x y ∨ (x = k / 12 ∧ y = k % 12) := by
  intro x y h
  unfold xr_don at h ⊢
  omega
theorem xr_F : (1073741824 : Int32) = zi_z 1073741824 := rfl
/-- list sums are small -/
def xr_B (N : Nat) (l : Nat → Int) : Prop := ∀ L : List Nat, L.Nodup → (∀ e, e ∈ L → e < N) → -1073741824 < bf_s l L ∧ bf_s l L < 1073741824
theorem xr_Bl {N : Nat} {l : Nat → Int} (h : xr_B N l) {e : Nat} (he : e < N) : -1073741824 < l e ∧ l e < 1073741824 := by
  have q := h [e] (by simp) (fun z hz => by
    have : z = e := by simpa using hz
    rw [this]
    exact he)
  have r : bf_s l [e] = l e + 0 := rfl
  omega
theorem xr_bd {arc : Nat → Nat → Prop} {src : Nat → Prop} {l : Nat → Int} {N r : Nat} {don : Nat → Nat → Prop} {d : Nat → Int} {s : Nat → Nat} {b : Nat → Option Nat}
    (hB : xr_B N l) (h : bf_I arc src l 1073741824 N r don d s b) {v : Nat} (hv : v < N) : -1073741824 < d v ∧ d v ≤ 1073741824 ∧ (d v < 1073741824 → s v < N) := by
  have h1 := h.1 v hv
  by_cases c : d v < 1073741824
  · obtain ⟨L, hW, hnd, hd, hs⟩ := h.2.1 v hv c
    have q := hB _ hnd (fun e he => (bf_We _ hW e he).1)
    have hlen : (v :: L).length ≤ (List.range N).length := hnd.length_le_of_subset (fun e he => List.mem_range.mpr (bf_We _ hW e he).1)
    rw [List.length_range, List.length_cons] at hlen
    refine ⟨by omega, by omega, fun _ => by omega⟩
  · exact ⟨by omega, h1, fun z => absurd z c⟩
/-- a vertex not reached yet is reached by the arc, with a small length -/
theorem xr_new {arc : Nat → Nat → Prop} {src : Nat → Prop} {l : Nat → Int} {N r : Nat} {don : Nat → Nat → Prop} {d : Nat → Int} {s : Nat → Nat} {b : Nat → Option Nat}
    (hB : xr_B N l) (h : bf_I arc src l 1073741824 N r don d s b) {u v : Nat} (uN : u < N) (vN : v < N) (hu : d u < 1073741824) (e : d u + l v = d v) : d v < 1073741824 := by
  by_cases c : d v < 1073741824
  · exact c
  · exfalso
    obtain ⟨L, hW, hnd, hd, hs⟩ := h.2.1 u uN hu
    have hv : v ∉ u :: L := fun hv => c (bf_We _ hW v hv).2
    have q := hB (v :: u :: L) (List.nodup_cons.mpr ⟨hv, hnd⟩) (fun x hx => by
      rw [List.mem_cons] at hx
      rcases hx with hx | hx
      · rw [hx]
        exact vN
      · exact (bf_We _ hW x hx).1)
    have r : bf_s l (v :: u :: L) = l v + bf_s l (u :: L) := rfl
    omega
section
variable {n N : Nat} {sz bar : Int32} {us vs cs ws qs co ch ro ud di sp be ar : Nat → Int32}
theorem xr_57 {post : SX → Prop} {u v su sv : Nat} {du dv lv : Int} (uN : u < 12) (vN : v < 12) (hdv : di v = zi_z dv) (hsu : sp u = nI su) (hsv : sp v = nI sv)
    (b1 : -1073741824 < du) (b2 : du < 1073741824) (b3 : -1073741824 < dv) (b4 : dv ≤ 1073741824) (b5 : -1073741824 < lv) (b6 : lv < 1073741824)
    (b7 : su < 100) (b8 : du + lv = dv → sv < 100)
    (hskip : ¬ (du + lv < dv ∨ (du + lv = dv ∧ su + 1 < sv)) → post (nI n, nI N, sz, us, vs, cs, ws, qs, co, ch, ro, ud, di, sp, be, ar))
    (hupd : (du + lv < dv ∨ (du + lv = dv ∧ su + 1 < sv)) → post (nI n, nI N, sz, us, vs, cs, ws, qs, co, ch, ro, ud, upd di v (zi_z (du + lv)), upd sp v (nI (su + 1)), upd be v (nI u), ar)) :
    wX_relax_57 post (nI u) (nI v) (zi_z lv) (zi_z du) (nI n) (nI N) sz us vs cs ws qs co ch ro ud di sp be ar := by
  have ui : vp_in (nI u) 12 := vp_in_nI (by omega) (by omega)
  have vi : vp_in (nI v) 12 := vp_in_nI (by omega) (by omega)
  have uc : (nI u).toNatClampNeg = u := nI_clamp (by omega)
  have vc : (nI v).toNatClampNeg = v := nI_clamp (by omega)
  have h99 : (du + lv < dv ∨ (du + lv = dv ∧ su + 1 < sv)) → wX_relax_99 post (nI u) (nI v) (zi_z (du + lv)) (nI n) (nI N) sz us vs cs ws qs co ch ro ud di sp be ar := by
    intro c
    unfold wX_relax_99
    rw [uc, vc, hsu, nI_1]
    exact ⟨vi, nm_e ⟨ui, vi, nm_e ⟨vi, nm_e (hupd c)⟩⟩⟩
  unfold wX_relax_57
  rw [vc, uc, hdv, hsu, hsv, nI_1]
  refine nm_r (zi_add du lv) ⟨vi, ?_⟩
  rw [zi_lt (by omega) (by omega) (by omega) (by omega), zi_eq (by omega) (by omega) (by omega) (by omega)]
  refine br_c (fun c => h99 (Or.inl c)) (fun c => ⟨vi, br_c (fun c2 => ⟨ui, vi, ?_⟩) (fun c2 => hskip (by omega))⟩)
  have := b8 c2
  exact pk_le sv (su + 1) (fun q => hskip (by omega)) (fun q => h99 (by omega)) rfl rfl (by omega) (by omega)
theorem xr_relax {post : SX → Prop} {arc : Nat → Nat → Prop} {src : Nat → Prop} {p : Nat → Int} {K : Nat → Int} {m k r : Nat} {d : Nat → Int} {s : Nat → Nat} {b : Nat → Option Nat}
    (hN : N ≤ 12) (hm : m < 4096) (hco : ∀ e, e < N → co e = zi_z (K e)) (hA : xd_A arc ar 144) (hB : xr_B N (af_l K m.testBit))
    (hp : ∀ u v, arc u v → p v ≤ p u + af_l K m.testBit v) (ha : ∀ u v, arc u v → u < N ∧ v < N ∧ u ≠ v)
    (hI : bf_I arc src (af_l K m.testBit) 1073741824 N r (xr_don k) d s b) (hR : xr_R N d s b di sp be) (hk : k < 144)
    (hpost : ∀ (d' : Nat → Int) (s' : Nat → Nat) (b' : Nat → Option Nat) (di' sp' be' : Nat → Int32), bf_I arc src (af_l K m.testBit) 1073741824 N r (xr_don (k + 1)) d' s' b' →
      xr_R N d' s' b' di' sp' be' → post (nI n, nI N, sz, us, vs, cs, ws, qs, co, ch, ro, ud, di', sp', be', ar)) :
    wpX_relax post (nI n, nI N, sz, us, vs, cs, ws, qs, co, ch, ro, ud, di, sp, be, ar) (nI (k / 12)) (nI (k % 12)) (nI m) := by
  have hidx : 12 * nI (k / 12) + nI (k % 12) = nI k := by
    rw [show (12 : Int32) = nI 12 from rfl, pk_mul, nI_add]
    exact congrArg nI (by omega)
  unfold wpX_relax
  dsimp only
  rw [hidx, nI_clamp (show k < 2 ^ 31 by omega)]
  refine ⟨vp_in_nI hk (by omega), ?_⟩
  by_cases a : ar k = 0
  · exact br_t a (hpost d s b di sp be (bf_skip hI xr_dn (fun z => absurd a ((hA k hk).mpr z))) hR)
  · have harc := (hA k hk).mp a
    obtain ⟨uN, vN, une⟩ := ha _ _ harc
    have ui : vp_in (nI (k / 12)) 12 := vp_in_nI (by omega) (by omega)
    have vi : vp_in (nI (k % 12)) 12 := vp_in_nI (by omega) (by omega)
    obtain ⟨ru1, ru2, ru3⟩ := hR _ uN
    obtain ⟨rv1, rv2, rv3⟩ := hR _ vN
    obtain ⟨bu1, bu2, bu3⟩ := xr_bd hB hI uN
    obtain ⟨bv1, bv2, bv3⟩ := xr_bd hB hI vN
    have bl := xr_Bl hB vN
    refine br_f a ⟨ui, ?_⟩
    rw [nI_clamp (show k / 12 < 2 ^ 31 by omega), nI_clamp (show k % 12 < 2 ^ 31 by omega), ru1, xr_F, zi_lt (by omega) (by omega) (by omega) (by omega)]
    refine br_c (fun hu => ⟨ui, ?_⟩) (fun hu => hpost d s b di sp be (bf_skip hI xr_dn (fun _ z => absurd z hu)) hR)
    have key : wX_relax_57 post (nI (k / 12)) (nI (k % 12)) (zi_z (af_l K m.testBit (k % 12))) (zi_z (d (k / 12))) (nI n) (nI N) sz us vs cs ws qs co ch ro ud di sp be ar := by
      have su := bu3 hu
      refine xr_57 (su := s (k / 12)) (sv := s (k % 12)) (dv := d (k % 12)) (by omega) (by omega) rv1 ru2 rv2 bu1 hu bv1 bv2 bl.1 bl.2 (by omega) (fun e => ?_) (fun c => ?_) (fun c => ?_)
      · have := bv3 (xr_new hB hI uN vN hu e)
        omega
      · refine hpost d s b di sp be (bf_skip hI xr_dn (fun _ _ => ?_)) hR
        unfold cf_lx
        omega
      · refine hpost _ _ _ _ _ _ (bf_step hp ha (fun L q1 q2 => (hB L q1 q2).2) hI xr_dn harc hu c) (fun e he => ?_)
        by_cases z : e = k % 12
        · subst z
          rw [pk_us, pk_us, pk_us, bf_ux, bf_ux, bf_ux]
          exact ⟨rfl, rfl, rfl⟩
        · rw [pk_un z, pk_un z, pk_un z, bf_un z, bf_un z, bf_un z]
          exact hR e he
    refine xb_br hm (by omega) (fun iv => ⟨vi, ?_⟩) (fun iv => ⟨vi, ?_⟩)
    · rw [hco _ vN]
      rw [af_li iv] at key
      exact key
    · rw [hco _ vN, zi_neg]
      rw [af_lo iv] at key
      exact key
/-- one round -/
theorem xr_108 {post : Int32 → SX → Prop} {J : Int32 → Int32 → Int32 → Int32 → (Nat → Int32) → (Nat → Int32) → (Nat → Int32) → (Nat → Int32) → (Nat → Int32) → (Nat → Int32) → (Nat → Int32) → (Nat → Int32) → (Nat → Int32) → (Nat → Int32) → (Nat → Int32) → (Nat → Int32) → (Nat → Int32) → Prop}
    {arc : Nat → Nat → Prop} {src : Nat → Prop} {p : Nat → Int} {K : Nat → Int} {m r : Nat}
    (hN : N ≤ 12) (hm : m < 4096) (hco : ∀ e, e < N → co e = zi_z (K e)) (hA : xd_A arc ar 144) (hB : xr_B N (af_l K m.testBit))
    (hp : ∀ u v, arc u v → p v ≤ p u + af_l K m.testBit v) (ha : ∀ u v, arc u v → u < N ∧ v < N ∧ u ≠ v)
    (hJ : ∀ (d' : Nat → Int) (s' : Nat → Nat) (b' : Nat → Option Nat) (di' sp' be' : Nat → Int32), bf_I arc src (af_l K m.testBit) 1073741824 N (r + 1) (fun _ _ => False) d' s' b' →
      xr_R N d' s' b' di' sp' be' → J (nI (r + 1)) (nI n) (nI N) sz us vs cs ws qs co ch ro ud di' sp' be' ar) :
    ∀ (q k fuel : Nat) (d : Nat → Int) (s : Nat → Nat) (b : Nat → Option Nat) (di sp be : Nat → Int32), k + q = 144 → q < fuel → bf_I arc src (af_l K m.testBit) 1073741824 N r (xr_don k) d s b →
      xr_R N d s b di sp be → wX_augment_108 post J (nI m) bar (nI r) fuel (nI k) (nI n) (nI N) sz us vs cs ws qs co ch ro ud di sp be ar := by
  intro q
  induction q with
  | zero =>
    intro k fuel d s b di sp be hk hfu hI hR
    obtain ⟨g, rfl, hg⟩ := cx_fu hfu
    refine br_t (nI_le (a := 144) (by omega) (by omega)) (nm_r (nI_1 r) (hJ d s b di sp be (bf_next hI (fun u v h => ?_)) hR))
    obtain ⟨h1, h2, _⟩ := ha u v h
    unfold xr_don
    omega
  | succ q ih =>
    intro k fuel d s b di sp be hk hfu hI hR
    obtain ⟨g, rfl, hg⟩ := cx_fu hfu
    refine br_f (nI_ge (b := 144) (by omega) (by omega)) ⟨by decide, by decide, ?_⟩
    have e1 : nI k / 12 = nI (k / 12) := pk_div (d := 12) (by omega) (by omega) (by omega)
    have e2 : nI k - nI k / 12 * 12 = nI (k % 12) := pk_rem (d := 12) (by omega) (by omega) (by omega)
    rw [e2, e1]
    exact xr_relax hN hm hco hA hB hp ha hI hR (by omega) (fun d' s' b' di' sp' be' hI' hR' => nm_r (nI_1 k) (ih (k + 1) g d' s' b' di' sp' be' (by omega) (by omega) hI' hR'))
end
end
section
/-! X: one augmentation -/
section
variable {n N : Nat} {sz bar : Int32} {us vs cs ws qs co ch ro ud di sp be ar : Nat → Int32} {U V C Q : Nat → Nat} {W K : Nat → Int}
theorem xa_249 {post : Int32 → SX → Prop} {m T : Nat} {pth : Nat → Nat} (hT : T < 12) (hN : ∀ i, i ≤ T → pth i < 12) (hbe : ∀ i, i < T → be (pth (i + 1)) = nI (pth i))
    (h0 : be (pth 0) = -1) (hp : post (nI (af_m m pth T (T + 1))) (nI n, nI N, sz, us, vs, cs, ws, qs, co, ch, ro, ud, di, sp, be, ar)) :
    ∀ (q k fuel : Nat) (x : Int32), k + q = T + 1 → q < fuel → (k ≤ T ∧ x = nI (pth (T - k)) ∨ k = T + 1 ∧ x = -1) →
    wX_augment_249 post (nI n) (nI N) sz us vs cs ws qs co ch ro ud di sp be ar fuel (nI (af_m m pth T k)) x (nI k) := by
  intro q
  induction q with
  | zero =>
    intro k fuel x hk hfu hx
    obtain ⟨g, rfl, hg⟩ := cx_fu hfu
    have e : k = T + 1 := by omega
    subst e
    have ex : x = -1 := by
      rcases hx with ⟨z, _⟩ | ⟨_, z⟩
      · omega
      · exact z
    subst ex
    exact pk_le 12 (T + 1) (fun _ => hp) (fun _ => br_t rfl hp) rfl rfl (by omega) (by omega)
  | succ q ih =>
    intro k fuel x hk hfu hx
    obtain ⟨g, rfl, hg⟩ := cx_fu hfu
    have ex : x = nI (pth (T - k)) := by
      rcases hx with ⟨_, z⟩ | ⟨z, _⟩
      · exact z
      · omega
    subst ex
    have hl := hN (T - k) (by omega)
    have hne : ¬ nI (pth (T - k)) = -1 := by
      intro z
      have := nI_pos (n := pth (T - k)) (by omega)
      rw [z] at this
      exact this (by decide)
    refine br_f (nI_ge (b := 12) (by omega) (by omega)) (br_f hne (nm_r (e' := nI (af_m m pth T (k + 1))) ?_ ⟨vp_in_nI hl (by omega), nm_e (nm_r (nI_1 k) (ih (k + 1) g _ (by omega) (by omega) ?_))⟩))
    · rw [xb_p (by omega), nx_xor]
      rfl
    · rw [nI_clamp (by omega)]
      by_cases c : k = T
      · refine Or.inr ⟨by omega, ?_⟩
        rw [c, Nat.sub_self]
        exact h0
      · refine Or.inl ⟨by omega, ?_⟩
        have e : T - k = (T - (k + 1)) + 1 := by omega
        rw [e]
        exact hbe (T - (k + 1)) (by omega)
theorem xa_near {post : Int32 → Prop} {x y : Nat} {d : Nat → Int} {s : Nat → Nat} {b : Nat → Option Nat} (hN : N ≤ 12) (hx : x < N) (hy : y < N) (hR : xr_R N d s b di sp be)
    (b1 : -1073741824 < d x) (b2 : d x < 1073741824) (b3 : -1073741824 < d y) (b4 : d y < 1073741824) (s1 : s x < 100) (s2 : s y < 100)
    (h1 : (d x < d y ∨ (d x = d y ∧ s x < s y)) → post 1) (h0 : ¬ (d x < d y ∨ (d x = d y ∧ s x < s y)) → post 0) : wpX_isNearer post (nI n, nI N, sz, us, vs, cs, ws, qs, co, ch, ro, ud, di, sp, be, ar) (nI x) (nI y) := by
  have xi : vp_in (nI x) 12 := vp_in_nI (by omega) (by omega)
  have yi : vp_in (nI y) 12 := vp_in_nI (by omega) (by omega)
  unfold wpX_isNearer
  dsimp only
  rw [nI_clamp (show x < 2 ^ 31 by omega), nI_clamp (show y < 2 ^ 31 by omega), (hR x hx).1, (hR y hy).1, (hR x hx).2.1, (hR y hy).2.1,
    zi_lt (by omega) (by omega) (by omega) (by omega), zi_eq (by omega) (by omega) (by omega) (by omega)]
  refine ⟨xi, yi, br_c (fun c => h1 (Or.inl c)) (fun c => ⟨xi, yi, br_c (fun c2 => ⟨xi, yi, ?_⟩) (fun c2 => h0 (by omega))⟩)⟩
  exact pk_le (s y) (s x) (fun q => h0 (by omega)) (fun q => h1 (by omega)) rfl rfl (by omega) (by omega)
/-- the best candidate so far -/
def xa_E (cand : Nat → Prop) (d : Nat → Int) (s : Nat → Nat) (e : Nat) (o : Option Nat) : Prop :=
  (o = none → ∀ z, z < e → ¬ cand z) ∧ ∀ x, o = some x → x < e ∧ cand x ∧ ∀ z, z < e → cand z → cf_lx (d x) (s x) (d z) (s z)
theorem xa_Ek {cand : Nat → Prop} {d : Nat → Int} {s : Nat → Nat} {e : Nat} {o : Option Nat} (h : xa_E cand d s e o) (hc : ¬ cand e) : xa_E cand d s (e + 1) o := by
  refine ⟨fun z x hx => ?_, fun x hx => ?_⟩
  · by_cases c : x = e
    · rw [c]
      exact hc
    · exact h.1 z x (by omega)
  · obtain ⟨a, b, f⟩ := h.2 x hx
    refine ⟨by omega, b, fun z hz hcz => ?_⟩
    by_cases c : z = e
    · rw [c] at hcz
      exact absurd hcz hc
    · exact f z (by omega) hcz
theorem xa_Ex {cand : Nat → Prop} {d : Nat → Int} {s : Nat → Nat} {e x : Nat} (h : xa_E cand d s e (some x)) (hc : ¬ (d e < d x ∨ (d e = d x ∧ s e < s x))) : xa_E cand d s (e + 1) (some x) := by
  obtain ⟨a, b, f⟩ := h.2 x rfl
  refine ⟨fun z => absurd z (by simp), fun y hy => ?_⟩
  have e1 : x = y := by
    injection hy
  subst e1
  refine ⟨by omega, b, fun z hz hcz => ?_⟩
  by_cases c : z = e
  · subst c
    unfold cf_lx
    omega
  · exact f z (by omega) hcz
theorem xa_En {cand : Nat → Prop} {d : Nat → Int} {s : Nat → Nat} {e x : Nat} (h : xa_E cand d s e (some x)) (he : cand e) (hc : d e < d x ∨ (d e = d x ∧ s e < s x)) : xa_E cand d s (e + 1) (some e) := by
  obtain ⟨a, b, f⟩ := h.2 x rfl
  refine ⟨fun z => absurd z (by simp), fun y hy => ?_⟩
  have e1 : e = y := by
    injection hy
  subst e1
  refine ⟨by omega, he, fun z hz hcz => ?_⟩
  by_cases c : z = e
  · subst c
    exact Or.inr ⟨rfl, Nat.le_refl _⟩
  · have := f z (by omega) hcz
    unfold cf_lx at this ⊢
    omega
theorem xa_E1 {cand : Nat → Prop} {d : Nat → Int} {s : Nat → Nat} {e : Nat} (h : xa_E cand d s e none) (he : cand e) : xa_E cand d s (e + 1) (some e) := by
  refine ⟨fun z => absurd z (by simp), fun y hy => ?_⟩
  have e1 : e = y := by
    injection hy
  subst e1
  refine ⟨by omega, he, fun z hz hcz => ?_⟩
  by_cases c : z = e
  · subst c
    exact Or.inr ⟨rfl, Nat.le_refl _⟩
  · exact absurd hcz (h.1 rfl z (by omega))
def xa_c (C Q : Nat → Nat) (G : Nat → Bool) (N : Nat) (I : Nat → Bool) (d : Nat → Int) (z : Nat) : Prop := I z = false ∧ d z < 1073741824 ∧ qf_P C Q G N (cf_s I z true)
theorem xa_ne {x : Nat} (h : x < 100) : ¬ nI x = -1 := by
  intro z
  have := nI_pos (n := x) (by omega)
  rw [z] at this
  exact this (by decide)
theorem xa_148 {post : Int32 → SX → Prop} {m : Nat} {d : Nat → Int} {s : Nat → Nat} {b : Nat → Option Nat} (h : cx_ok n N us vs cs ws qs U V C Q W) (hm : m < 2 ^ N)
    (h2 : qf_P C Q (gx_G bar) N m.testBit) (hR : xr_R N d s b di sp be) (hb : ∀ v, v < N → -1073741824 < d v ∧ d v ≤ 1073741824 ∧ (d v < 1073741824 → s v < N))
    (hnone : (∀ z, z < N → ¬ xa_c C Q (gx_G bar) N m.testBit d z) → ∀ ud' : Nat → Int32, post (-1) (nI n, nI N, sz, us, vs, cs, ws, qs, co, ch, ro, ud', di, sp, be, ar))
    (hsome : ∀ x, x < N → xa_c C Q (gx_G bar) N m.testBit d x → (∀ z, z < N → xa_c C Q (gx_G bar) N m.testBit d z → cf_lx (d x) (s x) (d z) (s z)) →
      ∀ ud' : Nat → Int32, ∃ f, wX_augment_249 post (nI n) (nI N) sz us vs cs ws qs co ch ro ud' di sp be ar f (nI m) (nI x) 0) :
    ∀ (q e fuel : Nat) (ud : Nat → Int32) (o : Option Nat), e + q = N → q < fuel → xa_E (xa_c C Q (gx_G bar) N m.testBit d) d s e o →
    wX_augment_148 post (nI m) bar fuel (xr_e o) (nI e) (nI n) (nI N) sz us vs cs ws qs co ch ro ud di sp be ar := by
  have hN := cx_N h
  have hm12 := xb_12 hm hN
  intro q
  induction q with
  | zero =>
    intro e fuel ud o he hfu hE
    obtain ⟨g, rfl, hg⟩ := cx_fu hfu
    have e2 : e = N := by omega
    subst e2
    refine br_t (nI_le (by omega) (by omega)) ?_
    cases o with
    | none => exact br_t rfl (hnone (hE.1 rfl) ud)
    | some x =>
      obtain ⟨a1, a2, a3⟩ := hE.2 x rfl
      exact br_f (xa_ne (by omega)) (hsome x a1 a2 a3 ud)
  | succ q ih =>
    intro e fuel ud o he hfu hE
    obtain ⟨g, rfl, hg⟩ := cx_fu hfu
    have eN : e < N := by omega
    have hi : vp_in (nI e) 12 := vp_in_nI (by omega) (by omega)
    have hc : (nI e).toNatClampNeg = e := nI_clamp (by omega)
    have Kk : ∀ (ud' : Nat → Int32) (o' : Option Nat), xa_E (xa_c C Q (gx_G bar) N m.testBit d) d s (e + 1) o' →
        wX_augment_148 post (nI m) bar g (xr_e o') (nI (e + 1)) (nI n) (nI N) sz us vs cs ws qs co ch ro ud' di sp be ar := fun ud' o' z => ih (e + 1) g ud' o' (by omega) (by omega) z
    have k176 : ¬ xa_c C Q (gx_G bar) N m.testBit d e → wX_augment_176 post (wX_augment_148 post (nI m) bar g) (nI m) bar (xr_e o) (nI e) (nI n) (nI N) sz us vs cs ws qs co ch ro ud di sp be ar := by
      intro z
      unfold wX_augment_176 wX_augment_177
      exact br_t rfl (nm_r (nI_1 e) (Kk ud o (xa_Ek hE z)))
    refine br_f (nI_ge (by omega) (by omega)) (xb_br0 hm12 (by omega) (fun ix => br_c (fun qb => k176 (fun z => gx_f qb (z.2.2.1 e (cf_sx _ _ _)).2)) (fun qb => ?_)) (fun ix => k176 (fun z => ?_)))
    · have Ge := gx_t.mpr qb
      unfold wX_augment_177
      refine br_f xb_10 ⟨hi, ?_⟩
      obtain ⟨b1, b2, b3⟩ := hb e eN
      rw [hc, (hR e eN).1, xr_F, zi_le (by omega) (by omega) (by omega) (by omega)]
      refine br_c (fun c => nm_r (nI_1 e) (Kk ud o (xa_Ek hE (fun z => ?_)))) (fun c => ?_)
      · have := z.2.1
        omega
      rw [xb_p (by omega), xb_or]
      have key : qx_F C Q (m ||| 2 ^ e).testBit N ↔ qf_P C Q (gx_G bar) N (cf_s m.testBit e true) := by
        rw [xb_ins, px_s2 h2 eN Ge]
      refine xq_quotas h (xb_12 (xb_orl hm eN) hN) (fun F ud' => br_f xb_10 ?_) (fun F ud' => br_t rfl (nm_r (nI_1 e) (Kk ud' o (xa_Ek hE (fun z => F (key.mpr z.2.2))))))
      have hcand : xa_c C Q (gx_G bar) N m.testBit d e := ⟨ix, by omega, key.mp F⟩
      cases o with
      | none => exact br_t rfl (nm_r (nI_1 e) (Kk ud' (some e) (xa_E1 hE hcand)))
      | some x =>
        obtain ⟨a1, a2, a3⟩ := hE.2 x rfl
        obtain ⟨c1, c2, c3⟩ := hb x (by omega)
        have sx := c3 a2.2.1
        have se := b3 (by omega)
        have dx := a2.2.1
        refine br_f (xa_ne (by omega)) (xa_near hN eN (by omega) hR b1 (by omega) c1 (by omega) (by omega) (by omega) (fun z => br_f xb_10 (nm_r (nI_1 e) (Kk ud' (some e) (xa_En hE hcand z)))) (fun z => br_t rfl (nm_r (nI_1 e) (Kk ud' (some x) (xa_Ex hE z)))))
    · rw [z.1] at ix
      exact absurd ix (by decide)
/-- the first lengths -/
noncomputable def xa_D (src : Nat → Prop) (l : Nat → Int) : Nat → Int := fun v => haveI := Classical.propDecidable (src v); if src v then l v else 1073741824
theorem xa_Dt {src : Nat → Prop} {l : Nat → Int} {v : Nat} (h : src v) : xa_D src l v = l v := by
  unfold xa_D
  rw [if_pos h]
theorem xa_Df {src : Nat → Prop} {l : Nat → Int} {v : Nat} (h : ¬ src v) : xa_D src l v = 1073741824 := by
  unfold xa_D
  rw [if_neg h]
def xa_i (src : Nat → Prop) (l : Nat → Int) (e : Nat) (di sp be : Nat → Int32) : Prop := ∀ i, i < e → di i = zi_z (xa_D src l i) ∧ sp i = 0 ∧ be i = -1
theorem xa_is {src : Nat → Prop} {l : Nat → Int} {e : Nat} {x : Int32} (h : xa_i src l e di sp be) {di' : Nat → Int32} (h1 : ∀ i, i ≠ e → di' i = di i) (h2 : di' e = x) (hx : x = zi_z (xa_D src l e)) :
    xa_i src l (e + 1) di' (upd sp e 0) (upd be e (-1)) := by
  intro i hi
  by_cases c : i = e
  · subst c
    rw [h2, pk_us, pk_us]
    exact ⟨hx, rfl, rfl⟩
  · rw [h1 i c, pk_un c, pk_un c]
    exact h i (by omega)
theorem xa_8 {post : Int32 → SX → Prop} {m : Nat} (h : cx_ok n N us vs cs ws qs U V C Q W) (hm : m < 2 ^ N) (h1 : gf_P U V (gx_G bar) N m.testBit) (hco : ∀ e, e < N → co e = zi_z (K e))
    (hp : ∀ ro' di' sp' be' : Nat → Int32, xa_i (af_src (gf_P U V (gx_G bar) N) m.testBit) (af_l K m.testBit) N di' sp' be' → ∃ f, wX_augment_97 post (nI m) bar f 0 (nI n) (nI N) sz us vs cs ws qs co ch ro' ud di' sp' be' ar) :
    ∀ (q e fuel : Nat) (ro di sp be : Nat → Int32), e + q = N → q < fuel → xa_i (af_src (gf_P U V (gx_G bar) N) m.testBit) (af_l K m.testBit) e di sp be →
    wX_augment_8 post (nI m) bar fuel (nI e) (nI n) (nI N) sz us vs cs ws qs co ch ro ud di sp be ar := by
  have hN := cx_N h
  have hm12 := xb_12 hm hN
  intro q
  induction q with
  | zero =>
    intro e fuel ro di sp be he hfu hi
    obtain ⟨g, rfl, hg⟩ := cx_fu hfu
    have e2 : e = N := by omega
    subst e2
    exact br_t (nI_le (by omega) (by omega)) (hp ro di sp be hi)
  | succ q ih =>
    intro e fuel ro di sp be he hfu hinv
    obtain ⟨g, rfl, hg⟩ := cx_fu hfu
    have eN : e < N := by omega
    have hi : vp_in (nI e) 12 := vp_in_nI (by omega) (by omega)
    have hc : (nI e).toNatClampNeg = e := nI_clamp (by omega)
    have Kk : ∀ (ro' di' sp' be' : Nat → Int32), xa_i (af_src (gf_P U V (gx_G bar) N) m.testBit) (af_l K m.testBit) (e + 1) di' sp' be' →
        wX_augment_8 post (nI m) bar g (nI (e + 1)) (nI n) (nI N) sz us vs cs ws qs co ch ro' ud di' sp' be' ar := fun ro' di' sp' be' z => ih (e + 1) g ro' di' sp' be' (by omega) (by omega) z
    have no : ¬ af_src (gf_P U V (gx_G bar) N) m.testBit e → xa_i (af_src (gf_P U V (gx_G bar) N) m.testBit) (af_l K m.testBit) (e + 1) (upd di e 1073741824) (upd sp e 0) (upd be e (-1)) := by
      intro z
      refine xa_is hinv (fun i hi => pk_un hi) pk_us ?_
      rw [xa_Df z]
      rfl
    refine br_f (nI_ge (by omega) (by omega)) (xb_br hm12 (by omega) (fun ix => ?_) (fun ix => ?_))
    · unfold wX_augment_30
      rw [hc]
      refine ⟨hi, nm_e ⟨hi, nm_e ⟨hi, nm_e (br_f xb_10 (nm_r (nI_1 e) (Kk _ _ _ _ (no fun z => ?_))))⟩⟩⟩
      rw [z.1] at ix
      exact absurd ix (by decide)
    · unfold wX_augment_30
      rw [hc]
      refine ⟨hi, nm_e ⟨hi, nm_e ⟨hi, nm_e (br_t rfl (br_c (fun qb => nm_r (nI_1 e) (Kk _ _ _ _ (no fun z => gx_f qb (z.2.1 e (cf_sx _ _ _)).2))) (fun qb => ?_)))⟩⟩⟩
      have Ge := gx_t.mpr qb
      rw [xb_p (by omega), xb_or]
      have key : gf_F U V (m ||| 2 ^ e).testBit N ↔ gf_P U V (gx_G bar) N (cf_s m.testBit e true) := by
        rw [xb_ins, px_s1 h1 eN Ge]
      refine xf_forest h (xb_12 (xb_orl hm eN) hN) (fun F ro' => br_f xb_10 ⟨hi, hi, nm_e (nm_r (nI_1 e) (Kk _ _ _ _ ?_))⟩) (fun F ro' => br_t rfl (nm_r (nI_1 e) (Kk _ _ _ _ (no fun z => F (key.mpr z.2)))))
      refine xa_is hinv (fun i hi => ?_) pk_us ?_
      · rw [pk_un hi, pk_un hi]
      · rw [xa_Dt ⟨ix, key.mp F⟩, af_lo ix, hco e eN, zi_neg]
theorem xa_97 {post : Int32 → SX → Prop} {m : Nat} {arc : Nat → Nat → Prop} {src : Nat → Prop} {p : Nat → Int}
    (hN : N ≤ 12) (hm : m < 4096) (hco : ∀ e, e < N → co e = zi_z (K e)) (hA : xd_A arc ar 144) (hB : xr_B N (af_l K m.testBit))
    (hp : ∀ u v, arc u v → p v ≤ p u + af_l K m.testBit v) (ha : ∀ u v, arc u v → u < N ∧ v < N ∧ u ≠ v)
    (hJ : ∀ (d' : Nat → Int) (s' : Nat → Nat) (b' : Nat → Option Nat) (di' sp' be' : Nat → Int32), bf_I arc src (af_l K m.testBit) 1073741824 N N (fun _ _ => False) d' s' b' →
      xr_R N d' s' b' di' sp' be' → ∃ f, wX_augment_148 post (nI m) bar f (-1) 0 (nI n) (nI N) sz us vs cs ws qs co ch ro ud di' sp' be' ar) :
    ∀ (q r fuel : Nat) (d : Nat → Int) (s : Nat → Nat) (b : Nat → Option Nat) (di sp be : Nat → Int32), r + q = N → q < fuel → bf_I arc src (af_l K m.testBit) 1073741824 N r (fun _ _ => False) d s b →
      xr_R N d s b di sp be → wX_augment_97 post (nI m) bar fuel (nI r) (nI n) (nI N) sz us vs cs ws qs co ch ro ud di sp be ar := by
  intro q
  induction q with
  | zero =>
    intro r fuel d s b di sp be hr hfu hI hR
    obtain ⟨g, rfl, hg⟩ := cx_fu hfu
    have e2 : r = N := by omega
    subst e2
    exact br_t (nI_le (by omega) (by omega)) (hJ d s b di sp be hI hR)
  | succ q ih =>
    intro r fuel d s b di sp be hr hfu hI hR
    obtain ⟨g, rfl, hg⟩ := cx_fu hfu
    refine br_f (nI_ge (by omega) (by omega)) ⟨145, xr_108 hN hm hco hA hB hp ha (fun d' s' b' di' sp' be' hI' hR' => ih (r + 1) g d' s' b' di' sp' be' (by omega) (by omega) hI' hR') 144 0 145 d s b di sp be (by omega) (by omega) ?_ hR⟩
    obtain ⟨i1, i2, i3, i4, i5⟩ := hI
    refine ⟨i1, i2, i3, i4, fun u v z1 z2 => ?_⟩
    rcases i5 u v z1 z2 with z | z
    · exact Or.inl z
    · refine Or.inr ⟨z.1, fun y => ?_⟩
      unfold xr_don at y
      omega
theorem xa_aug {post : Int32 → SX → Prop} {m : Nat} (h : cx_ok n N us vs cs ws qs U V C Q W) (hm : m < 2 ^ N) (hco : ∀ e, e < N → co e = zi_z (K e)) (hB : xr_B N (af_l K m.testBit))
    (hC : cf_C N (gf_P U V (gx_G bar) N) (qf_P C Q (gx_G bar) N) K m.testBit)
    (hyes : ∀ m', m' < 2 ^ N → cf_C N (gf_P U V (gx_G bar) N) (qf_P C Q (gx_G bar) N) K m'.testBit → cf_n m'.testBit N = cf_n m.testBit N + 1 →
      ∀ ro' ud' di' sp' be' ar' : Nat → Int32, post (nI m') (nI n, nI N, sz, us, vs, cs, ws, qs, co, ch, ro', ud', di', sp', be', ar'))
    (hno : (∀ J : Nat → Bool, gf_P U V (gx_G bar) N J → qf_P C Q (gx_G bar) N J → cf_n J N ≤ cf_n m.testBit N) →
      ∀ ro' ud' di' sp' be' ar' : Nat → Int32, post (-1) (nI n, nI N, sz, us, vs, cs, ws, qs, co, ch, ro', ud', di', sp', be', ar')) :
    wpX_augment post (nI n, nI N, sz, us, vs, cs, ws, qs, co, ch, ro, ud, di, sp, be, ar) (nI m) bar := by
  have hN := cx_N h
  have hm12 := xb_12 hm hN
  have m1 := gf_M (gx_G bar) (cx_UV h)
  have m2 := qf_M (Q := Q) (gx_G bar) (fun e he => cx_C h he)
  obtain ⟨h1, h2, _⟩ := cf_Cb hC
  obtain ⟨p, hp⟩ := af_p m1 m2 hC
  have ha := af_N m1 m2 h1
  have hBu : ∀ L : List Nat, L.Nodup → (∀ e, e ∈ L → e < N) → bf_s (af_l K m.testBit) L < 1073741824 := fun L q1 q2 => (hB L q1 q2).2
  unfold wpX_augment
  dsimp only
  refine xd_draw h hm h1 h2 (fun ro1 ud1 ar1 hA => ⟨N + 1, xa_8 h hm h1 hco (fun ro2 di2 sp2 be2 hi => ?_) N 0 (N + 1) _ _ _ _ (by omega) (by omega) (fun i hi => absurd hi (by omega))⟩)
  have hI0 : bf_I (px_A U V C Q (gx_G bar) N m.testBit) (af_src (gf_P U V (gx_G bar) N) m.testBit) (af_l K m.testBit) 1073741824 N 0 (fun _ _ => False)
      (xa_D (af_src (gf_P U V (gx_G bar) N) m.testBit) (af_l K m.testBit)) (fun _ => 0) (fun _ => none) :=
    bf_init (fun v hv => (xr_Bl hB hv).2) (fun v hv => m1.2.2 _ hv.2 v (cf_sx _ _ _)) (fun _ _ => rfl) (fun _ _ => rfl) (fun v hv => xa_Dt hv) (fun v _ hv => xa_Df hv) ha
  refine ⟨N + 1, xa_97 hN hm12 hco hA hB hp ha (fun d s b di3 sp3 be3 hI hR => ?_) N 0 (N + 1) _ _ _ _ _ _ (by omega) (by omega) hI0 (fun v hv => ⟨(hi v hv).1, (hi v hv).2.1, (hi v hv).2.2⟩)⟩
  refine ⟨N + 1, xa_148 h hm h2 hR (fun v hv => xr_bd hB hI hv) (fun z ud4 => ?_) (fun x xN xc xm ud4 => ?_) N 0 (N + 1) ud1 none (by omega) (by omega) ⟨fun _ z hz => absurd hz (by omega), fun x hx => absurd hx (by simp)⟩⟩
  · exact hno (af_max m1 m2 h1 h2 hBu hI (fun y yN iy dy py => z y yN ⟨iy, dy, py⟩)) _ _ _ _ _ _
  · obtain ⟨pth, t, e1, e2, e3, hP, e4, e5, e6⟩ := af_end m1 m2 h1 hBu hI xc.1 xN xc.2.1 xc.2.2 (fun z zN iz dz pz => xm z zN ⟨iz, dz, pz⟩)
    obtain ⟨r1, r2⟩ := af_res (m := m) (fun i j hi hj e => cf_ptn hP hi hj e) e4 hm hP.2.2.2.2.2.1 (fun j hj => (hP.2.2.2.2.2.2.1 j hj).1)
    obtain ⟨c1, c2⟩ := cf_aug m1 m2 hC hP r1
    refine ⟨2 * t + 2, xa_249 (m := m) (T := 2 * t) (pth := pth) (by omega) (fun i hi => by have := e4 i hi; omega) (fun i hi => ?_) ?_ (hyes _ r2 c1 c2 _ _ _ _ _ _) (2 * t + 1) 0 (2 * t + 2) (nI x) (by omega) (by omega) (Or.inl ⟨by omega, ?_⟩)⟩
    · rw [(hR _ (e4 (i + 1) (by omega))).2.2, e5 i hi]
      rfl
    · rw [(hR _ (e4 0 (by omega))).2.2, e6]
      rfl
    · rw [Nat.sub_zero, e2]
end
end
section
/-! X: growing, the best size; bounds on costs -/
theorem kx_p {e : Nat} (h : e < 12) : (1 : Int) ≤ ((2 ^ e : Nat) : Int) ∧ ((2 ^ e : Nat) : Int) ≤ 2048 := by
  have h1 : 2 ^ e ≤ 2 ^ 11 := Nat.pow_le_pow_right (by omega) (by omega)
  have h2 : 0 < 2 ^ e := Nat.two_pow_pos e
  omega
/-- the costs, with a great one added at f -/
def kx_K (W K : Nat → Int) (N f : Nat) : Prop := ∀ e, e < N → K e = kx_c W e + (if e = f then 67108864 else 0)
theorem kx_B {W K : Nat → Int} {N f : Nat} (hN : N ≤ 12) (hW : ∀ e, e < N → -20 ≤ W e ∧ W e ≤ 50) (hK : kx_K W K N f) (I : Nat → Bool) : xr_B N (af_l K I) := by
  intro L hnd hm
  have hlen : L.length ≤ (List.range N).length := hnd.length_le_of_subset (fun e he => List.mem_range.mpr (hm e he))
  rw [List.length_range] at hlen
  have q := bf_sum (l := af_l K I) (N := N) (f := f) (K := 206848) (E := 67108864) (by omega) (by omega) (fun e he => by
    have a := hW e he
    have b := kx_p (e := e) (by omega)
    have c := hK e he
    have d : kx_c W e = 4096 * W e + ((2 ^ e : Nat) : Int) := rfl
    have k1 : K e = 4096 * W e + ((2 ^ e : Nat) : Int) + (if e = f then 67108864 else 0) := by omega
    generalize ((2 ^ e : Nat) : Int) = z at *
    have z0 : (0 : Int) ≤ (if e = f then 67108864 else 0) := by
      split <;> omega
    generalize (if e = f then (67108864 : Int) else 0) = y at *
    cases i : I e
    · rw [af_lo i]
      omega
    · rw [af_li i]
      omega) L hnd hm
  have z0 : (0 : Int) ≤ (if f ∈ L then 67108864 else 0) ∧ (if f ∈ L then (67108864 : Int) else 0) ≤ 67108864 := by
    split <;> omega
  omega
theorem kx_w {w : Nat → Int} {S : Nat → Bool} : ∀ N, (∀ e, e < N → -67315712 ≤ w e ∧ w e ≤ 67315712) → -(67315712 * (N : Int)) ≤ cf_w w S N ∧ cf_w w S N ≤ 67315712 * (N : Int) := by
  intro N
  induction N with
  | zero =>
    intro _
    show -(67315712 * ((0 : Nat) : Int)) ≤ 0 ∧ 0 ≤ 67315712 * ((0 : Nat) : Int)
    omega
  | succ k ih =>
    intro h
    have i := ih (fun e he => h e (by omega))
    have hk := h k (by omega)
    show -(67315712 * ((k + 1 : Nat) : Int)) ≤ cf_w w S k + (if S k = true then w k else 0) ∧ cf_w w S k + (if S k = true then w k else 0) ≤ 67315712 * ((k + 1 : Nat) : Int)
    split <;> omega
theorem kx_b {W K : Nat → Int} {N f : Nat} (hN : N ≤ 12) (hW : ∀ e, e < N → -20 ≤ W e ∧ W e ≤ 50) (hK : kx_K W K N f) (S : Nat → Bool) : -2147483648 ≤ cf_w K S N ∧ cf_w K S N < 2147483648 := by
  have := kx_w (w := K) (S := S) N (fun e he => by
    have a := hW e he
    have b := kx_p (e := e) (by omega)
    have c := hK e he
    have d : kx_c W e = 4096 * W e + ((2 ^ e : Nat) : Int) := rfl
    generalize ((2 ^ e : Nat) : Int) = z at *
    split at c <;> omega)
  omega
section
variable {n N : Nat} {sz bar : Int32} {us vs cs ws qs co ch ro ud di sp be ar : Nat → Int32} {U V C Q : Nat → Nat} {W K : Nat → Int}
/-- best sets of the sizes 0 .. k -/
def xg_C (U V C Q : Nat → Nat) (G : Nat → Bool) (N : Nat) (K : Nat → Int) (c : Nat → Nat) (k : Nat) : Prop :=
  ∀ i, i ≤ k → c i < 2 ^ N ∧ cf_C N (gf_P U V G N) (qf_P C Q G N) K (c i).testBit ∧ cf_n (c i).testBit N = i
theorem xg_14 {post : SX → Prop} (h : cx_ok n N us vs cs ws qs U V C Q W) (hco : ∀ e, e < N → co e = zi_z (K e)) (hB : ∀ I : Nat → Bool, xr_B N (af_l K I))
    (hp : ∀ (k : Nat) (c : Nat → Nat), k ≤ 6 → xg_C U V C Q (gx_G bar) N K c k → (∀ J : Nat → Bool, gf_P U V (gx_G bar) N J → qf_P C Q (gx_G bar) N J → cf_n J N ≤ k) →
      ∀ ch' ro' ud' di' sp' be' ar' : Nat → Int32, (∀ i, i ≤ k → ch' i = nI (c i)) → post (nI n, nI N, nI (k + 1), us, vs, cs, ws, qs, co, ch', ro', ud', di', sp', be', ar')) :
    ∀ (q k fuel : Nat) (c : Nat → Nat) (ch ro ud di sp be ar : Nat → Int32), k + q = 6 → q < fuel → xg_C U V C Q (gx_G bar) N K c k → (∀ i, i ≤ k → ch i = nI (c i)) →
    wX_grow_14 post bar fuel (nI k) (nI n) (nI N) (nI (k + 1)) us vs cs ws qs co ch ro ud di sp be ar := by
  have hN := cx_N h
  intro q
  induction q with
  | zero =>
    intro k fuel c ch ro ud di sp be ar hk hfu hc hch
    obtain ⟨g, rfl, hg⟩ := cx_fu hfu
    refine br_t (nI_le (a := 6) (by omega) (by omega)) (hp k c (by omega) hc (fun J j1 j2 => ?_) ch ro ud di sp be ar hch)
    have := gf_small (by have := h.1; omega) (cx_UV h) j1.2
    have := cx_n h
    omega
  | succ q ih =>
    intro k fuel c ch ro ud di sp be ar hk hfu hc hch
    obtain ⟨g, rfl, hg⟩ := cx_fu hfu
    refine br_f (nI_ge (b := 6) (by omega) (by omega)) ⟨vp_in_nI (by omega) (by omega), ?_⟩
    rw [nI_clamp (by omega), hch k (Nat.le_refl _)]
    obtain ⟨c1, c2, c3⟩ := hc k (Nat.le_refl _)
    refine xa_aug h c1 hco (hB _) c2 (fun m' hm' hC' hn' ro' ud' di' sp' be' ar' => ?_) (fun hmax ro' ud' di' sp' be' ar' => ?_)
    · have hm12 := xb_12 hm' hN
      refine br_t (nI_pos' (by omega)) ⟨vp_in_nI (by omega) (by omega), nm_e (nm_r (nI_1 (k + 1)) (nm_r (nI_1 k) (ih (k + 1) g (bf_u c (k + 1) m') _ _ _ _ _ _ _ (by omega) (by omega) (fun i hi => ?_) (fun i hi => ?_))))⟩
      · by_cases z : i = k + 1
        · rw [z, bf_ux]
          exact ⟨hm', hC', by omega⟩
        · rw [bf_un z]
          exact hc i (by omega)
      · rw [nI_clamp (by omega)]
        by_cases z : i = k + 1
        · rw [z, pk_us, bf_ux]
        · rw [pk_un z, bf_un z]
          exact hch i (by omega)
    · refine br_f (by decide) (hp k c (by omega) hc (fun J j1 j2 => ?_) ch ro' ud' di' sp' be' ar' hch)
      have := hmax J j1 j2
      omega
theorem xg_grow {post : SX → Prop} (h : cx_ok n N us vs cs ws qs U V C Q W) (hco : ∀ e, e < N → co e = zi_z (K e)) (hB : ∀ I : Nat → Bool, xr_B N (af_l K I))
    (hp : ∀ (k : Nat) (c : Nat → Nat), k ≤ 6 → xg_C U V C Q (gx_G bar) N K c k → (∀ J : Nat → Bool, gf_P U V (gx_G bar) N J → qf_P C Q (gx_G bar) N J → cf_n J N ≤ k) →
      ∀ ch' ro' ud' di' sp' be' ar' : Nat → Int32, (∀ i, i ≤ k → ch' i = nI (c i)) → post (nI n, nI N, nI (k + 1), us, vs, cs, ws, qs, co, ch', ro', ud', di', sp', be', ar')) :
    wpX_grow post (nI n, nI N, sz, us, vs, cs, ws, qs, co, ch, ro, ud, di, sp, be, ar) bar := by
  unfold wpX_grow
  dsimp only
  refine nm_e ⟨7, xg_14 h hco hB hp 6 0 7 (fun _ => 0) _ ro ud di sp be ar (by omega) (by omega) (fun i hi => ?_) (fun i hi => ?_)⟩
  · have e : i = 0 := by omega
    subst e
    refine ⟨Nat.two_pow_pos N, ?_, ?_⟩
    · rw [xb_0]
      exact cf_C0 (gf_P0 _ _ _ _) (qf_P0 _ _ _ _) (gf_M (gx_G bar) (cx_UV h)) (qf_M (gx_G bar) (fun e he => cx_C h he))
    · rw [xb_0, cf_nf]
  · have e : i = 0 := by omega
    subst e
    rw [pk_us]
    rfl
theorem xg_bs4 {post : Int32 → Prop} {f kk : Nat} {c : Nat → Nat} (hN : N ≤ 12) (hW : ∀ e, e < N → -20 ≤ W e ∧ W e ≤ 50) (hK : kx_K W K N f) (hco : ∀ e, e < N → co e = zi_z (K e))
    (hkk : kk ≤ 6) (hc : ∀ i, i ≤ kk → c i < 2 ^ N) (hch : ∀ i, i ≤ kk → ch i = nI (c i))
    (hp : ∀ t, t ≤ kk → (∀ i, i ≤ kk → cf_w K (c i).testBit N ≤ cf_w K (c t).testBit N) → post (nI t)) :
    ∀ (q k fuel t : Nat), k + q = kk + 1 → q < fuel → t < k → (∀ i, i < k → cf_w K (c i).testBit N ≤ cf_w K (c t).testBit N) →
    wX_bestSize_4 post (nI n) (nI N) (nI (kk + 1)) us vs cs ws qs co ch ro ud di sp be ar fuel (nI t) (nI k) := by
  intro q
  induction q with
  | zero =>
    intro k fuel t hk hfu ht hm
    obtain ⟨g, rfl, hg⟩ := cx_fu hfu
    exact br_t (nI_le (by omega) (by omega)) (hp t (by omega) (fun i hi => hm i (by omega)))
  | succ q ih =>
    intro k fuel t hk hfu ht hm
    obtain ⟨g, rfl, hg⟩ := cx_fu hfu
    have b1 := kx_b hN hW hK (c k).testBit
    have b2 := kx_b hN hW hK (c t).testBit
    refine br_f (nI_ge (by omega) (by omega)) ⟨vp_in_nI (by omega) (by omega), ?_⟩
    rw [nI_clamp (show k < 2 ^ 31 by omega), nI_clamp (show t < 2 ^ 31 by omega), hch k (by omega), hch t (by omega)]
    refine xs_cost hN hco (xb_12 (hc k (by omega)) hN) ⟨vp_in_nI (by omega) (by omega), ?_⟩
    refine xs_cost hN hco (xb_12 (hc t (by omega)) hN) ?_
    rw [zi_le b1.1 b1.2 b2.1 b2.2]
    refine br_c (fun z => nm_r (nI_1 k) (ih (k + 1) g t (by omega) (by omega) (by omega) (fun i hi => ?_))) (fun z => nm_r (nI_1 k) (ih (k + 1) g k (by omega) (by omega) (by omega) (fun i hi => ?_)))
    · by_cases y : i = k
      · rw [y]
        exact z
      · exact hm i (by omega)
    · by_cases y : i = k
      · rw [y]
        exact Int.le_refl _
      · have := hm i (by omega)
        omega
theorem xg_best {post : Int32 → Prop} {f kk : Nat} {c : Nat → Nat} (hN : N ≤ 12) (hW : ∀ e, e < N → -20 ≤ W e ∧ W e ≤ 50) (hK : kx_K W K N f) (hco : ∀ e, e < N → co e = zi_z (K e))
    (hkk : kk ≤ 6) (hc : ∀ i, i ≤ kk → c i < 2 ^ N) (hch : ∀ i, i ≤ kk → ch i = nI (c i))
    (hp : ∀ t, t ≤ kk → (∀ i, i ≤ kk → cf_w K (c i).testBit N ≤ cf_w K (c t).testBit N) → post (nI t)) :
    wpX_bestSize post (nI n, nI N, nI (kk + 1), us, vs, cs, ws, qs, co, ch, ro, ud, di, sp, be, ar) := by
  refine Exists.intro (kk + 1) (xg_bs4 hN hW hK hco hkk hc hch hp kk 1 (kk + 1) 0 (by omega) (by omega) (by omega) (fun i hi => ?_))
  have e : i = 0 := by omega
  rw [e]
  exact Int.le_refl _
end
end
section
/-! Y: bits, sums, forests, quotas -/
section
variable {n N : Nat} {us vs cs ws qs qy la uy : Nat → Int32} {U V C Q : Nat → Nat} {W : Nat → Int}
theorem yb_in {post : Int32 → Prop} {m e : Nat} (hm : m < 4096) (he : e < 31) (ht : m.testBit e = true → post 1) (hf : m.testBit e = false → post 0) : wpY_in post (nI n, nI N, us, vs, cs, ws, qy, la, uy) (nI m) (nI e) :=
  xb_br hm he ht hf
theorem ys_4 {post : Int32 → Prop} {m : Nat} (hm : m < 4096) (hp : post (nI (cf_n m.testBit 12))) :
    ∀ (k e fuel : Nat), e + k = 12 → k < fuel → wY_size_4 post (nI m) (nI n) (nI N) us vs cs ws qy la uy fuel (nI (cf_n m.testBit e)) (nI e) := by
  intro k
  induction k with
  | zero =>
    intro e fuel he hfu
    obtain ⟨g, rfl, hg⟩ := cx_fu hfu
    have e2 : e = 12 := by omega
    subst e2
    exact br_t (nI_le (a := 12) (by omega) (by omega)) hp
  | succ k ih =>
    intro e fuel he hfu
    obtain ⟨g, rfl, hg⟩ := cx_fu hfu
    refine br_f (nI_ge (b := 12) (by omega) (by omega)) (nm_r (e' := nI (cf_n m.testBit (e + 1))) ?_ (nm_r (nI_1 e) (ih (e + 1) g (by omega) (by omega))))
    show _ = nI (cf_n m.testBit e + (if m.testBit e = true then 1 else 0))
    cases hb : m.testBit e
    · rw [xb_f hm (by omega) hb, if_neg (by decide)]
      exact Int32.add_zero _
    · rw [xb_t hm (by omega) hb, if_pos rfl, nI_1]
theorem yn_12 {m N : Nat} (hN : N ≤ 12) (hm : m < 2 ^ N) : cf_n m.testBit 12 = cf_n m.testBit N := by
  have key : ∀ k, cf_n m.testBit (N + k) = cf_n m.testBit N := by
    intro k
    induction k with
    | zero => rfl
    | succ k ih =>
      show cf_n m.testBit (N + k) + (if m.testBit (N + k) = true then 1 else 0) = _
      rw [Nat.testBit_lt_two_pow (Nat.lt_of_lt_of_le hm (Nat.pow_le_pow_right (by omega) (by omega)))]
      rw [ih]
      simp
  have := key (12 - N)
  rw [show N + (12 - N) = 12 by omega] at this
  exact this
theorem ys_size {post : Int32 → Prop} {m : Nat} (hN : N ≤ 12) (hm : m < 2 ^ N) (hp : post (nI (cf_n m.testBit N))) : wpY_size post (nI n, nI N, us, vs, cs, ws, qy, la, uy) (nI m) := by
  rw [← yn_12 hN hm] at hp
  exact Exists.intro 13 (ys_4 (xb_12 hm hN) hp 12 0 13 (by omega) (by omega))
theorem yt_4 {post : Int32 → Prop} {m : Nat} (h : cx_ok n N us vs cs ws qs U V C Q W) (hm : m < 4096) (hp : post (zi_z (cf_w W m.testBit N))) :
    ∀ (k e fuel : Nat), e + k = N → k < fuel → wY_total_4 post (nI m) (nI n) (nI N) us vs cs ws qy la uy fuel (zi_z (cf_w W m.testBit e)) (nI e) := by
  have hN := cx_N h
  intro k
  induction k with
  | zero =>
    intro e fuel he hfu
    obtain ⟨g, rfl, hg⟩ := cx_fu hfu
    have e2 : e = N := by omega
    subst e2
    exact br_t (nI_le (by omega) (by omega)) hp
  | succ k ih =>
    intro e fuel he hfu
    obtain ⟨g, rfl, hg⟩ := cx_fu hfu
    have eN : e < N := by omega
    have i := ih (e + 1) g (by omega) (by omega)
    refine br_f (nI_ge (by omega) (by omega)) (br_f (nI_ge (b := 12) (by omega) (by omega)) (yb_in hm (by omega) (fun hb => br_f xb_10 ⟨vp_in_nI (by omega) (by omega), nm_r (e' := zi_z (cf_w W m.testBit (e + 1))) ?_ (nm_r (nI_1 e) i)⟩)
      (fun hb => br_t rfl (nm_r (nI_1 e) ?_))))
    · rw [nI_clamp (by omega), cx_ws h eN, zi_add, xs_t hb]
    · rw [xs_f hb] at i
      exact i
theorem yt_total {post : Int32 → Prop} {m : Nat} (h : cx_ok n N us vs cs ws qs U V C Q W) (hm : m < 4096) (hp : post (zi_z (cf_w W m.testBit N))) :
    wpY_total post (nI n, nI N, us, vs, cs, ws, qy, la, uy) (nI m) := Exists.intro (N + 1) (yt_4 h hm hp N 0 (N + 1) (by omega) (by omega))
theorem yf_82 {post : Int32 → SY → Prop} {J : Int32 → (Nat → Int32) → (Nat → Int32) → (Nat → Int32) → (Nat → Int32) → (Nat → Int32) → (Nat → Int32) → (Nat → Int32) → Prop} {x1 : Int32} {f : Nat → Nat} {a b x2 : Nat}
    (hf : ∀ w, w < 8 → f w < 8) (hb : b < 8)
    (hp : ∀ la' : Nat → Int32, (∀ w, w < 8 → la' w = nI (if f w = b then a else f w)) → J (nI (x2 + 1)) us vs cs ws qy la' uy) :
    ∀ (k e fuel : Nat) (la : Nat → Int32), e + k = 8 → k < fuel → (∀ w, w < 8 → la w = nI (if w < e ∧ f w = b then a else f w)) →
    wY_forest_82 post J x1 (nI x2) (nI a) (nI b) (nI n) (nI N) fuel (nI e) us vs cs ws qy la uy := by
  intro k
  induction k with
  | zero =>
    intro e fuel ro he hfu hro
    obtain ⟨g, rfl, hg⟩ := cx_fu hfu
    refine br_t (nI_le (a := 8) (by omega) (by omega)) (nm_r (nI_1 x2) (hp ro fun w hw => ?_))
    rw [hro w hw]
    have h : w < e := by omega
    simp [h]
  | succ k ih =>
    intro e fuel ro he hfu hro
    obtain ⟨g, rfl, hg⟩ := cx_fu hfu
    have hi : vp_in (nI e) 8 := vp_in_nI (by omega) (by omega)
    have hc : (nI e).toNatClampNeg = e := nI_clamp (by omega)
    have he' : ro e = nI (f e) := by
      rw [hro e (by omega)]
      simp
    have hfe := hf e (by omega)
    refine br_f (nI_ge (b := 8) (by omega) (by omega)) ⟨hi, ?_⟩
    rw [hc, he']
    by_cases q : f e = b
    · refine br_t (by rw [q]) ⟨hi, nm_e (nm_r (nI_1 e) (ih (e + 1) g _ (by omega) (by omega) (fun w hw => ?_)))⟩
      by_cases c : w = e
      · subst c
        rw [pk_us, if_pos ⟨by omega, q⟩]
      · rw [pk_un c, hro w hw]
        have h : w < e ↔ w < e + 1 := by omega
        simp only [h]
    · refine br_f (fun z => q ((nI_eq (by omega) (by omega)).mp z)) (nm_r (nI_1 e) (ih (e + 1) g _ (by omega) (by omega) (fun w hw => ?_)))
      rw [hro w hw]
      by_cases c : w = e
      · subst c
        simp [q]
      · have h : w < e ↔ w < e + 1 := by omega
        simp only [h]
theorem yf_23 {post : Int32 → SY → Prop} {m : Nat} (h : cx_ok n N us vs cs ws qs U V C Q W) (hm : m < 4096)
    (ht : gf_F U V m.testBit N → ∀ la' : Nat → Int32, post 1 (nI n, nI N, us, vs, cs, ws, qy, la', uy)) (hf : ¬ gf_F U V m.testBit N → ∀ la' : Nat → Int32, post 0 (nI n, nI N, us, vs, cs, ws, qy, la', uy)) :
    ∀ (k e fuel : Nat) (la : Nat → Int32), e + k = N → k < fuel → (∀ w, w < 8 → la w = nI (gf_l U V m.testBit e w)) → gf_F U V m.testBit e →
    wY_forest_23 post (nI m) (nI n) (nI N) fuel (nI e) us vs cs ws qy la uy := by
  have hn := cx_n h
  have hN := cx_N h
  intro k
  induction k with
  | zero =>
    intro e fuel ro he hfu hro hF
    obtain ⟨g, rfl, hg⟩ := cx_fu hfu
    have e2 : e = N := by omega
    subst e2
    exact br_t (nI_le (by omega) (by omega)) (ht hF ro)
  | succ k ih =>
    intro e fuel ro he hfu hro hF
    obtain ⟨g, rfl, hg⟩ := cx_fu hfu
    have eN : e < N := by omega
    have hi : vp_in (nI e) 12 := vp_in_nI (by omega) (by omega)
    have hc : (nI e).toNatClampNeg = e := nI_clamp (by omega)
    have hU := cx_U h eN
    have hV := cx_V h eN
    have hid := gf_lid (U := U) (V := V) (n := 8) m.testBit e (fun i hi => by
      have := cx_UV h i (by omega)
      omega)
    have cU := hid.2 (U e) (by omega)
    have cV := hid.2 (V e) (by omega)
    refine br_f (nI_ge (by omega) (by omega)) (br_f (nI_ge (b := 12) (by omega) (by omega)) (yb_in hm (by omega) (fun hb => br_f xb_10 ?_) (fun hb => br_t rfl (nm_r (nI_1 e) (ih (e + 1) g ro (by omega) (by omega) ?_ ?_)))))
    · rw [hc, cx_us h eN, cx_vs h eN, nI_clamp (show U e < 2 ^ 31 by omega), nI_clamp (show V e < 2 ^ 31 by omega), hro (U e) (by omega), hro (V e) (by omega)]
      refine ⟨hi, vp_in_nI (by omega) (by omega), nm_e ⟨hi, vp_in_nI (by omega) (by omega), nm_e ?_⟩⟩
      by_cases q : gf_l U V m.testBit e (U e) = gf_l U V m.testBit e (V e)
      · exact br_t (by rw [q]) (hf (fun F => F e eN hb q) ro)
      · refine br_f (fun z => q ((nI_eq (by omega) (by omega)).mp z)) ⟨9, yf_82 (f := gf_l U V m.testBit e) hid.2 cV (fun la' hla => ih (e + 1) g la' (by omega) (by omega) ?_ ?_) 8 0 9 ro (by omega) (by omega) ?_⟩
        · intro w hw
          rw [hla w hw, gf_lt hb]
          rfl
        · intro i hi hb'
          by_cases c : i = e
          · subst c
            exact q
          · exact hF i (by omega) hb'
        · intro w hw
          rw [hro w hw]
          simp
    · intro w hw
      rw [hro w hw, gf_lf hb]
    · intro i hi hb'
      by_cases c : i = e
      · subst c
        rw [hb] at hb'
        exact absurd hb' (by decide)
      · exact hF i (by omega) hb'
theorem yf_2 {post : Int32 → SY → Prop} {m : Nat} (h : cx_ok n N us vs cs ws qs U V C Q W) (hm : m < 4096)
    (ht : gf_F U V m.testBit N → ∀ la' : Nat → Int32, post 1 (nI n, nI N, us, vs, cs, ws, qy, la', uy)) (hf : ¬ gf_F U V m.testBit N → ∀ la' : Nat → Int32, post 0 (nI n, nI N, us, vs, cs, ws, qy, la', uy)) :
    ∀ (k e fuel : Nat) (la : Nat → Int32), e + k = 8 → k < fuel → (∀ w, w < e → la w = nI w) →
    wY_forest_2 post (nI m) (nI n) (nI N) fuel (nI e) us vs cs ws qy la uy := by
  intro k
  induction k with
  | zero =>
    intro e fuel ro he hfu hro
    obtain ⟨g, rfl, hg⟩ := cx_fu hfu
    exact br_t (nI_le (a := 8) (by omega) (by omega)) ⟨N + 1, yf_23 h hm ht hf N 0 (N + 1) ro (by omega) (by omega) (fun w hw => hro w (by omega)) (fun i hi => absurd hi (by omega))⟩
  | succ k ih =>
    intro e fuel ro he hfu hro
    obtain ⟨g, rfl, hg⟩ := cx_fu hfu
    have hc : (nI e).toNatClampNeg = e := nI_clamp (by omega)
    refine br_f (nI_ge (b := 8) (by omega) (by omega)) ⟨vp_in_nI (by omega) (by omega), nm_e (nm_r (nI_1 e) (ih (e + 1) g _ (by omega) (by omega) (fun w hw => ?_)))⟩
    rw [hc]
    by_cases c : w = e
    · subst c
      rw [pk_us]
    · rw [pk_un c]
      exact hro w (by omega)
theorem yf_forest {post : Int32 → SY → Prop} {m : Nat} (h : cx_ok n N us vs cs ws qs U V C Q W) (hm : m < 4096)
    (ht : gf_F U V m.testBit N → ∀ la' : Nat → Int32, post 1 (nI n, nI N, us, vs, cs, ws, qy, la', uy)) (hf : ¬ gf_F U V m.testBit N → ∀ la' : Nat → Int32, post 0 (nI n, nI N, us, vs, cs, ws, qy, la', uy)) :
    wpY_forest post (nI n, nI N, us, vs, cs, ws, qy, la, uy) (nI m) :=
  Exists.intro 9 (yf_2 h hm ht hf 8 0 9 la (by omega) (by omega) (fun w hw => absurd hw (by omega)))
theorem yq_68 {post : Int32 → SY → Prop} {m : Nat} (h : cx_ok n N us vs cs ws qs U V C Q W) (hq : ∀ c, c < 4 → qy c = qs c)
    (ht : qx_F C Q m.testBit N → post 1 (nI n, nI N, us, vs, cs, ws, qy, la, uy)) (hf : ¬ qx_F C Q m.testBit N → post 0 (nI n, nI N, us, vs, cs, ws, qy, la, uy)) (hud : ∀ c, c < 4 → uy c = nI (cf_n (qf_s C m.testBit c) N)) :
    ∀ (k c fuel : Nat), c + k = 4 → k < fuel → (∀ i, i < c → cf_n (qf_s C m.testBit i) N ≤ Q i) →
    wY_within_68 post (nI n) (nI N) us vs cs ws qy la uy fuel (nI c) := by
  have hN := cx_N h
  intro k
  induction k with
  | zero =>
    intro c fuel he hfu hF
    obtain ⟨g, rfl, hg⟩ := cx_fu hfu
    exact br_t (nI_le (a := 4) (by omega) (by omega)) (ht (fun i hi => hF i (by omega)))
  | succ k ih =>
    intro c fuel he hfu hF
    obtain ⟨g, rfl, hg⟩ := cx_fu hfu
    have hi : vp_in (nI c) 8 := vp_in_nI (by omega) (by omega)
    have hc : (nI c).toNatClampNeg = c := nI_clamp (by omega)
    have l1 := cf_nN (qf_s C m.testBit c) N
    have l2 := cx_Q h (c := c) (by omega)
    refine br_f (nI_ge (b := 4) (by omega) (by omega)) ⟨hi, hi, ?_⟩
    rw [hc, hud c (by omega), hq c (by omega), cx_qs h (by omega)]
    refine pk_le _ _ (fun q => nm_r (nI_1 c) (ih (c + 1) g (by omega) (by omega) (fun i hi => ?_))) (fun q => hf (fun F => ?_)) rfl rfl (by omega) (by omega)
    · by_cases z : i = c
      · rw [z]
        exact q
      · exact hF i (by omega)
    · have := F c (by omega)
      omega
theorem yq_22 {post : Int32 → SY → Prop} {m : Nat} (h : cx_ok n N us vs cs ws qs U V C Q W) (hq : ∀ c, c < 4 → qy c = qs c) (hm : m < 4096)
    (ht : qx_F C Q m.testBit N → ∀ uy' : Nat → Int32, post 1 (nI n, nI N, us, vs, cs, ws, qy, la, uy')) (hf : ¬ qx_F C Q m.testBit N → ∀ uy' : Nat → Int32, post 0 (nI n, nI N, us, vs, cs, ws, qy, la, uy')) :
    ∀ (k e fuel : Nat) (uy : Nat → Int32), e + k = N → k < fuel → (∀ c, c < 4 → uy c = nI (cf_n (qf_s C m.testBit c) e)) →
    wY_within_22 post (nI m) (nI n) (nI N) fuel (nI e) us vs cs ws qy la uy := by
  have hN := cx_N h
  intro k
  induction k with
  | zero =>
    intro e fuel ud he hfu hud
    obtain ⟨g, rfl, hg⟩ := cx_fu hfu
    have e2 : e = N := by omega
    subst e2
    exact br_t (nI_le (by omega) (by omega)) ⟨5, yq_68 h hq (fun F => ht F ud) (fun F => hf F ud) hud 4 0 5 (by omega) (by omega) (fun i hi => absurd hi (by omega))⟩
  | succ k ih =>
    intro e fuel ud he hfu hud
    obtain ⟨g, rfl, hg⟩ := cx_fu hfu
    have eN : e < N := by omega
    have hi : vp_in (nI e) 12 := vp_in_nI (by omega) (by omega)
    have hc : (nI e).toNatClampNeg = e := nI_clamp (by omega)
    have hC := cx_C h eN
    have hi2 : vp_in (cs (nI e).toNatClampNeg) 8 := by
      rw [hc, cx_cs h eN]
      exact vp_in_nI (by omega) (by omega)
    refine br_f (nI_ge (by omega) (by omega)) (br_f (nI_ge (b := 12) (by omega) (by omega)) (yb_in hm (by omega) (fun hb => br_f xb_10 ⟨hi, hi2, hi2, nm_e (nm_r (nI_1 e) (ih (e + 1) g _ (by omega) (by omega) (fun c h4 => ?_)))⟩)
      (fun hb => br_t rfl (nm_r (nI_1 e) (ih (e + 1) g _ (by omega) (by omega) (fun c h4 => ?_))))))
    · rw [hc, cx_cs h eN, nI_clamp (by omega), hud (C e) hC]
      by_cases z : c = C e
      · subst z
        rw [pk_us]
        show _ = nI (cf_n (qf_s C m.testBit (C e)) e + (if qf_s C m.testBit (C e) e = true then 1 else 0))
        rw [if_pos (by rw [qf_st]; exact ⟨hb, rfl⟩), nI_1]
      · rw [pk_un z, hud c h4]
        show _ = nI (cf_n (qf_s C m.testBit c) e + (if qf_s C m.testBit c e = true then 1 else 0))
        rw [if_neg (by rw [qf_st]; exact fun y => z y.2.symm)]
        rfl
    · rw [hud c h4]
      show _ = nI (cf_n (qf_s C m.testBit c) e + (if qf_s C m.testBit c e = true then 1 else 0))
      rw [if_neg (by rw [qf_st, hb]; exact fun z => absurd z.1 (by decide))]
      rfl
theorem yq_2 {post : Int32 → SY → Prop} {m : Nat} (h : cx_ok n N us vs cs ws qs U V C Q W) (hq : ∀ c, c < 4 → qy c = qs c) (hm : m < 4096)
    (ht : qx_F C Q m.testBit N → ∀ uy' : Nat → Int32, post 1 (nI n, nI N, us, vs, cs, ws, qy, la, uy')) (hf : ¬ qx_F C Q m.testBit N → ∀ uy' : Nat → Int32, post 0 (nI n, nI N, us, vs, cs, ws, qy, la, uy')) :
    ∀ (k c fuel : Nat) (uy : Nat → Int32), c + k = 4 → k < fuel → (∀ i, i < c → uy i = 0) →
    wY_within_2 post (nI m) (nI n) (nI N) fuel (nI c) us vs cs ws qy la uy := by
  intro k
  induction k with
  | zero =>
    intro c fuel ud he hfu hud
    obtain ⟨g, rfl, hg⟩ := cx_fu hfu
    exact br_t (nI_le (a := 4) (by omega) (by omega)) ⟨N + 1, yq_22 h hq hm ht hf N 0 (N + 1) ud (by omega) (by omega) (fun i hi => hud i (by omega))⟩
  | succ k ih =>
    intro c fuel ud he hfu hud
    obtain ⟨g, rfl, hg⟩ := cx_fu hfu
    have hc : (nI c).toNatClampNeg = c := nI_clamp (by omega)
    refine br_f (nI_ge (b := 4) (by omega) (by omega)) ⟨vp_in_nI (by omega) (by omega), nm_e (nm_r (nI_1 c) (ih (c + 1) g _ (by omega) (by omega) (fun w hw => ?_)))⟩
    rw [hc]
    by_cases z : w = c
    · subst z
      rw [pk_us]
    · rw [pk_un z]
      exact hud w (by omega)
theorem yq_within {post : Int32 → SY → Prop} {m : Nat} (h : cx_ok n N us vs cs ws qs U V C Q W) (hq : ∀ c, c < 4 → qy c = qs c) (hm : m < 4096)
    (ht : qx_F C Q m.testBit N → ∀ uy' : Nat → Int32, post 1 (nI n, nI N, us, vs, cs, ws, qy, la, uy')) (hf : ¬ qx_F C Q m.testBit N → ∀ uy' : Nat → Int32, post 0 (nI n, nI N, us, vs, cs, ws, qy, la, uy')) :
    wpY_within post (nI n, nI N, us, vs, cs, ws, qy, la, uy) (nI m) :=
  Exists.intro 5 (yq_2 h hq hm ht hf 4 0 5 uy (by omega) (by omega) (fun w hw => absurd hw (by omega)))
/-- a good set -/
def gd_g (U V C Q : Nat → Nat) (N m : Nat) : Prop := gf_F U V m.testBit N ∧ qx_F C Q m.testBit N
theorem yg_good {post : Int32 → SY → Prop} {m : Nat} (h : cx_ok n N us vs cs ws qs U V C Q W) (hq : ∀ c, c < 4 → qy c = qs c) (hm : m < 4096)
    (ht : gd_g U V C Q N m → ∀ la' uy' : Nat → Int32, post 1 (nI n, nI N, us, vs, cs, ws, qy, la', uy')) (hf : ¬ gd_g U V C Q N m → ∀ la' uy' : Nat → Int32, post 0 (nI n, nI N, us, vs, cs, ws, qy, la', uy')) :
    wpY_good post (nI n, nI N, us, vs, cs, ws, qy, la, uy) (nI m) := by
  unfold wpY_good
  dsimp only
  exact yq_within h hq hm (fun F uy' => br_f xb_10 (yf_forest h hm (fun F2 la' => br_f xb_10 (ht ⟨F2, F⟩ la' uy')) (fun F2 la' => br_t rfl (hf (fun z => F2 z.1) la' uy'))))
    (fun F uy' => br_t rfl (hf (fun z => F z.2) la uy'))
end
end
section
/-! Y: the searches -/
def ys_fit (N : Nat) (x1 x2 x3 : Int32) (m : Nat) : Prop := nI m &&& x2 = x2 ∧ nI m &&& x3 = 0 ∧ (x1 < 0 ∨ nI (cf_n m.testBit N) = x1)
theorem ys_ko {W : Nat → Int} {m N : Nat} (hm : m < 2 ^ N) : cf_w (kx_c W) m.testBit N = 4096 * cf_w W m.testBit N + (m : Int) := by
  have := mk_sum W m N
  rw [Nat.mod_eq_of_lt hm] at this
  exact this
/-- the best set below e that is fit and good -/
def ys_E (fit : Nat → Prop) (W : Nat → Int) (N e : Nat) (o : Option Nat) (x5 : Int32) : Prop :=
  (o = none → ∀ m, m < e → ¬ fit m) ∧
  ∀ m, o = some m → m < e ∧ fit m ∧ x5 = zi_z (cf_w W m.testBit N) ∧ ∀ m', m' < e → fit m' → cf_w (kx_c W) m'.testBit N ≤ cf_w (kx_c W) m.testBit N
theorem ys_Ek {fit : Nat → Prop} {W : Nat → Int} {N e : Nat} {o : Option Nat} {x5 : Int32} (h : ys_E fit W N e o x5) (hc : ¬ fit e) : ys_E fit W N (e + 1) o x5 := by
  refine ⟨fun z x hx => ?_, fun x hx => ?_⟩
  · by_cases c : x = e
    · rw [c]
      exact hc
    · exact h.1 z x (by omega)
  · obtain ⟨a, b, d, f⟩ := h.2 x hx
    refine ⟨by omega, b, d, fun z hz hcz => ?_⟩
    by_cases c : z = e
    · rw [c] at hcz
      exact absurd hcz hc
    · exact f z (by omega) hcz
theorem ys_El {fit : Nat → Prop} {W : Nat → Int} {N e m : Nat} {x5 : Int32} (hN : N ≤ 12) (he : e < 2 ^ N) (h : ys_E fit W N e (some m) x5) (hl : cf_w W e.testBit N < cf_w W m.testBit N) : ys_E fit W N (e + 1) (some m) x5 := by
  obtain ⟨a, b, d, f⟩ := h.2 m rfl
  refine ⟨fun z => absurd z (by simp), fun y hy => ?_⟩
  have e1 : m = y := by
    injection hy
  subst e1
  refine ⟨by omega, b, d, fun z hz hcz => ?_⟩
  by_cases c : z = e
  · subst c
    have h12 := xb_12 he hN
    rw [ys_ko he, ys_ko (Nat.lt_trans a he)]
    omega
  · exact f z (by omega) hcz
theorem ys_En {fit : Nat → Prop} {W : Nat → Int} {N e : Nat} {o : Option Nat} {x5 : Int32} (he : e < 2 ^ N) (h : ys_E fit W N e o x5) (hf : fit e)
    (hl : ∀ m, o = some m → cf_w W m.testBit N ≤ cf_w W e.testBit N) : ys_E fit W N (e + 1) (some e) (zi_z (cf_w W e.testBit N)) := by
  refine ⟨fun z => absurd z (by simp), fun y hy => ?_⟩
  have e1 : e = y := by
    injection hy
  subst e1
  refine ⟨by omega, hf, rfl, fun z hz hcz => ?_⟩
  by_cases c : z = e
  · rw [c]
    exact Int.le_refl _
  · cases o with
    | none => exact absurd hcz (h.1 rfl z (by omega))
    | some m =>
      obtain ⟨a, b, d, f⟩ := h.2 m rfl
      have q1 := f z (by omega) hcz
      have q2 := hl m rfl
      rw [ys_ko (Nat.lt_trans a he)] at q1
      rw [ys_ko he]
      omega
theorem ys_tb {W : Nat → Int} {N : Nat} (hN : N ≤ 12) (hW : ∀ e, e < N → -20 ≤ W e ∧ W e ≤ 50) (S : Nat → Bool) : -2147483648 ≤ cf_w W S N ∧ cf_w W S N < 2147483648 := by
  have := kx_w (w := W) (S := S) N (fun e he => by
    have a := hW e he
    omega)
  omega
section
variable {n N : Nat} {us vs cs ws qs qy la uy : Nat → Int32} {U V C Q : Nat → Nat} {W : Nat → Int}
theorem ys_9 {post : Int32 → SY → Prop} {x1 x2 x3 : Int32} (h : cx_ok n N us vs cs ws qs U V C Q W) (hq : ∀ c, c < 4 → qy c = qs c)
    (hp : ∀ (o : Option Nat) (x5 : Int32), ys_E (fun m => ys_fit N x1 x2 x3 m ∧ gd_g U V C Q N m) W N (2 ^ N) o x5 → ∀ la' uy' : Nat → Int32, post (xr_e o) (nI n, nI N, us, vs, cs, ws, qy, la', uy')) :
    ∀ (k e fuel : Nat) (o : Option Nat) (x5 : Int32) (la uy : Nat → Int32), e + k = 2 ^ N → k < fuel → ys_E (fun m => ys_fit N x1 x2 x3 m ∧ gd_g U V C Q N m) W N e o x5 →
    wY_search_9 post x1 x2 x3 fuel (xr_e o) x5 (nI e) (nI n) (nI N) us vs cs ws qy la uy := by
  have hN := cx_N h
  have h12 : 2 ^ N ≤ 2 ^ 12 := Nat.pow_le_pow_right (by omega) hN
  intro k
  induction k with
  | zero =>
    intro e fuel o x5 la uy he hfu hE
    obtain ⟨g, rfl, hg⟩ := cx_fu hfu
    have e2 : e = 2 ^ N := by omega
    rw [e2] at hE
    refine br_t ?_ (hp o x5 hE la uy)
    rw [xb_1c hN]
    exact nI_le (by omega) (by omega)
  | succ k ih =>
    intro e fuel o x5 la uy he hfu hE
    obtain ⟨g, rfl, hg⟩ := cx_fu hfu
    have eN : e < 2 ^ N := by omega
    have e12 : e < 4096 := by omega
    have hcl : (nI e).toNatClampNeg = e := nI_clamp (by omega)
    have Kk : ∀ (o' : Option Nat) (x5' : Int32) (la' uy' : Nat → Int32), ys_E (fun m => ys_fit N x1 x2 x3 m ∧ gd_g U V C Q N m) W N (e + 1) o' x5' →
        wY_search_9 post x1 x2 x3 g (xr_e o') x5' (nI (e + 1)) (nI n) (nI N) us vs cs ws qy la' uy' := fun o' x5' la' uy' z => ih (e + 1) g o' x5' la' uy' (by omega) (by omega) z
    have k53 : ¬ ys_fit N x1 x2 x3 e → wY_search_53 post (wY_search_9 post x1 x2 x3 g) x1 x2 x3 (xr_e o) x5 (nI e) (nI n) (nI N) us vs cs ws qy la uy := by
      intro z
      unfold wY_search_53 wY_search_54
      exact br_t rfl (nm_r (nI_1 e) (Kk o x5 la uy (ys_Ek hE (fun y => z y.1))))
    have k77 : ys_fit N x1 x2 x3 e → (∀ m, o = some m → cf_w W m.testBit N ≤ cf_w W e.testBit N) → wY_search_77 post (wY_search_9 post x1 x2 x3 g) x1 x2 x3 (xr_e o) x5 (nI e) (nI n) (nI N) us vs cs ws qy la uy := by
      intro z hl
      unfold wY_search_77
      refine yg_good h hq e12 (fun F la' uy' => br_f xb_10 (yt_total h e12 (nm_r (nI_1 e) (Kk (some e) _ la' uy' (ys_En eN hE ⟨z, F⟩ hl))))) (fun F la' uy' => br_t rfl (nm_r (nI_1 e) (Kk o x5 la' uy' (ys_Ek hE (fun y => F y.2)))))
    have k49 : ys_fit N x1 x2 x3 e → wY_search_49 post (wY_search_9 post x1 x2 x3 g) x1 x2 x3 (xr_e o) x5 (nI e) (nI n) (nI N) us vs cs ws qy la uy := by
      intro z
      unfold wY_search_49 wY_search_54
      refine br_f xb_10 ?_
      cases o with
      | none => exact br_t (by decide) (k77 z (fun m hm => absurd hm (by simp)))
      | some m =>
        obtain ⟨a, b, d, f⟩ := hE.2 m rfl
        have b1 := ys_tb hN (fun e he => cx_W h he) e.testBit
        have b2 := ys_tb hN (fun e he => cx_W h he) m.testBit
        refine br_f (nI_pos (by omega)) (yt_total h e12 ?_)
        refine ek_i (by rw [d]; exact zi_lt b1.1 b1.2 b2.1 b2.2) (fun y => nm_r (nI_1 e) (Kk (some m) x5 la uy (ys_El hN eN hE y))) (fun y => k77 z (fun m' hm' => ?_))
        have e1 : m = m' := by
          injection hm'
        rw [← e1]
        omega
    refine br_f (by rw [xb_1c hN]; exact nI_ge eN (by omega)) ?_
    refine br_c (fun f2 => br_c (fun f3 => br_c (fun f1 => k49 ⟨f2, f3, Or.inl f1⟩) (fun f1 => ?_)) (fun f3 => k53 (fun z => f3 z.2.1))) (fun f2 => k53 (fun z => f2 z.1))
    refine ys_size hN eN (br_c (fun f4 => k49 ⟨f2, f3, Or.inr f4⟩) (fun f4 => k53 (fun z => ?_)))
    rcases z.2.2 with y | y
    · exact f1 y
    · exact f4 y
theorem ys_search {post : Int32 → SY → Prop} {x1 x2 x3 : Int32} (h : cx_ok n N us vs cs ws qs U V C Q W) (hq : ∀ c, c < 4 → qy c = qs c)
    (hp : ∀ (o : Option Nat) (x5 : Int32), ys_E (fun m => ys_fit N x1 x2 x3 m ∧ gd_g U V C Q N m) W N (2 ^ N) o x5 → ∀ la' uy' : Nat → Int32, post (xr_e o) (nI n, nI N, us, vs, cs, ws, qy, la', uy')) :
    wpY_search post (nI n, nI N, us, vs, cs, ws, qy, la, uy) x1 x2 x3 :=
  Exists.intro (2 ^ N + 1) (ys_9 h hq hp (2 ^ N) 0 (2 ^ N + 1) none 0 la uy (by omega) (by omega) ⟨fun _ m hm => absurd hm (by omega), fun m hm => absurd hm (by simp)⟩)
/-- the greatest size -/
def ym_E (fit : Nat → Prop) (N e k : Nat) : Prop := k ≤ N ∧ (∀ m, m < e → fit m → cf_n m.testBit N ≤ k) ∧ (k = 0 ∨ ∃ m, m < e ∧ fit m ∧ cf_n m.testBit N = k)
theorem ym_Ek {fit : Nat → Prop} {N e k : Nat} (h : ym_E fit N e k) (hc : fit e → cf_n e.testBit N ≤ k) : ym_E fit N (e + 1) k := by
  refine ⟨h.1, fun m hm hf => ?_, ?_⟩
  · by_cases c : m = e
    · rw [c] at hf ⊢
      exact hc hf
    · exact h.2.1 m (by omega) hf
  · rcases h.2.2 with z | ⟨m, a, b⟩
    · exact Or.inl z
    · exact Or.inr ⟨m, by omega, b⟩
theorem ym_En {fit : Nat → Prop} {N e k : Nat} (h : ym_E fit N e k) (hf : fit e) (hl : k < cf_n e.testBit N) : ym_E fit N (e + 1) (cf_n e.testBit N) := by
  refine ⟨cf_nN _ _, fun m hm hf => ?_, Or.inr ⟨e, by omega, hf, rfl⟩⟩
  by_cases c : m = e
  · rw [c]
    exact Nat.le_refl _
  · have := h.2.1 m (by omega) hf
    omega
theorem ym_4 {post : Int32 → SY → Prop} (h : cx_ok n N us vs cs ws qs U V C Q W) (hq : ∀ c, c < 4 → qy c = qs c)
    (hp : ∀ k, ym_E (gd_g U V C Q N) N (2 ^ N) k → ∀ la' uy' : Nat → Int32, post (nI k) (nI n, nI N, us, vs, cs, ws, qy, la', uy')) :
    ∀ (q e fuel k : Nat) (la uy : Nat → Int32), e + q = 2 ^ N → q < fuel → ym_E (gd_g U V C Q N) N e k → wY_most_4 post fuel (nI k) (nI e) (nI n) (nI N) us vs cs ws qy la uy := by
  have hN := cx_N h
  have h12 : 2 ^ N ≤ 2 ^ 12 := Nat.pow_le_pow_right (by omega) hN
  intro q
  induction q with
  | zero =>
    intro e fuel k la uy he hfu hE
    obtain ⟨g, rfl, hg⟩ := cx_fu hfu
    have e2 : e = 2 ^ N := by omega
    rw [e2] at hE
    refine br_t ?_ (hp k hE la uy)
    rw [xb_1c hN]
    exact nI_le (by omega) (by omega)
  | succ q ih =>
    intro e fuel k la uy he hfu hE
    obtain ⟨g, rfl, hg⟩ := cx_fu hfu
    have eN : e < 2 ^ N := by omega
    have e12 : e < 4096 := by omega
    have l1 := hE.1
    have l2 := cf_nN e.testBit N
    refine br_f (by rw [xb_1c hN]; exact nI_ge eN (by omega)) (ys_size hN eN (pk_le _ _ (fun z => nm_r (nI_1 e) (ih (e + 1) g k la uy (by omega) (by omega) (ym_Ek hE (fun _ => z)))) (fun z => ?_) rfl rfl (by omega) (by omega)))
    exact yg_good h hq e12 (fun F la' uy' => br_f xb_10 (ys_size hN eN (nm_r (nI_1 e) (ih (e + 1) g _ la' uy' (by omega) (by omega) (ym_En hE F z)))))
      (fun F la' uy' => br_t rfl (nm_r (nI_1 e) (ih (e + 1) g k la' uy' (by omega) (by omega) (ym_Ek hE (fun y => absurd y F)))))
theorem ym_most {post : Int32 → SY → Prop} (h : cx_ok n N us vs cs ws qs U V C Q W) (hq : ∀ c, c < 4 → qy c = qs c)
    (hp : ∀ k, ym_E (gd_g U V C Q N) N (2 ^ N) k → ∀ la' uy' : Nat → Int32, post (nI k) (nI n, nI N, us, vs, cs, ws, qy, la', uy')) : wpY_most post (nI n, nI N, us, vs, cs, ws, qy, la, uy) :=
  Exists.intro (2 ^ N + 1) (ym_4 h hq hp (2 ^ N) 0 (2 ^ N + 1) 0 la uy (by omega) (by omega) ⟨Nat.zero_le _, fun m hm => absurd hm (by omega), Or.inl rfl⟩)
theorem yr_4 {post : Int32 → SY → Prop} (h : cx_ok n N us vs cs ws qs U V C Q W)
    (hp : ∀ k, ym_E (fun m => gf_F U V m.testBit N) N (2 ^ N) k → ∀ la' : Nat → Int32, post (nI k) (nI n, nI N, us, vs, cs, ws, qy, la', uy)) :
    ∀ (q e fuel k : Nat) (la : Nat → Int32), e + q = 2 ^ N → q < fuel → ym_E (fun m => gf_F U V m.testBit N) N e k → wY_rank_4 post fuel (nI k) (nI e) (nI n) (nI N) us vs cs ws qy la uy := by
  have hN := cx_N h
  have h12 : 2 ^ N ≤ 2 ^ 12 := Nat.pow_le_pow_right (by omega) hN
  intro q
  induction q with
  | zero =>
    intro e fuel k la he hfu hE
    obtain ⟨g, rfl, hg⟩ := cx_fu hfu
    have e2 : e = 2 ^ N := by omega
    rw [e2] at hE
    refine br_t ?_ (hp k hE la)
    rw [xb_1c hN]
    exact nI_le (by omega) (by omega)
  | succ q ih =>
    intro e fuel k la he hfu hE
    obtain ⟨g, rfl, hg⟩ := cx_fu hfu
    have eN : e < 2 ^ N := by omega
    have e12 : e < 4096 := by omega
    have l1 := hE.1
    have l2 := cf_nN e.testBit N
    refine br_f (by rw [xb_1c hN]; exact nI_ge eN (by omega)) (ys_size hN eN (pk_le _ _ (fun z => nm_r (nI_1 e) (ih (e + 1) g k la (by omega) (by omega) (ym_Ek hE (fun _ => z)))) (fun z => ?_) rfl rfl (by omega) (by omega)))
    exact yf_forest h e12 (fun F la' => br_f xb_10 (ys_size hN eN (nm_r (nI_1 e) (ih (e + 1) g _ la' (by omega) (by omega) (ym_En hE F z)))))
      (fun F la' => br_t rfl (nm_r (nI_1 e) (ih (e + 1) g k la' (by omega) (by omega) (ym_Ek hE (fun y => absurd y F)))))
theorem yr_rank {post : Int32 → SY → Prop} (h : cx_ok n N us vs cs ws qs U V C Q W)
    (hp : ∀ k, ym_E (fun m => gf_F U V m.testBit N) N (2 ^ N) k → ∀ la' : Nat → Int32, post (nI k) (nI n, nI N, us, vs, cs, ws, qy, la', uy)) : wpY_rank post (nI n, nI N, us, vs, cs, ws, qy, la, uy) :=
  Exists.intro (2 ^ N + 1) (yr_4 h hp (2 ^ N) 0 (2 ^ N + 1) 0 la (by omega) (by omega) ⟨Nat.zero_le _, fun m hm => absurd hm (by omega), Or.inl rfl⟩)
end
end
section
/-! X: rank and spares; Y: replaces and spares -/
/-- e can take the place of f in m -/
def sr_p (U V C Q : Nat → Nat) (N m e f : Nat) : Prop := m.testBit e = false ∧ m.testBit f = true ∧ gd_g U V C Q N ((m ^^^ 2 ^ e) ^^^ 2 ^ f)
noncomputable def sr_s (U V C Q : Nat → Nat) (N m : Nat) : Nat → Bool := fun e => haveI := Classical.propDecidable (∃ f, f < N ∧ sr_p U V C Q N m e f); decide (∃ f, f < N ∧ sr_p U V C Q N m e f)
theorem sr_t {U V C Q : Nat → Nat} {N m e : Nat} : sr_s U V C Q N m e = true ↔ ∃ f, f < N ∧ sr_p U V C Q N m e f := by
  exact @decide_eq_true_iff _ (Classical.propDecidable _)
theorem sr_n {S : Nat → Bool} {e : Nat} (h : S e = true) : cf_n S (e + 1) = cf_n S e + 1 := by
  show cf_n S e + (if S e = true then 1 else 0) = _
  rw [if_pos h]
theorem sr_k {S : Nat → Bool} {e : Nat} (h : ¬ S e = true) : cf_n S (e + 1) = cf_n S e := by
  show cf_n S e + (if S e = true then 1 else 0) = _
  rw [if_neg h]
  omega
theorem sr_eq {m e f : Nat} (hm : m < 4096) (he : m.testBit e = false) (hf : m.testBit f = true) (le : e < 12) (lf : f < 12) :
    (nI m &&& (((1 : Int32) <<< (nI f &&& 31)) ^^^ (-1))) ||| ((1 : Int32) <<< (nI e &&& 31)) = nI ((m ^^^ 2 ^ e) ^^^ 2 ^ f) := by
  rw [xb_p (by omega), xb_p (by omega), show (-1 : Int32) = nI 4294967295 from rfl, nx_xor, nx_and, xb_or]
  have key : (m &&& (2 ^ f ^^^ 4294967295)) ||| 2 ^ e = (m ^^^ 2 ^ e) ^^^ 2 ^ f := by
    apply Nat.eq_of_testBit_eq
    intro i
    rw [Nat.testBit_or, Nat.testBit_and, Nat.testBit_xor, Nat.testBit_xor, Nat.testBit_xor, Nat.testBit_two_pow, Nat.testBit_two_pow, show (4294967295 : Nat) = 2 ^ 32 - 1 from rfl, Nat.testBit_two_pow_sub_one]
    have hne : f ≠ e := cf_ne hf he
    by_cases c1 : i = f
    · rw [c1, hf, decide_eq_false (show ¬ e = f from fun z => hne z.symm), decide_eq_true (show f = f from rfl), decide_eq_true (show f < 32 by omega)]
      rfl
    · by_cases c2 : i = e
      · rw [c2, he, decide_eq_true (show e = e from rfl), decide_eq_false hne]
        simp
      · rw [decide_eq_false (show ¬ f = i from fun z => c1 z.symm), decide_eq_false (show ¬ e = i from fun z => c2 z.symm)]
        cases hb : m.testBit i
        · simp
        · have : i < 12 := xb_sup (N := 12) hm i hb
          rw [decide_eq_true (show i < 32 by omega)]
          rfl
  rw [key]
section
variable {n N : Nat} {sz bar : Int32} {us vs cs ws qs co ch ro ud di sp be ar : Nat → Int32} {U V C Q : Nat → Nat} {W K : Nat → Int}
theorem xp_39 {post : Int32 → SX → Prop} {J : Int32 → Int32 → Int32 → Int32 → Int32 → (Nat → Int32) → (Nat → Int32) → (Nat → Int32) → (Nat → Int32) → (Nat → Int32) → (Nat → Int32) → (Nat → Int32) → (Nat → Int32) → (Nat → Int32) → (Nat → Int32) → (Nat → Int32) → (Nat → Int32) → (Nat → Int32) → Prop}
    {m e : Nat} (h : cx_ok n N us vs cs ws qs U V C Q W) (hm : m < 2 ^ N) (eN : e < N)
    (hJ : ∀ ro' ud' : Nat → Int32, J (nI (cf_n (sr_s U V C Q N m) (e + 1))) (nI (e + 1)) (nI n) (nI N) sz us vs cs ws qs co ch ro' ud' di sp be ar) :
    ∀ (q f fuel : Nat) (x : Int32) (ro ud : Nat → Int32), f + q = N → q < fuel → ((x = 1 ∧ ∃ i, i < f ∧ sr_p U V C Q N m e i) ∨ (x = 0 ∧ ¬ ∃ i, i < f ∧ sr_p U V C Q N m e i)) →
    wX_spares_39 post J (nI m) (nI (cf_n (sr_s U V C Q N m) e)) (nI e) fuel x (nI f) (nI n) (nI N) sz us vs cs ws qs co ch ro ud di sp be ar := by
  have hN := cx_N h
  have hm12 := xb_12 hm hN
  intro q
  induction q with
  | zero =>
    intro f fuel x ro ud hf hfu hx
    obtain ⟨g, rfl, hg⟩ := cx_fu hfu
    have e2 : f = N := by omega
    subst e2
    have hJ' := hJ ro ud
    refine br_t (nI_le (by omega) (by omega)) ?_
    rcases hx with ⟨rfl, z⟩ | ⟨rfl, z⟩
    · rw [sr_n (sr_t.mpr z)] at hJ'
      exact br_f xb_10 (nm_r (nI_1 _) (nm_r (nI_1 e) hJ'))
    · rw [sr_k (fun y => z (sr_t.mp y))] at hJ'
      exact br_t rfl (nm_r (Int32.add_zero _) (nm_r (nI_1 e) hJ'))
  | succ q ih =>
    intro f fuel x ro ud hf hfu hx
    obtain ⟨g, rfl, hg⟩ := cx_fu hfu
    have fN : f < N := by omega
    have Kk : ∀ (x' : Int32) (ro' ud' : Nat → Int32), ((x' = 1 ∧ ∃ i, i < f + 1 ∧ sr_p U V C Q N m e i) ∨ (x' = 0 ∧ ¬ ∃ i, i < f + 1 ∧ sr_p U V C Q N m e i)) →
        wX_spares_39 post J (nI m) (nI (cf_n (sr_s U V C Q N m) e)) (nI e) g x' (nI (f + 1)) (nI n) (nI N) sz us vs cs ws qs co ch ro' ud' di sp be ar := fun x' ro' ud' z => ih (f + 1) g x' ro' ud' (by omega) (by omega) z
    have keep : ¬ sr_p U V C Q N m e f → ((x = 1 ∧ ∃ i, i < f + 1 ∧ sr_p U V C Q N m e i) ∨ (x = 0 ∧ ¬ ∃ i, i < f + 1 ∧ sr_p U V C Q N m e i)) := by
      intro z
      rcases hx with ⟨a, i, hi, b⟩ | ⟨a, b⟩
      · exact Or.inl ⟨a, i, by omega, b⟩
      · refine Or.inr ⟨a, fun ⟨i, hi, y⟩ => ?_⟩
        by_cases c : i = f
        · rw [c] at y
          exact z y
        · exact b ⟨i, by omega, y⟩
    have ho : (nI m ^^^ ((1 : Int32) <<< (nI e &&& 31))) ^^^ ((1 : Int32) <<< (nI f &&& 31)) = nI ((m ^^^ 2 ^ e) ^^^ 2 ^ f) := by
      rw [xb_p (by omega), xb_p (by omega), nx_xor, nx_xor]
    have hol12 := xb_12 (xb_exl hm eN fN) hN
    refine br_f (nI_ge (by omega) (by omega)) (xb_br0 hm12 (by omega) (fun ix => xb_br hm12 (by omega) (fun iy => nm_r ho ?_) (fun iy => nm_r (nI_1 f) (Kk x ro ud (keep fun z => ?_)))) (fun ix => nm_r (nI_1 f) (Kk x ro ud (keep fun z => ?_))))
    · rcases hx with ⟨rfl, i, hi, b⟩ | ⟨rfl, b⟩
      · exact br_f xb_10 (nm_r (nI_1 f) (Kk 1 ro ud (Or.inl ⟨rfl, i, by omega, b⟩)))
      · refine br_t rfl (xf_forest h hol12 (fun F ro' => br_f xb_10 (xq_quotas h hol12 (fun F2 ud' => br_f xb_10 (nm_r (nI_1 f) (Kk 1 ro' ud' (Or.inl ⟨rfl, f, by omega, ix, iy, F, F2⟩))))
          (fun F2 ud' => br_t rfl (nm_r (nI_1 f) (Kk 0 ro' ud' (keep fun z => F2 z.2.2.2)))))) (fun F ro' => br_t rfl (nm_r (nI_1 f) (Kk 0 ro' ud (keep fun z => F z.2.2.1)))))
    · have := z.2.1
      rw [iy] at this
      exact absurd this (by decide)
    · have := z.1
      rw [ix] at this
      exact absurd this (by decide)
theorem xp_25 {post : Int32 → SX → Prop} {m : Nat} (h : cx_ok n N us vs cs ws qs U V C Q W) (hm : m < 2 ^ N)
    (hp : ∀ ro' ud' : Nat → Int32, post (nI (cf_n (sr_s U V C Q N m) N)) (nI n, nI N, sz, us, vs, cs, ws, qs, co, ch, ro', ud', di, sp, be, ar)) :
    ∀ (q e fuel : Nat) (ro ud : Nat → Int32), e + q = N → q < fuel → wX_spares_25 post (nI m) fuel (nI (cf_n (sr_s U V C Q N m) e)) (nI e) (nI n) (nI N) sz us vs cs ws qs co ch ro ud di sp be ar := by
  have hN := cx_N h
  intro q
  induction q with
  | zero =>
    intro e fuel ro ud he hfu
    obtain ⟨g, rfl, hg⟩ := cx_fu hfu
    have e2 : e = N := by omega
    subst e2
    exact br_t (nI_le (by omega) (by omega)) (hp ro ud)
  | succ q ih =>
    intro e fuel ro ud he hfu
    obtain ⟨g, rfl, hg⟩ := cx_fu hfu
    exact br_f (nI_ge (by omega) (by omega)) ⟨N + 1, xp_39 h hm (by omega) (fun ro' ud' => ih (e + 1) g ro' ud' (by omega) (by omega)) N 0 (N + 1) 0 ro ud (by omega) (by omega) (Or.inr ⟨rfl, fun ⟨i, hi, _⟩ => absurd hi (by omega)⟩)⟩
theorem xk_27 {post : Int32 → SX → Prop} (h : cx_ok n N us vs cs ws qs U V C Q W)
    (hp : ∀ ro' : Nat → Int32, post (nI (cf_n (gf_suc U V (fun _ => true)) N)) (nI n, nI N, sz, us, vs, cs, ws, qs, co, ch, ro', ud, di, sp, be, ar)) :
    ∀ (q e fuel : Nat) (ro : Nat → Int32), e + q = N → q < fuel → (∀ w, w < n → ro w = nI (gf_l U V (fun _ => true) e w)) →
    wX_rank_27 post fuel (nI (cf_n (gf_suc U V (fun _ => true)) e)) (nI e) (nI n) (nI N) sz us vs cs ws qs co ch ro ud di sp be ar := by
  have hn := cx_n h
  have hN := cx_N h
  intro q
  induction q with
  | zero =>
    intro e fuel ro he hfu hro
    obtain ⟨g, rfl, hg⟩ := cx_fu hfu
    have e2 : e = N := by omega
    subst e2
    exact br_t (nI_le (by omega) (by omega)) (hp ro)
  | succ q ih =>
    intro e fuel ro he hfu hro
    obtain ⟨g, rfl, hg⟩ := cx_fu hfu
    have eN : e < N := by omega
    have hi : vp_in (nI e) 12 := vp_in_nI (by omega) (by omega)
    have hid := gf_lid (n := n) (fun _ => true) e (fun i hi => cx_UV h i (by omega))
    refine br_f (nI_ge (by omega) (by omega)) ⟨hi, hi, ?_⟩
    rw [nI_clamp (by omega), cx_us h eN, cx_vs h eN]
    refine xm_merge hn hid.2 (cx_U h eN) (cx_V h eN) hro (fun z => br_t rfl (nm_r (nI_1 e) ?_)) (fun z ro' hro' => br_f xb_10 (nm_r (nI_1 _) (nm_r (nI_1 e) ?_)))
    · have i := ih (e + 1) g ro (by omega) (by omega) (fun w hw => by rw [hro w hw, gf_lt (S := fun _ => true) rfl, gf_mgs z])
      rw [sr_k (fun y => (gf_suct.mp y).2 z)] at i
      exact i
    · have i := ih (e + 1) g ro' (by omega) (by omega) (fun w hw => by rw [hro' w hw, gf_lt (S := fun _ => true) rfl])
      rw [sr_n (gf_suct.mpr ⟨rfl, z⟩)] at i
      exact i
theorem xk_2 {post : Int32 → SX → Prop} (h : cx_ok n N us vs cs ws qs U V C Q W)
    (hp : ∀ ro' : Nat → Int32, post (nI (cf_n (gf_suc U V (fun _ => true)) N)) (nI n, nI N, sz, us, vs, cs, ws, qs, co, ch, ro', ud, di, sp, be, ar)) :
    ∀ (k e fuel : Nat) (ro : Nat → Int32), e + k = n → k < fuel → (∀ w, w < e → ro w = nI w) →
    wX_rank_2 post (nI n) (nI N) sz fuel (nI e) us vs cs ws qs co ch ro ud di sp be ar := by
  have hn := cx_n h
  intro k
  induction k with
  | zero =>
    intro e fuel ro he hfu hro
    obtain ⟨g, rfl, hg⟩ := cx_fu hfu
    exact br_t (nI_le (by omega) (by omega)) ⟨N + 1, xk_27 h hp N 0 (N + 1) ro (by omega) (by omega) (fun w hw => hro w (by omega))⟩
  | succ k ih =>
    intro e fuel ro he hfu hro
    obtain ⟨g, rfl, hg⟩ := cx_fu hfu
    have hc : (nI e).toNatClampNeg = e := nI_clamp (by omega)
    refine br_f (nI_ge (by omega) (by omega)) ⟨vp_in_nI (by omega) (by omega), nm_e (nm_r (nI_1 e) (ih (e + 1) g _ (by omega) (by omega) (fun w hw => ?_)))⟩
    rw [hc]
    by_cases c : w = e
    · subst c
      rw [pk_us]
    · rw [pk_un c]
      exact hro w (by omega)
theorem xk_rank {post : Int32 → SX → Prop} (h : cx_ok n N us vs cs ws qs U V C Q W)
    (hp : ∀ ro' : Nat → Int32, post (nI (cf_n (gf_suc U V (fun _ => true)) N)) (nI n, nI N, sz, us, vs, cs, ws, qs, co, ch, ro', ud, di, sp, be, ar)) : wpX_rank post (nI n, nI N, sz, us, vs, cs, ws, qs, co, ch, ro, ud, di, sp, be, ar) :=
  Exists.intro (n + 1) (xk_2 h hp n 0 (n + 1) ro (by omega) (by omega) (fun w hw => absurd hw (by omega)))
end
section
variable {n N : Nat} {us vs cs ws qs qy la uy : Nat → Int32} {U V C Q : Nat → Nat} {W : Nat → Int}
theorem yp_2 {post : Int32 → SY → Prop} {m e : Nat} (h : cx_ok n N us vs cs ws qs U V C Q W) (hq : ∀ c, c < 4 → qy c = qs c) (hm : m < 2 ^ N) (eN : e < N) (he : m.testBit e = false)
    (ht : (∃ i, i < N ∧ sr_p U V C Q N m e i) → ∀ la' uy' : Nat → Int32, post 1 (nI n, nI N, us, vs, cs, ws, qy, la', uy')) (hf : ¬ (∃ i, i < N ∧ sr_p U V C Q N m e i) → ∀ la' uy' : Nat → Int32, post 0 (nI n, nI N, us, vs, cs, ws, qy, la', uy')) :
    ∀ (q f fuel : Nat) (la uy : Nat → Int32), f + q = N → q < fuel → (¬ ∃ i, i < f ∧ sr_p U V C Q N m e i) → wY_replaces_2 post (nI m) (nI e) fuel (nI f) (nI n) (nI N) us vs cs ws qy la uy := by
  have hN := cx_N h
  have hm12 := xb_12 hm hN
  intro q
  induction q with
  | zero =>
    intro f fuel la uy hfN hfu hx
    obtain ⟨g, rfl, hg⟩ := cx_fu hfu
    have e2 : f = N := by omega
    subst e2
    exact br_t (nI_le (by omega) (by omega)) (hf hx la uy)
  | succ q ih =>
    intro f fuel la uy hfN hfu hx
    obtain ⟨g, rfl, hg⟩ := cx_fu hfu
    have fN : f < N := by omega
    have keep : ¬ sr_p U V C Q N m e f → ¬ ∃ i, i < f + 1 ∧ sr_p U V C Q N m e i := by
      rintro z ⟨i, hi, y⟩
      by_cases c : i = f
      · rw [c] at y
        exact z y
      · exact hx ⟨i, by omega, y⟩
    refine br_f (nI_ge (by omega) (by omega)) (br_f (nI_ge (b := 12) (by omega) (by omega)) (yb_in hm12 (by omega) (fun iy => br_f xb_10 ?_) (fun iy => br_t rfl (nm_r (nI_1 f) (ih (f + 1) g la uy (by omega) (by omega) (keep fun z => ?_))))))
    · rw [sr_eq hm12 he iy (by omega) (by omega)]
      exact yg_good h hq (xb_12 (xb_exl hm eN fN) hN) (fun F la' uy' => br_f xb_10 (ht ⟨f, fN, he, iy, F⟩ la' uy')) (fun F la' uy' => br_t rfl (nm_r (nI_1 f) (ih (f + 1) g la' uy' (by omega) (by omega) (keep fun z => F z.2.2))))
    · have := z.2.1
      rw [iy] at this
      exact absurd this (by decide)
theorem yp_18 {post : Int32 → SY → Prop} {m : Nat} (h : cx_ok n N us vs cs ws qs U V C Q W) (hq : ∀ c, c < 4 → qy c = qs c) (hm : m < 2 ^ N)
    (hp : ∀ la' uy' : Nat → Int32, post (nI (cf_n (sr_s U V C Q N m) N)) (nI n, nI N, us, vs, cs, ws, qy, la', uy')) :
    ∀ (q e fuel : Nat) (la uy : Nat → Int32), e + q = N → q < fuel → wY_spares_18 post (nI m) fuel (nI (cf_n (sr_s U V C Q N m) e)) (nI e) (nI n) (nI N) us vs cs ws qy la uy := by
  have hN := cx_N h
  have hm12 := xb_12 hm hN
  intro q
  induction q with
  | zero =>
    intro e fuel la uy he hfu
    obtain ⟨g, rfl, hg⟩ := cx_fu hfu
    have e2 : e = N := by omega
    subst e2
    exact br_t (nI_le (by omega) (by omega)) (hp la uy)
  | succ q ih =>
    intro e fuel la uy he hfu
    obtain ⟨g, rfl, hg⟩ := cx_fu hfu
    have eN : e < N := by omega
    refine br_f (nI_ge (by omega) (by omega)) (br_f (nI_ge (b := 12) (by omega) (by omega)) (yb_in hm12 (by omega) (fun ix => br_f xb_10 (nm_r (nI_1 e) ?_)) (fun ix => br_t rfl ?_)))
    · have i := ih (e + 1) g la uy (by omega) (by omega)
      rw [sr_k (fun y => by
        obtain ⟨f, _, z, _⟩ := sr_t.mp y
        rw [ix] at z
        exact absurd z (by decide))] at i
      exact i
    · refine Exists.intro (N + 1) (yp_2 h hq hm eN ix (fun z la' uy' => br_f xb_10 (nm_r (nI_1 _) (nm_r (nI_1 e) ?_))) (fun z la' uy' => br_t rfl (nm_r (nI_1 e) ?_)) N 0 (N + 1) la uy (by omega) (by omega) (fun ⟨i, hi, _⟩ => absurd hi (by omega)))
      · have i := ih (e + 1) g la' uy' (by omega) (by omega)
        rw [sr_n (sr_t.mpr z)] at i
        exact i
      · have i := ih (e + 1) g la' uy' (by omega) (by omega)
        rw [sr_k (fun y => z (sr_t.mp y))] at i
        exact i
end
end
section
/-! the answers of both sides meet: pure -/
theorem zp_at {m e : Nat} (h : m.testBit e = true) : m &&& 2 ^ e = 2 ^ e := by
  apply Nat.eq_of_testBit_eq
  intro i
  rw [Nat.testBit_and, Nat.testBit_two_pow]
  by_cases c : e = i
  · rw [← c, h]
    simp
  · rw [decide_eq_false c]
    simp
theorem zp_af {m e : Nat} (h : m.testBit e = false) : m &&& 2 ^ e = 0 := by
  apply Nat.eq_of_testBit_eq
  intro i
  rw [Nat.testBit_and, Nat.testBit_two_pow, Nat.zero_testBit]
  by_cases c : e = i
  · rw [← c, h]
    simp
  · rw [decide_eq_false c]
    simp
theorem zp_2 {e : Nat} (h : e < 12) : 0 < 2 ^ e ∧ 2 ^ e < 4096 := ⟨Nat.two_pow_pos e, xb_12 (xb_pl h) (Nat.le_refl _)⟩
theorem zp_m1 {m e : Nat} (he : e < 12) : nI m &&& nI (2 ^ e) = nI (2 ^ e) ↔ m.testBit e = true := by
  have p := zp_2 he
  rw [nx_and]
  cases h : m.testBit e
  · rw [zp_af h, nI_eq (by omega) (by omega)]
    exact ⟨fun z => by omega, fun z => absurd z (by decide)⟩
  · rw [zp_at h]
    exact ⟨fun _ => rfl, fun _ => rfl⟩
theorem zp_m0 {m e : Nat} (he : e < 12) : nI m &&& nI (2 ^ e) = 0 ↔ m.testBit e = false := by
  have p := zp_2 he
  rw [nx_and, ← nI_0]
  cases h : m.testBit e
  · rw [zp_af h]
    exact ⟨fun _ => rfl, fun _ => rfl⟩
  · rw [zp_at h, nI_eq (by omega) (by omega)]
    exact ⟨fun z => by omega, fun z => absurd z (by decide)⟩
theorem zp_tot {W : Nat → Int} {S : Nat → Bool} : ∀ N, (∀ e, e < N → -20 ≤ W e ∧ W e ≤ 50) → -(20 * (N : Int)) ≤ cf_w W S N ∧ cf_w W S N ≤ 50 * (N : Int) := by
  intro N
  induction N with
  | zero =>
    intro _
    show -(20 * ((0 : Nat) : Int)) ≤ 0 ∧ 0 ≤ 50 * ((0 : Nat) : Int)
    omega
  | succ k ih =>
    intro h
    have i := ih (fun e he => h e (by omega))
    have hk := h k (by omega)
    show -(20 * ((k + 1 : Nat) : Int)) ≤ cf_w W S k + (if S k = true then W k else 0) ∧ cf_w W S k + (if S k = true then W k else 0) ≤ 50 * ((k + 1 : Nat) : Int)
    split <;> omega
theorem zp_cw {w w' : Nat → Int} {S : Nat → Bool} : ∀ N, (∀ e, e < N → w e = w' e) → cf_w w S N = cf_w w' S N := by
  intro N
  induction N with
  | zero => exact fun _ => rfl
  | succ k ih =>
    intro h
    show cf_w w S k + (if S k = true then w k else 0) = cf_w w' S k + (if S k = true then w' k else 0)
    rw [ih (fun e he => h e (by omega)), h k (by omega)]
theorem zp_fw {w : Nat → Int} {S : Nat → Bool} {f : Nat} {E : Int} : ∀ N, f < N → cf_w (bf_u w f (w f + E)) S N = cf_w w S N + (if S f = true then E else 0) := by
  intro N
  induction N with
  | zero => exact fun h => absurd h (by omega)
  | succ k ih =>
    intro h
    show cf_w (bf_u w f (w f + E)) S k + (if S k = true then bf_u w f (w f + E) k else 0) = cf_w w S k + (if S k = true then w k else 0) + (if S f = true then E else 0)
    by_cases c : k = f
    · subst c
      rw [zp_cw (w := bf_u w k (w k + E)) (w' := w) k (fun e he => bf_un (by omega)), bf_ux]
      split <;> omega
    · rw [ih (by omega), bf_un c]
      omega
section
variable {n N : Nat} {us vs cs ws qs : Nat → Int32} {U V C Q : Nat → Nat} {W K : Nat → Int} {bar : Int32}
theorem zp_gd {m : Nat} (hm : m < 2 ^ N) (hb : ∀ e, m.testBit e = true → ¬ nI e = bar) :
    gd_g U V C Q N m ↔ gf_P U V (gx_G bar) N m.testBit ∧ qf_P C Q (gx_G bar) N m.testBit := by
  have hs : ∀ e, m.testBit e = true → e < N ∧ gx_G bar e = true := fun e he => ⟨xb_sup hm e he, gx_t.mpr (hb e he)⟩
  exact ⟨fun h => ⟨⟨hs, h.1⟩, ⟨hs, h.2⟩⟩, fun h => ⟨h.1.2, h.2.2⟩⟩
theorem zp_nb {m : Nat} (h : gf_P U V (gx_G bar) N m.testBit) : ∀ e, m.testBit e = true → ¬ nI e = bar := fun e he => gx_t.mp (h.1 e he).2
/-- the best set of size i -/
theorem zp_k {c : Nat → Nat} {k i : Nat} (hc : xg_C U V C Q (gx_G bar) N K c k) (hi : i ≤ k) :
    c i < 2 ^ N ∧ gd_g U V C Q N (c i) ∧ (∀ e, (c i).testBit e = true → ¬ nI e = bar) ∧ cf_n (c i).testBit N = i ∧
    ∀ m, m < 2 ^ N → gd_g U V C Q N m → (∀ e, m.testBit e = true → ¬ nI e = bar) → cf_n m.testBit N = i → cf_w K m.testBit N ≤ cf_w K (c i).testBit N := by
  obtain ⟨a, b, d⟩ := hc i hi
  obtain ⟨p1, p2, p3⟩ := cf_Cb b
  have nb := zp_nb p1
  refine ⟨a, (zp_gd a nb).mpr ⟨p1, p2⟩, nb, d, fun m hm hg hb hn => ?_⟩
  obtain ⟨q1, q2⟩ := (zp_gd hm hb).mp hg
  exact p3 _ q1 q2 (by omega)
theorem zp_max {k : Nat} (hx : ∀ J : Nat → Bool, gf_P U V (gx_G bar) N J → qf_P C Q (gx_G bar) N J → cf_n J N ≤ k) {m : Nat} (hm : m < 2 ^ N) (hg : gd_g U V C Q N m)
    (hb : ∀ e, m.testBit e = true → ¬ nI e = bar) : cf_n m.testBit N ≤ k := by
  obtain ⟨q1, q2⟩ := (zp_gd hm hb).mp hg
  exact hx _ q1 q2
/-- the best set of all -/
theorem zp_top {c : Nat → Nat} {k t : Nat} (hc : xg_C U V C Q (gx_G bar) N K c k)
    (hx : ∀ J : Nat → Bool, gf_P U V (gx_G bar) N J → qf_P C Q (gx_G bar) N J → cf_n J N ≤ k) (ht : t ≤ k) (hb : ∀ i, i ≤ k → cf_w K (c i).testBit N ≤ cf_w K (c t).testBit N) :
    c t < 2 ^ N ∧ gd_g U V C Q N (c t) ∧ (∀ e, (c t).testBit e = true → ¬ nI e = bar) ∧
    ∀ m, m < 2 ^ N → gd_g U V C Q N m → (∀ e, m.testBit e = true → ¬ nI e = bar) → cf_w K m.testBit N ≤ cf_w K (c t).testBit N := by
  obtain ⟨a, b, d, _, _⟩ := zp_k hc ht
  refine ⟨a, b, d, fun m hm hg hbm => ?_⟩
  have l := zp_max hx hm hg hbm
  have q := (zp_k hc l).2.2.2.2 m hm hg hbm rfl
  have r := hb _ l
  omega
theorem zp_m1b {m : Nat} (hN : N ≤ 12) (hm : m < 2 ^ N) : ∀ e, m.testBit e = true → ¬ nI e = -1 := fun e he => xa_ne (by have := xb_sup hm e he; omega)
theorem zp_eq {fit : Nat → Prop} {o : Option Nat} {x5 : Int32} {M : Nat} (hN : N ≤ 12) (h : ys_E fit W N (2 ^ N) o x5) (hM : M < 2 ^ N) (hf : fit M)
    (hb : ∀ m, m < 2 ^ N → fit m → cf_w (kx_c W) m.testBit N ≤ cf_w (kx_c W) M.testBit N) : o = some M := by
  cases o with
  | none => exact absurd hf (h.1 rfl M hM)
  | some m =>
    obtain ⟨a, b, _, f⟩ := h.2 m rfl
    have q1 := hb m a b
    have q2 := f M hM hf
    have : m = M := mk_uniq (W := W) hN a hM (Int.le_antisymm q1 q2)
    rw [this]
theorem zp_none {fit : Nat → Prop} {o : Option Nat} {x5 : Int32} (h : ys_E fit W N (2 ^ N) o x5) (hf : ∀ m, m < 2 ^ N → ¬ fit m) : o = none := by
  cases o with
  | none => rfl
  | some m =>
    obtain ⟨a, b, _, _⟩ := h.2 m rfl
    exact absurd b (hf m a)
theorem zp_fit0 (m : Nat) : ys_fit N (-1) 0 0 m := ⟨Int32.and_zero, Int32.and_zero, Or.inl (by decide)⟩
theorem zp_fitk {m k : Nat} (hN : N ≤ 12) (hk : k < 2 ^ 31) : ys_fit N (nI k) 0 0 m ↔ cf_n m.testBit N = k := by
  have l := cf_nN m.testBit N
  constructor
  · intro h
    rcases h.2.2 with z | z
    · exact absurd z (nI_pos hk)
    · exact (nI_eq (by omega) hk).mp z
  · intro h
    exact ⟨Int32.and_zero, Int32.and_zero, Or.inr (by rw [h])⟩
theorem zp_fitw {m e : Nat} (he : e < 12) : ys_fit N (-1) (nI (2 ^ e)) 0 m ↔ m.testBit e = true := by
  constructor
  · exact fun h => (zp_m1 he).mp h.1
  · exact fun h => ⟨(zp_m1 he).mpr h, Int32.and_zero, Or.inl (by decide)⟩
theorem zp_fito {m e : Nat} (he : e < 12) : ys_fit N (-1) 0 (nI (2 ^ e)) m ↔ m.testBit e = false := by
  constructor
  · exact fun h => (zp_m0 he).mp h.2.1
  · exact fun h => ⟨Int32.and_zero, (zp_m0 he).mpr h, Or.inl (by decide)⟩
/-- all: X's best is Y's -/
theorem zp_best {o : Option Nat} {x5 : Int32} {c : Nat → Nat} {k t : Nat} (hN : N ≤ 12) (hc : xg_C U V C Q (gx_G (-1)) N (kx_c W) c k)
    (hx : ∀ J : Nat → Bool, gf_P U V (gx_G (-1)) N J → qf_P C Q (gx_G (-1)) N J → cf_n J N ≤ k) (ht : t ≤ k) (hb : ∀ i, i ≤ k → cf_w (kx_c W) (c i).testBit N ≤ cf_w (kx_c W) (c t).testBit N)
    (hE : ys_E (fun m => ys_fit N (-1) 0 0 m ∧ gd_g U V C Q N m) W N (2 ^ N) o x5) : o = some (c t) := by
  obtain ⟨a, b, d, f⟩ := zp_top hc hx ht hb
  exact zp_eq hN hE a ⟨zp_fit0 _, b⟩ (fun m hm hf => f m hm hf.2 (zp_m1b hN hm))
/-- of one size -/
theorem zp_size {o : Option Nat} {x5 : Int32} {c : Nat → Nat} {k i : Nat} (hN : N ≤ 12) (hc : xg_C U V C Q (gx_G (-1)) N (kx_c W) c k) (hi : i ≤ k) (h31 : i < 2 ^ 31)
    (hE : ys_E (fun m => ys_fit N (nI i) 0 0 m ∧ gd_g U V C Q N m) W N (2 ^ N) o x5) : o = some (c i) := by
  obtain ⟨a, b, d, e, f⟩ := zp_k hc hi
  exact zp_eq hN hE a ⟨(zp_fitk hN h31).mpr e, b⟩ (fun m hm hf => f m hm hf.2 (zp_m1b hN hm) ((zp_fitk hN h31).mp hf.1))
theorem zp_nsize {o : Option Nat} {x5 : Int32} {k i : Nat} (hN : N ≤ 12) (hx : ∀ J : Nat → Bool, gf_P U V (gx_G (-1)) N J → qf_P C Q (gx_G (-1)) N J → cf_n J N ≤ k) (hi : k < i) (h31 : i < 2 ^ 31)
    (hE : ys_E (fun m => ys_fit N (nI i) 0 0 m ∧ gd_g U V C Q N m) W N (2 ^ N) o x5) : o = none := by
  refine zp_none hE (fun m hm hf => ?_)
  have := zp_max hx hm hf.2 (zp_m1b hN hm)
  have := (zp_fitk hN h31).mp hf.1
  omega
/-- without an edge -/
theorem zp_out {o : Option Nat} {x5 : Int32} {c : Nat → Nat} {k t e : Nat} (hN : N ≤ 12) (he : e < 12) (hc : xg_C U V C Q (gx_G (nI e)) N (kx_c W) c k)
    (hx : ∀ J : Nat → Bool, gf_P U V (gx_G (nI e)) N J → qf_P C Q (gx_G (nI e)) N J → cf_n J N ≤ k) (ht : t ≤ k) (hb : ∀ i, i ≤ k → cf_w (kx_c W) (c i).testBit N ≤ cf_w (kx_c W) (c t).testBit N)
    (hE : ys_E (fun m => ys_fit N (-1) 0 (nI (2 ^ e)) m ∧ gd_g U V C Q N m) W N (2 ^ N) o x5) : o = some (c t) := by
  obtain ⟨a, b, d, f⟩ := zp_top hc hx ht hb
  refine zp_eq hN hE a ⟨(zp_fito he).mpr ?_, b⟩ (fun m hm hf => f m hm hf.2 (fun i hi z => ?_))
  · cases q : (c t).testBit e
    · rfl
    · exact absurd rfl (d e q)
  · have l := xb_sup hm i hi
    have : i = e := (nI_eq (by omega) (by omega)).mp z
    rw [this, (zp_fito he).mp hf.1] at hi
    exact absurd hi (by decide)
/-- with an edge: a great cost there -/
theorem zp_with {o : Option Nat} {x5 : Int32} {c : Nat → Nat} {k t e : Nat} (hN : N ≤ 12) (hW : ∀ e, e < N → -20 ≤ W e ∧ W e ≤ 50) (he : e < N)
    (hc : xg_C U V C Q (gx_G (-1)) N (bf_u (kx_c W) e (kx_c W e + 67108864)) c k)
    (hx : ∀ J : Nat → Bool, gf_P U V (gx_G (-1)) N J → qf_P C Q (gx_G (-1)) N J → cf_n J N ≤ k) (ht : t ≤ k)
    (hb : ∀ i, i ≤ k → cf_w (bf_u (kx_c W) e (kx_c W e + 67108864)) (c i).testBit N ≤ cf_w (bf_u (kx_c W) e (kx_c W e + 67108864)) (c t).testBit N)
    (hE : ys_E (fun m => ys_fit N (-1) (nI (2 ^ e)) 0 m ∧ gd_g U V C Q N m) W N (2 ^ N) o x5) :
    ((c t).testBit e = true → o = some (c t)) ∧ ((c t).testBit e = false → o = none) := by
  obtain ⟨a, b, d, f⟩ := zp_top hc hx ht hb
  have f' : ∀ m, m < 2 ^ N → gd_g U V C Q N m → m.testBit e = true → cf_w (kx_c W) m.testBit N + 67108864 ≤ cf_w (kx_c W) (c t).testBit N + (if (c t).testBit e = true then 67108864 else 0) := by
    intro m hm hg hbit
    have := f m hm hg (zp_m1b hN hm)
    rw [zp_fw N he, zp_fw N he, if_pos hbit] at this
    exact this
  constructor
  · intro q
    refine zp_eq hN hE a ⟨(zp_fitw (by omega)).mpr q, b⟩ (fun m hm hf => ?_)
    have := f' m hm hf.2 ((zp_fitw (by omega)).mp hf.1)
    rw [if_pos q] at this
    omega
  · intro q
    refine zp_none hE (fun m hm hf => ?_)
    have := f' m hm hf.2 ((zp_fitw (by omega)).mp hf.1)
    rw [q, if_neg (by decide), ys_ko hm, ys_ko a] at this
    have t1 := zp_tot (S := m.testBit) N hW
    have t2 := zp_tot (S := (c t).testBit) N hW
    have l := xb_12 a hN
    omega
theorem zp_great {c : Nat → Nat} {k k' : Nat} (hN : N ≤ 12) (hc : xg_C U V C Q (gx_G (-1)) N K c k)
    (hx : ∀ J : Nat → Bool, gf_P U V (gx_G (-1)) N J → qf_P C Q (gx_G (-1)) N J → cf_n J N ≤ k) (h : ym_E (gd_g U V C Q N) N (2 ^ N) k') : k' = k := by
  obtain ⟨a, b, d, e, f⟩ := zp_k hc (Nat.le_refl k)
  have l1 := h.2.1 _ a b
  rcases h.2.2 with z | ⟨m, z1, z2, z3⟩
  · omega
  · have := zp_max hx z1 z2 (zp_m1b hN z1)
    omega
theorem zp_rank {k : Nat} (h : cx_ok n N us vs cs ws qs U V C Q W) (hE : ym_E (fun m => gf_F U V m.testBit N) N (2 ^ N) k) : k = cf_n (gf_suc U V (fun _ => true)) N := by
  obtain ⟨m, hm, he⟩ := xb_mk (gf_suc U V (fun _ => true)) N
  have l1 := hE.2.1 m hm (gf_rF he)
  rw [cf_nc he] at l1
  rcases hE.2.2 with z | ⟨m, z1, z2, z3⟩
  · omega
  · have := gf_rk (cx_UV h) z2
    omega
end
end
section
/-! the relation, and the calls that only ask -/
def zz_F (fn fN : Int32) (us vs cs ws qs qy : Nat → Int32) : Prop :=
  ∃ (n N : Nat) (U V C Q : Nat → Nat) (W : Nat → Int), fn = nI n ∧ fN = nI N ∧ cx_ok n N us vs cs ws qs U V C Q W ∧ ∀ c, c < 4 → qy c = qs c
/-- n, the edges with ends, colours and weights are the same; the quotas agree below 4; all in range -/
def i_Rel (k : Nat) (u : SX) (v : SY) : Prop := match u, v with
  | (fn, fN, _, us, vs, cs, ws, qs, _, _, _, _, _, _, _, _), (gn, gN, us', vs', cs', ws', qy, _, _) =>
    gn = fn ∧ gN = fN ∧ us' = us ∧ vs' = vs ∧ cs' = cs ∧ ws' = ws ∧ zz_F fn fN us vs cs ws qs qy ∧ k = k
theorem i_up {k : Nat} {u : SX} {v : SY} (h : i_Rel k u v) : i_Rel (k + 4) u v := by
  obtain ⟨fn, fN, sz, us, vs, cs, ws, qs, co, ch, ro, ud, di, sp, be, ar⟩ := u
  obtain ⟨gn, gN, us', vs', cs', ws', qy, la, uy⟩ := v
  obtain ⟨h1, h2, h3, h4, h5, h6, h7, _⟩ := h
  exact ⟨h1, h2, h3, h4, h5, h6, h7, rfl⟩
theorem zz_in {k n N : Nat} {sz : Int32} {us vs cs ws qs co ch ro ud di sp be ar qy la uy : Nat → Int32} {U V C Q : Nat → Nat} {W : Nat → Int}
    (h : cx_ok n N us vs cs ws qs U V C Q W) (hq : ∀ c, c < 4 → qy c = qs c) : i_Rel k (nI n, nI N, sz, us, vs, cs, ws, qs, co, ch, ro, ud, di, sp, be, ar) (nI n, nI N, us, vs, cs, ws, qy, la, uy) :=
  ⟨rfl, rfl, rfl, rfl, rfl, rfl, ⟨n, N, U, V, C, Q, W, rfl, rfl, h, hq⟩, rfl⟩
theorem zz_el {k : Nat} {u : SX} {v : SY} {P : SX → SY → Prop}
    (h : ∀ (n N : Nat) (sz : Int32) (us vs cs ws qs co ch ro ud di sp be ar qy la uy : Nat → Int32) (U V C Q : Nat → Nat) (W : Nat → Int),
      cx_ok n N us vs cs ws qs U V C Q W → (∀ c, c < 4 → qy c = qs c) → P (nI n, nI N, sz, us, vs, cs, ws, qs, co, ch, ro, ud, di, sp, be, ar) (nI n, nI N, us, vs, cs, ws, qy, la, uy)) (I : i_Rel k u v) : P u v := by
  obtain ⟨fn, fN, sz, us, vs, cs, ws, qs, co, ch, ro, ud, di, sp, be, ar⟩ := u
  obtain ⟨gn, gN, us', vs', cs', ws', qy, la, uy⟩ := v
  obtain ⟨h1, h2, h3, h4, h5, h6, ⟨n, N, U, V, C, Q, W, e1, e2, h7, h8⟩, _⟩ := I
  subst h1 h2 h3 h4 h5 h6 e1 e2
  exact h n N sz _ _ _ _ qs co ch ro ud di sp be ar qy la uy U V C Q W h7 h8
theorem kx_K0 {W : Nat → Int} {N : Nat} : kx_K W (kx_c W) N N := by
  intro e he
  rw [if_neg (by omega)]
  omega
theorem kx_Kf {W : Nat → Int} {N f : Nat} : kx_K W (bf_u (kx_c W) f (kx_c W f + 67108864)) N f := by
  intro e he
  by_cases c : e = f
  · subst c
    rw [bf_ux, if_pos rfl]
  · rw [bf_un c, if_neg c]
    omega
section
variable {n N : Nat} {sz bar : Int32} {us vs cs ws qs co ch ro ud di sp be ar : Nat → Int32} {U V C Q : Nat → Nat} {W K : Nat → Int}
theorem xz_bestSet {post : Int32 → SX → Prop} (h : cx_ok n N us vs cs ws qs U V C Q W)
    (hp : ∀ (k : Nat) (c : Nat → Nat) (t : Nat), xg_C U V C Q (gx_G (-1)) N (kx_c W) c k → (∀ J : Nat → Bool, gf_P U V (gx_G (-1)) N J → qf_P C Q (gx_G (-1)) N J → cf_n J N ≤ k) →
      t ≤ k → (∀ i, i ≤ k → cf_w (kx_c W) (c i).testBit N ≤ cf_w (kx_c W) (c t).testBit N) →
      ∀ (sz' : Int32) (co' ch' ro' ud' di' sp' be' ar' : Nat → Int32), post (nI (c t)) (nI n, nI N, sz', us, vs, cs, ws, qs, co', ch', ro', ud', di', sp', be', ar')) :
    wpX_bestSet post (nI n, nI N, sz, us, vs, cs, ws, qs, co, ch, ro, ud, di, sp, be, ar) := by
  have hN := cx_N h
  unfold wpX_bestSet
  dsimp only
  refine xs_take h (fun co' hco => xg_grow h hco (kx_B hN (fun e he => cx_W h he) kx_K0) (fun k c hk hc hx ch' ro' ud' di' sp' be' ar' hch =>
    xg_best hN (fun e he => cx_W h he) kx_K0 hco hk (fun i hi => (hc i hi).1) hch (fun t ht hb => ⟨vp_in_nI (by omega) (by omega), ?_⟩)))
  dsimp only
  rw [nI_clamp (by omega), hch t ht]
  exact hp k c t hc hx ht hb _ _ _ _ _ _ _ _ _
theorem xz_bestSetOf {post : Int32 → SX → Prop} {v1 : Int32} (h : cx_ok n N us vs cs ws qs U V C Q W)
    (hp : ∀ (k : Nat) (c : Nat → Nat), k ≤ 6 → xg_C U V C Q (gx_G (-1)) N (kx_c W) c k → (∀ J : Nat → Bool, gf_P U V (gx_G (-1)) N J → qf_P C Q (gx_G (-1)) N J → cf_n J N ≤ k) →
      ∀ (r : Int32), ((v1 < 0 ∧ r = -1) ∨ (∃ j, j < 2 ^ 31 ∧ v1 = nI j ∧ k < j ∧ r = -1) ∨ (∃ j, j ≤ k ∧ v1 = nI j ∧ r = nI (c j))) →
      ∀ (sz' : Int32) (co' ch' ro' ud' di' sp' be' ar' : Nat → Int32), post r (nI n, nI N, sz', us, vs, cs, ws, qs, co', ch', ro', ud', di', sp', be', ar')) :
    wpX_bestSetOf post (nI n, nI N, sz, us, vs, cs, ws, qs, co, ch, ro, ud, di, sp, be, ar) v1 := by
  have hN := cx_N h
  unfold wpX_bestSetOf
  dsimp only
  refine xs_take h (fun co' hco => xg_grow h hco (kx_B hN (fun e he => cx_W h he) kx_K0) (fun k c hk hc hx ch' ro' ud' di' sp' be' ar' hch => ?_))
  by_cases h0 : v1 < 0
  · exact br_t h0 (hp k c hk hc hx _ (Or.inl ⟨h0, rfl⟩) _ _ _ _ _ _ _ _ _)
  · obtain ⟨j, hj, rfl⟩ := nI_of h0
    refine br_f h0 (pk_le (k + 1) j (fun z => hp k c hk hc hx _ (Or.inr (Or.inl ⟨j, hj, rfl, by omega, rfl⟩)) _ _ _ _ _ _ _ _ _) (fun z => ⟨vp_in_nI (by omega) (by omega), ?_⟩) rfl rfl (by omega) hj)
    dsimp only
    rw [nI_clamp hj, hch j (by omega)]
    exact hp k c hk hc hx _ (Or.inr (Or.inr ⟨j, by omega, rfl, rfl⟩)) _ _ _ _ _ _ _ _ _
end
theorem i_vc_edges {k : Nat} {u : SX} {v : SY} (I : i_Rel k u v) (hk : k + 4 ≤ 2049) : wpX_edges (fun r => wpY_edges (fun r' => r' = r ∧ i_Rel (k + 4) u v) v) u := by
  refine zz_el (P := fun u v => wpX_edges (fun r => wpY_edges (fun r' => r' = r ∧ i_Rel (k + 4) u v) v) u) ?_ I
  intro n N sz us vs cs ws qs co ch ro ud di sp be ar qy la uy U V C Q W h hq
  exact And.intro rfl (zz_in h hq)
theorem i_vc_isGood {k : Nat} {u : SX} {v : SY} (I : i_Rel k u v) (hk : k + 4 ≤ 2049) (v1 : Int32) : wpX_isGood (fun r u' => wpY_isGood (fun r' v' => r' = r ∧ i_Rel (k + 4) u' v') v v1) u v1 := by
  refine zz_el (P := fun u v => wpX_isGood (fun r u' => wpY_isGood (fun r' v' => r' = r ∧ i_Rel (k + 4) u' v') v v1) u v1) ?_ I
  intro n N sz us vs cs ws qs co ch ro ud di sp be ar qy la uy U V C Q W h hq
  have hN := cx_N h
  have p12 : 2 ^ N ≤ 2 ^ 12 := Nat.pow_le_pow_right (by omega) hN
  unfold wpX_isGood wpX_isSet wpY_isGood
  dsimp only
  rw [xb_1c hN]
  by_cases h0 : v1 < 0
  · exact br_t h0 (br_t rfl (br_t h0 ⟨rfl, zz_in h hq⟩))
  · obtain ⟨j, hj, rfl⟩ := nI_of h0
    by_cases c : 2 ^ N ≤ j
    · exact br_f h0 (br_t (nI_le c hj) (br_t rfl (br_f h0 (br_f (nI_nlt c hj) ⟨rfl, zz_in h hq⟩))))
    · have j12 : j < 4096 := by omega
      refine br_f h0 (br_f (nI_ge (by omega) (by omega)) (br_f xb_10 ?_))
      refine xf_forest h j12 (fun F ro' => br_f xb_10 (xq_quotas h j12 (fun F2 ud' => br_f xb_10 ?_) (fun F2 ud' => br_t rfl ?_))) (fun F ro' => br_t rfl ?_)
      · exact br_f h0 (br_t (nI_lt (by omega) (by omega)) (yg_good h hq j12 (fun _ la' uy' => br_f xb_10 ⟨rfl, zz_in h hq⟩) (fun G la' uy' => absurd ⟨F, F2⟩ G)))
      · exact br_f h0 (br_t (nI_lt (by omega) (by omega)) (yg_good h hq j12 (fun G la' uy' => absurd G.2 F2) (fun _ la' uy' => br_t rfl ⟨rfl, zz_in h hq⟩)))
      · exact br_f h0 (br_t (nI_lt (by omega) (by omega)) (yg_good h hq j12 (fun G la' uy' => absurd G.1 F) (fun _ la' uy' => br_t rfl ⟨rfl, zz_in h hq⟩)))
theorem i_vc_best {k : Nat} {u : SX} {v : SY} (I : i_Rel k u v) (hk : k + 4 ≤ 2049) : wpX_best (fun r u' => wpY_best (fun r' v' => r' = r ∧ i_Rel (k + 4) u' v') v) u := by
  refine zz_el (P := fun u v => wpX_best (fun r u' => wpY_best (fun r' v' => r' = r ∧ i_Rel (k + 4) u' v') v) u) ?_ I
  intro n N sz us vs cs ws qs co ch ro ud di sp be ar qy la uy U V C Q W h hq
  have hN := cx_N h
  unfold wpX_best wpY_best
  dsimp only
  refine xz_bestSet h (fun k c t hc hx ht hb sz' co' ch' ro' ud' di' sp' be' ar' => xs_weight h (xb_12 (hc t ht).1 hN) (ys_search h hq (fun o x5 hE la' uy' => ?_)))
  have e := zp_best hN hc hx ht hb hE
  subst e
  exact yt_total h (xb_12 (hc t ht).1 hN) ⟨rfl, zz_in h hq⟩
theorem i_vc_bestSet {k : Nat} {u : SX} {v : SY} (I : i_Rel k u v) (hk : k + 4 ≤ 2049) : wpX_bestSet (fun r u' => wpY_bestSet (fun r' v' => r' = r ∧ i_Rel (k + 4) u' v') v) u := by
  refine zz_el (P := fun u v => wpX_bestSet (fun r u' => wpY_bestSet (fun r' v' => r' = r ∧ i_Rel (k + 4) u' v') v) u) ?_ I
  intro n N sz us vs cs ws qs co ch ro ud di sp be ar qy la uy U V C Q W h hq
  have hN := cx_N h
  refine xz_bestSet h (fun k c t hc hx ht hb sz' co' ch' ro' ud' di' sp' be' ar' => ?_)
  unfold wpY_bestSet
  dsimp only
  refine ys_search h hq (fun o x5 hE la' uy' => ?_)
  have e := zp_best hN hc hx ht hb hE
  subst e
  exact ⟨rfl, zz_in h hq⟩
theorem i_vc_bestSetOf {k : Nat} {u : SX} {v : SY} (I : i_Rel k u v) (hk : k + 4 ≤ 2049) (v1 : Int32) : wpX_bestSetOf (fun r u' => wpY_bestSetOf (fun r' v' => r' = r ∧ i_Rel (k + 4) u' v') v v1) u v1 := by
  refine zz_el (P := fun u v => wpX_bestSetOf (fun r u' => wpY_bestSetOf (fun r' v' => r' = r ∧ i_Rel (k + 4) u' v') v v1) u v1) ?_ I
  intro n N sz us vs cs ws qs co ch ro ud di sp be ar qy la uy U V C Q W h hq
  have hN := cx_N h
  refine xz_bestSetOf h (fun k c k6 hc hx r hr sz' co' ch' ro' ud' di' sp' be' ar' => ?_)
  unfold wpY_bestSetOf
  dsimp only
  rcases hr with ⟨h0, rfl⟩ | ⟨j, hj, rfl, hkj, rfl⟩ | ⟨j, hj, rfl, rfl⟩
  · exact br_f (fun z => Int32.not_lt.mpr z h0) ⟨rfl, zz_in h hq⟩
  · refine br_t (nI_pos' hj) (ys_search h hq (fun o x5 hE la' uy' => ?_))
    have e := zp_nsize hN hx hkj hj hE
    subst e
    exact ⟨rfl, zz_in h hq⟩
  · refine br_t (nI_pos' (by omega)) (ys_search h hq (fun o x5 hE la' uy' => ?_))
    have e := zp_size hN hc hj (by omega) hE
    subst e
    exact ⟨rfl, zz_in h hq⟩
theorem i_vc_bestOf {k : Nat} {u : SX} {v : SY} (I : i_Rel k u v) (hk : k + 4 ≤ 2049) (v1 : Int32) : wpX_bestOf (fun r u' => wpY_bestOf (fun r' v' => r' = r ∧ i_Rel (k + 4) u' v') v v1) u v1 := by
  refine zz_el (P := fun u v => wpX_bestOf (fun r u' => wpY_bestOf (fun r' v' => r' = r ∧ i_Rel (k + 4) u' v') v v1) u v1) ?_ I
  intro n N sz us vs cs ws qs co ch ro ud di sp be ar qy la uy U V C Q W h hq
  have hN := cx_N h
  unfold wpX_bestOf wpY_bestOf
  dsimp only
  refine xz_bestSetOf h (fun k c k6 hc hx r hr sz' co' ch' ro' ud' di' sp' be' ar' => ?_)
  rcases hr with ⟨h0, rfl⟩ | ⟨j, hj, rfl, hkj, rfl⟩ | ⟨j, hj, rfl, rfl⟩
  · refine br_f (by decide) (br_f (fun z => Int32.not_lt.mpr z h0) ?_)
    unfold wY_bestOf_15
    exact br_f (by decide) ⟨rfl, zz_in h hq⟩
  · refine br_f (by decide) (br_t (nI_pos' hj) (ys_search h hq (fun o x5 hE la' uy' => ?_)))
    have e := zp_nsize hN hx hkj hj hE
    subst e
    unfold wY_bestOf_15
    exact br_f (by decide) ⟨rfl, zz_in h hq⟩
  · have c12 := xb_12 (hc j hj).1 hN
    refine br_t (nI_pos' (by omega)) (xs_weight h c12 (br_t (nI_pos' (by omega)) (ys_search h hq (fun o x5 hE la' uy' => ?_))))
    have e := zp_size hN hc hj (by omega) hE
    subst e
    unfold wY_bestOf_15
    exact br_t (nI_pos' (by omega)) (yt_total h c12 ⟨rfl, zz_in h hq⟩)
theorem i_vc_greatest {k : Nat} {u : SX} {v : SY} (I : i_Rel k u v) (hk : k + 4 ≤ 2049) : wpX_greatest (fun r u' => wpY_greatest (fun r' v' => r' = r ∧ i_Rel (k + 4) u' v') v) u := by
  refine zz_el (P := fun u v => wpX_greatest (fun r u' => wpY_greatest (fun r' v' => r' = r ∧ i_Rel (k + 4) u' v') v) u) ?_ I
  intro n N sz us vs cs ws qs co ch ro ud di sp be ar qy la uy U V C Q W h hq
  have hN := cx_N h
  unfold wpX_greatest wpY_greatest
  dsimp only
  refine xs_take h (fun co' hco => xg_grow h hco (kx_B hN (fun e he => cx_W h he) kx_K0) (fun k c hk hc hx ch' ro' ud' di' sp' be' ar' hch => ym_most h hq (fun k' hE la' uy' => ⟨?_, zz_in h hq⟩)))
  rw [zp_great hN hc hx hE, nI_pred]
theorem i_vc_spares {k : Nat} {u : SX} {v : SY} (I : i_Rel k u v) (hk : k + 4 ≤ 2049) : wpX_spares (fun r u' => wpY_spares (fun r' v' => r' = r ∧ i_Rel (k + 4) u' v') v) u := by
  refine zz_el (P := fun u v => wpX_spares (fun r u' => wpY_spares (fun r' v' => r' = r ∧ i_Rel (k + 4) u' v') v) u) ?_ I
  intro n N sz us vs cs ws qs co ch ro ud di sp be ar qy la uy U V C Q W h hq
  have hN := cx_N h
  unfold wpX_spares wpY_spares
  dsimp only
  refine xs_take h (fun co' hco => xg_grow h hco (kx_B hN (fun e he => cx_W h he) kx_K0) (fun k c hk hc hx ch' ro' ud' di' sp' be' ar' hch => ?_))
  dsimp only
  rw [nI_pred, nI_clamp (by omega), hch k (Nat.le_refl _)]
  have ck := (hc k (Nat.le_refl _)).1
  refine ⟨vp_in_nI (by omega) (by omega), nm_e ⟨N + 1, xp_25 h ck (fun ro2 ud2 => ?_) N 0 (N + 1) ro' ud' (by omega) (by omega)⟩⟩
  refine ym_most h hq (fun k' hE la2 uy2 => ?_)
  have e := zp_great hN hc hx hE
  subst e
  refine ys_search h hq (fun o x5 hE2 la3 uy3 => ?_)
  have e := zp_size hN hc (Nat.le_refl _) (by omega) hE2
  subst e
  exact ⟨N + 1, yp_18 h hq ck (fun la4 uy4 => ⟨rfl, zz_in h hq⟩) N 0 (N + 1) la3 uy3 (by omega) (by omega)⟩
theorem i_vc_rank {k : Nat} {u : SX} {v : SY} (I : i_Rel k u v) (hk : k + 4 ≤ 2049) : wpX_rank (fun r u' => wpY_rank (fun r' v' => r' = r ∧ i_Rel (k + 4) u' v') v) u := by
  refine zz_el (P := fun u v => wpX_rank (fun r u' => wpY_rank (fun r' v' => r' = r ∧ i_Rel (k + 4) u' v') v) u) ?_ I
  intro n N sz us vs cs ws qs co ch ro ud di sp be ar qy la uy U V C Q W h hq
  refine xk_rank h (fun ro' => yr_rank h (fun k' hE la' => ⟨?_, zz_in h hq⟩))
  rw [zp_rank h hE]
end
section
/-! edges, colours; best with and without an edge; calls that change one cell -/
section
variable {n N : Nat} {sz bar : Int32} {us vs cs ws qs co ch ro ud di sp be ar qy la uy : Nat → Int32}
theorem xe_b {post : Int32 → Prop} {v : Int32} (hN : N ≤ 12) (h : v < 0 ∨ nI N ≤ v) (hp : post 0) : wpX_isEdge post (nI n, nI N, sz, us, vs, cs, ws, qs, co, ch, ro, ud, di, sp, be, ar) v := by
  by_cases h0 : v < 0
  · exact br_t h0 hp
  · rcases h with h | h
    · exact absurd h h0
    · exact br_f h0 (br_t h hp)
theorem xe_g {post : Int32 → Prop} {e : Nat} (hN : N ≤ 12) (he : e < N) (hp : post 1) : wpX_isEdge post (nI n, nI N, sz, us, vs, cs, ws, qs, co, ch, ro, ud, di, sp, be, ar) (nI e) :=
  br_f (nI_pos (by omega)) (br_f (nI_ge he (by omega)) hp)
theorem ye_b {post : Int32 → Prop} {v : Int32} (hN : N ≤ 12) (h : v < 0 ∨ nI N ≤ v) (hp : post 1) : wpY_badEdge post (nI n, nI N, us, vs, cs, ws, qy, la, uy) v := by
  by_cases h0 : v < 0
  · exact br_t h0 hp
  · rcases h with h | h
    · exact absurd h h0
    · exact br_f h0 (br_t h hp)
theorem ye_g {post : Int32 → Prop} {e : Nat} (hN : N ≤ 12) (he : e < N) (hp : post 0) : wpY_badEdge post (nI n, nI N, us, vs, cs, ws, qy, la, uy) (nI e) :=
  br_f (nI_pos (by omega)) (br_f (nI_ge he (by omega)) (br_t (nI_le (b := 11) (by omega) (by omega)) hp))
theorem xc_b {post : Int32 → Prop} {v : Int32} (h : v < 0 ∨ nI 4 ≤ v) (hp : post 0) : wpX_isColour post v := by
  by_cases h0 : v < 0
  · exact br_t h0 hp
  · rcases h with h | h
    · exact absurd h h0
    · exact br_f h0 (br_t h hp)
theorem xc_g {post : Int32 → Prop} {c : Nat} (hc : c < 4) (hp : post 1) : wpX_isColour post (nI c) :=
  br_f (nI_pos (by omega)) (br_f (nI_ge (b := 4) hc (by omega)) hp)
theorem yc_b {post : Int32 → Prop} {v : Int32} (h : v < 0 ∨ nI 4 ≤ v) (hp : post 1) : wpY_badColour post (nI n, nI N, us, vs, cs, ws, qy, la, uy) v := by
  by_cases h0 : v < 0
  · exact br_t h0 hp
  · obtain ⟨j, hj, rfl⟩ := nI_of h0
    rcases h with h | h
    · exact absurd h h0
    · rw [nI_leI (by omega) hj] at h
      exact br_f h0 (br_f (nI_ge (a := 3) (by omega) hj) hp)
theorem yc_g {post : Int32 → Prop} {c : Nat} (hc : c < 4) (hp : post 0) : wpY_badColour post (nI n, nI N, us, vs, cs, ws, qy, la, uy) (nI c) :=
  br_f (nI_pos (by omega)) (br_t (nI_le (b := 3) (by omega) (by omega)) hp)
theorem zz_ix (v : Int32) {n : Nat} (hn : n < 2 ^ 31) : (v < 0 ∨ nI n ≤ v) ∨ ∃ j : Nat, j < n ∧ v = nI j := by
  rcases pk_ix v hn with h | h | h
  · exact Or.inl (Or.inl h)
  · exact Or.inl (Or.inr h)
  · exact Or.inr h
end
theorem i_vc_bestWith {k : Nat} {u : SX} {v : SY} (I : i_Rel k u v) (hk : k + 4 ≤ 2049) (v1 : Int32) : wpX_bestWith (fun r u' => wpY_bestWith (fun r' v' => r' = r ∧ i_Rel (k + 4) u' v') v v1) u v1 := by
  refine zz_el (P := fun u v => wpX_bestWith (fun r u' => wpY_bestWith (fun r' v' => r' = r ∧ i_Rel (k + 4) u' v') v v1) u v1) ?_ I
  intro n N sz us vs cs ws qs co ch ro ud di sp be ar qy la uy U V C Q W h hq
  have hN := cx_N h
  unfold wpX_bestWith wpY_bestWith
  dsimp only
  rcases zz_ix v1 (n := N) (by omega) with z | ⟨e, he, rfl⟩
  · exact xe_b hN z (br_t rfl (ye_b hN z (br_f xb_10 ⟨rfl, zz_in h hq⟩)))
  · refine xe_g hN he (br_f xb_10 (xs_take h (fun co' hco => ?_)))
    have hi : vp_in (nI e) 12 := vp_in_nI (by omega) (by omega)
    dsimp only
    rw [nI_clamp (show e < 2 ^ 31 by omega), xb_p (by omega)]
    refine ⟨hi, hi, nm_e ?_⟩
    have hco2 : ∀ i, i < N → upd co' e (co' e + 67108864) i = zi_z (bf_u (kx_c W) e (kx_c W e + 67108864) i) := by
      intro i hi
      by_cases c : i = e
      · rw [c, pk_us, bf_ux, hco e he, show (67108864 : Int32) = zi_z 67108864 from rfl, zi_add]
      · rw [pk_un c, bf_un c]
        exact hco i hi
    refine xg_grow h hco2 (kx_B hN (fun e he => cx_W h he) kx_Kf) (fun k c hk hc hx ch' ro' ud' di' sp' be' ar' hch =>
      xg_best hN (fun e he => cx_W h he) kx_Kf hco2 hk (fun i hi => (hc i hi).1) hch (fun t ht hb => ⟨vp_in_nI (by omega) (by omega), ?_⟩))
    dsimp only
    rw [nI_clamp (by omega), hch t ht]
    have c12 := xb_12 (hc t ht).1 hN
    refine nm_e (xb_br c12 (by omega) (fun q => xs_weight h c12 ?_) (fun q => ?_))
    · refine ye_g hN he (br_t rfl (ys_search h hq (fun o x5 hE la' uy' => ?_)))
      have e1 := (zp_with hN (fun e he => cx_W h he) he hc hx ht hb hE).1 q
      subst e1
      exact br_t (nI_pos' (by omega)) (yt_total h c12 ⟨rfl, zz_in h hq⟩)
    · refine ye_g hN he (br_t rfl (ys_search h hq (fun o x5 hE la' uy' => ?_)))
      have e1 := (zp_with hN (fun e he => cx_W h he) he hc hx ht hb hE).2 q
      subst e1
      exact br_f (by decide) ⟨rfl, zz_in h hq⟩
theorem i_vc_bestWithout {k : Nat} {u : SX} {v : SY} (I : i_Rel k u v) (hk : k + 4 ≤ 2049) (v1 : Int32) : wpX_bestWithout (fun r u' => wpY_bestWithout (fun r' v' => r' = r ∧ i_Rel (k + 4) u' v') v v1) u v1 := by
  refine zz_el (P := fun u v => wpX_bestWithout (fun r u' => wpY_bestWithout (fun r' v' => r' = r ∧ i_Rel (k + 4) u' v') v v1) u v1) ?_ I
  intro n N sz us vs cs ws qs co ch ro ud di sp be ar qy la uy U V C Q W h hq
  have hN := cx_N h
  unfold wpX_bestWithout wpY_bestWithout
  dsimp only
  rcases zz_ix v1 (n := N) (by omega) with z | ⟨e, he, rfl⟩
  · exact xe_b hN z (br_t rfl (ye_b hN z (br_f xb_10 ⟨rfl, zz_in h hq⟩)))
  · refine xe_g hN he (br_f xb_10 (xs_take h (fun co' hco => ?_)))
    dsimp only
    rw [xb_p (by omega)]
    refine xg_grow h hco (kx_B hN (fun e he => cx_W h he) kx_K0) (fun k c hk hc hx ch' ro' ud' di' sp' be' ar' hch =>
      xg_best hN (fun e he => cx_W h he) kx_K0 hco hk (fun i hi => (hc i hi).1) hch (fun t ht hb => ⟨vp_in_nI (by omega) (by omega), ?_⟩))
    dsimp only
    rw [nI_clamp (by omega), hch t ht]
    have c12 := xb_12 (hc t ht).1 hN
    refine xs_weight h c12 (ye_g hN he (br_t rfl (ys_search h hq (fun o x5 hE la' uy' => ?_))))
    have e1 := zp_out hN (by omega) hc hx ht hb hE
    subst e1
    exact yt_total h c12 ⟨rfl, zz_in h hq⟩
theorem zz_w {v : Int32} (h1 : ¬ v < -20) (h2 : v ≤ 50) : -20 ≤ v.toInt ∧ v.toInt ≤ 50 := by
  rw [Int32.lt_iff_toInt_lt, show (-20 : Int32).toInt = -20 by decide] at h1
  rw [Int32.le_iff_toInt_le, show (50 : Int32).toInt = 50 by decide] at h2
  omega
theorem i_vc_weigh {k : Nat} {u : SX} {v : SY} (I : i_Rel k u v) (hk : k + 4 ≤ 2049) (v1 : Int32) (v2 : Int32) : wpX_weigh (fun r u' => wpY_weigh (fun r' v' => r' = r ∧ i_Rel (k + 4) u' v') v v1 v2) u v1 v2 := by
  refine zz_el (P := fun u v => wpX_weigh (fun r u' => wpY_weigh (fun r' v' => r' = r ∧ i_Rel (k + 4) u' v') v v1 v2) u v1 v2) ?_ I
  intro n N sz us vs cs ws qs co ch ro ud di sp be ar qy la uy U V C Q W h hq
  have hN := cx_N h
  unfold wpX_weigh wpY_weigh wpY_badWeight
  dsimp only
  rcases zz_ix v1 (n := N) (by omega) with z | ⟨e, he, rfl⟩
  · exact xe_b hN z (br_t rfl (ye_b hN z (br_f xb_10 ⟨rfl, zz_in h hq⟩)))
  · have hi : vp_in (nI e) 12 := vp_in_nI (by omega) (by omega)
    by_cases w1 : v2 < -20
    · exact xe_g hN he (br_f xb_10 (br_t w1 (ye_g hN he (br_t rfl (br_t w1 (br_f xb_10 ⟨rfl, zz_in h hq⟩))))))
    · by_cases w2 : v2 ≤ 50
      · refine xe_g hN he (br_f xb_10 (br_f w1 (br_t w2 ⟨hi, nm_e ⟨hi, nm_e (ye_g hN he (br_t rfl (br_f w1 (br_t w2 (br_t rfl ⟨hi, nm_e ⟨hi, nm_e ⟨rfl, ?_⟩⟩⟩)))))⟩⟩)))
        rw [nI_clamp (by omega)]
        refine zz_in (U := U) (V := V) (C := C) (Q := Q) (W := bf_u W e v2.toInt) ⟨h.1, h.2.1, h.2.2.1, fun i hi => ?_, h.2.2.2.2⟩ hq
        have hW := zz_w w1 w2
        obtain ⟨a1, a2, a3, a4, a5, a6, a7, a8⟩ := h.2.2.2.1 i hi
        refine ⟨a1, a2, a3, a4, a5, a6, ?_⟩
        by_cases c : i = e
        · rw [c, pk_us, bf_ux, zi_t]
          exact ⟨rfl, hW⟩
        · rw [pk_un c, bf_un c]
          exact ⟨a7, a8⟩
      · exact xe_g hN he (br_f xb_10 (br_f w1 (br_f w2 (ye_g hN he (br_t rfl (br_f w1 (br_f w2 (br_f xb_10 ⟨rfl, zz_in h hq⟩))))))))
theorem i_vc_paint {k : Nat} {u : SX} {v : SY} (I : i_Rel k u v) (hk : k + 4 ≤ 2049) (v1 : Int32) (v2 : Int32) : wpX_paint (fun r u' => wpY_paint (fun r' v' => r' = r ∧ i_Rel (k + 4) u' v') v v1 v2) u v1 v2 := by
  refine zz_el (P := fun u v => wpX_paint (fun r u' => wpY_paint (fun r' v' => r' = r ∧ i_Rel (k + 4) u' v') v v1 v2) u v1 v2) ?_ I
  intro n N sz us vs cs ws qs co ch ro ud di sp be ar qy la uy U V C Q W h hq
  have hN := cx_N h
  unfold wpX_paint wpY_paint
  dsimp only
  rcases zz_ix v1 (n := N) (by omega) with z | ⟨e, he, rfl⟩
  · exact xe_b hN z (br_t rfl (ye_b hN z (br_f xb_10 ⟨rfl, zz_in h hq⟩)))
  · have hi : vp_in (nI e) 12 := vp_in_nI (by omega) (by omega)
    rcases zz_ix v2 (n := 4) (by omega) with z | ⟨c, hc, rfl⟩
    · exact xe_g hN he (br_f xb_10 (xc_b z (br_t rfl (ye_g hN he (br_t rfl (yc_b z (br_f xb_10 ⟨rfl, zz_in h hq⟩)))))))
    · refine xe_g hN he (br_f xb_10 (xc_g hc (br_f xb_10 ⟨hi, nm_e ⟨hi, nm_e (ye_g hN he (br_t rfl (yc_g hc (br_t rfl ⟨hi, nm_e ⟨hi, nm_e ⟨rfl, ?_⟩⟩⟩))))⟩⟩)))
      rw [nI_clamp (by omega)]
      refine zz_in (U := U) (V := V) (C := bf_u C e c) (Q := Q) (W := W) ⟨h.1, h.2.1, h.2.2.1, fun i hi => ?_, h.2.2.2.2⟩ hq
      obtain ⟨a1, a2, a3, a4, a5, a6, a7⟩ := h.2.2.2.1 i hi
      by_cases q : i = e
      · rw [q] at a1 a2 a3 a4 a7 ⊢
        rw [pk_us, bf_ux]
        exact ⟨a1, a2, a3, a4, rfl, hc, a7⟩
      · rw [pk_un q, bf_un q]
        exact ⟨a1, a2, a3, a4, a5, a6, a7⟩
theorem i_vc_quota {k : Nat} {u : SX} {v : SY} (I : i_Rel k u v) (hk : k + 4 ≤ 2049) (v1 : Int32) (v2 : Int32) : wpX_quota (fun r u' => wpY_quota (fun r' v' => r' = r ∧ i_Rel (k + 4) u' v') v v1 v2) u v1 v2 := by
  refine zz_el (P := fun u v => wpX_quota (fun r u' => wpY_quota (fun r' v' => r' = r ∧ i_Rel (k + 4) u' v') v v1 v2) u v1 v2) ?_ I
  intro n N sz us vs cs ws qs co ch ro ud di sp be ar qy la uy U V C Q W h hq
  unfold wpX_quota wpY_quota
  dsimp only
  rcases zz_ix v1 (n := 4) (by omega) with z | ⟨c, hc, rfl⟩
  · exact xc_b z (br_t rfl (yc_b z (br_f xb_10 ⟨rfl, zz_in h hq⟩)))
  · have hi : vp_in (nI c) 4 := vp_in_nI (by omega) (by omega)
    have hi8 : vp_in (nI c) 8 := vp_in_nI (by omega) (by omega)
    rw [nI_clamp (by omega)]
    by_cases w1 : v2 < 0
    · exact xc_g hc (br_f xb_10 (br_t w1 (yc_g hc (br_t rfl (br_t w1 ⟨rfl, zz_in h hq⟩)))))
    · by_cases w2 : v2 ≤ 6
      · obtain ⟨j, hj, rfl⟩ := nI_of2 (n := 6) (by decide) w1 w2
        refine xc_g hc (br_f xb_10 (br_f w1 (br_t w2 ⟨hi, nm_e ⟨hi, nm_e (yc_g hc (br_t rfl (br_f w1 (br_t w2 ⟨hi8, nm_e ⟨hi8, nm_e ⟨hq c hc, ?_⟩⟩⟩))))⟩⟩)))
        refine zz_in (U := U) (V := V) (C := C) (Q := bf_u Q c j) (W := W) ⟨h.1, h.2.1, h.2.2.1, h.2.2.2.1, fun i hi => ?_⟩ (fun i hi => ?_)
        · by_cases q : i = c
          · rw [q, pk_us, bf_ux]
            exact ⟨rfl, hj⟩
          · rw [pk_un q, bf_un q]
            exact h.2.2.2.2 i hi
        · by_cases q : i = c
          · rw [q, pk_us, pk_us]
          · rw [pk_un q, pk_un q]
            exact hq i hi
      · exact xc_g hc (br_f xb_10 (br_f w1 (br_f w2 (yc_g hc (br_t rfl (br_f w1 (br_f w2 ⟨rfl, zz_in h hq⟩)))))))
end
section
/-! link, cut, the constructors -/
theorem i_vc_link {k : Nat} {u : SX} {v : SY} (I : i_Rel k u v) (hk : k + 4 ≤ 2049) (v1 : Int32) (v2 : Int32) (v3 : Int32) : wpX_link (fun r u' => wpY_link (fun r' v' => r' = r ∧ i_Rel (k + 4) u' v') v v1 v2 v3) u v1 v2 v3 := by
  refine zz_el (P := fun u v => wpX_link (fun r u' => wpY_link (fun r' v' => r' = r ∧ i_Rel (k + 4) u' v') v v1 v2 v3) u v1 v2 v3) ?_ I
  intro n N sz us vs cs ws qs co ch ro ud di sp be ar qy la uy U V C Q W h hq
  have hN := cx_N h
  have hn := cx_n h
  have h8 : ¬ (8 : Int32) = 0 := by decide
  unfold wpX_link wpY_link wpY_badWeight
  dsimp only
  by_cases h0 : v1 < 0
  · exact nm_e (nm_e (br_t h0 (br_t h0 ⟨rfl, zz_in h hq⟩)))
  · obtain ⟨j, hj, rfl⟩ := nI_of h0
    have e1 : nI j >>> ((3 : Int32) &&& 31) = nI (j / 8) := pk_shrN hj _ 3 (by decide)
    have e2 : nI j &&& 7 = nI (j % 8) := pk_andN (by omega) 3 (by decide)
    have e3 : nI j / 8 = nI (j / 8) := pk_div (d := 8) hj (by omega) (by omega)
    have e4 : nI j - nI j / 8 * 8 = nI (j % 8) := pk_rem (d := 8) hj (by omega) (by omega)
    rw [e4, e3]
    refine nm_r e1 (nm_r e2 (br_f h0 ?_))
    by_cases q1 : n ≤ j / 8
    · exact br_t (nI_le q1 (by omega)) (br_f h0 ⟨h8, br_t (nI_le q1 (by omega)) ⟨rfl, zz_in h hq⟩⟩)
    · have p1 : ¬ nI n ≤ nI (j / 8) := nI_ge (by omega) (by omega)
      by_cases q2 : j % 8 < n
      · have p2 : nI (j % 8) < nI n := nI_lt q2 (by omega)
        rcases zz_ix v2 (n := 4) (by omega) with z | ⟨c, hc, rfl⟩
        · exact br_f p1 (br_t p2 (xc_b z (br_t rfl (br_f h0 ⟨h8, br_f p1 ⟨h8, br_t p2 (yc_b z (br_f xb_10 ⟨rfl, zz_in h hq⟩))⟩⟩))))
        · by_cases w1 : v3 < -20
          · exact br_f p1 (br_t p2 (xc_g hc (br_f xb_10 (br_t w1 (br_f h0 ⟨h8, br_f p1 ⟨h8, br_t p2 (yc_g hc (br_t rfl (br_t w1 (br_f xb_10 ⟨rfl, zz_in h hq⟩))))⟩⟩)))))
          · by_cases w2 : v3 ≤ 50
            · by_cases w3 : N = 12
              · have p3 : nI N = 12 := by rw [w3]; rfl
                have p4 : ¬ nI N < 12 := nI_nlt (b := 12) (by omega) (by omega)
                exact br_f p1 (br_t p2 (xc_g hc (br_f xb_10 (br_f w1 (br_t w2 (br_t p3 (br_f h0 ⟨h8, br_f p1 ⟨h8, br_t p2 (yc_g hc (br_t rfl (br_f w1 (br_t w2 (br_t rfl (br_f p4 ⟨rfl, zz_in h hq⟩))))))⟩⟩)))))))
              · have p3 : ¬ nI N = 12 := fun z => w3 ((nI_eq (b := 12) (by omega) (by omega)).mp z)
                have p4 : nI N < 12 := nI_lt (b := 12) (by omega) (by omega)
                have hi : vp_in (nI N) 12 := vp_in_nI (by omega) (by omega)
                rw [nI_clamp (show N < 2 ^ 31 by omega)]
                refine br_f p1 (br_t p2 (xc_g hc (br_f xb_10 (br_f w1 (br_t w2 (br_f p3 ⟨hi, nm_e ⟨hi, nm_e ⟨hi, nm_e ⟨hi, nm_e (nm_r (nI_1 N) (br_f h0 ⟨h8, br_f p1 ⟨h8, br_t p2
                  (yc_g hc (br_t rfl (br_f w1 (br_t w2 (br_t rfl (br_t p4 ⟨h8, hi, nm_e ⟨h8, hi, nm_e ⟨hi, nm_e ⟨hi, nm_e (nm_r (nI_1 N) ⟨?_, ?_⟩)⟩⟩⟩⟩))))))⟩⟩))⟩⟩⟩⟩))))))
                · rw [nI_pred]
                · refine zz_in (U := bf_u U N (j / 8)) (V := bf_u V N (j % 8)) (C := bf_u C N c) (Q := Q) (W := bf_u W N v3.toInt) ⟨h.1, h.2.1, by omega, fun i hi => ?_, h.2.2.2.2⟩ hq
                  by_cases y : i = N
                  · rw [y, pk_us, pk_us, pk_us, pk_us, bf_ux, bf_ux, bf_ux, bf_ux, zi_t]
                    exact ⟨rfl, by omega, rfl, by omega, rfl, hc, rfl, zz_w w1 w2⟩
                  · rw [pk_un y, pk_un y, pk_un y, pk_un y, bf_un y, bf_un y, bf_un y, bf_un y]
                    exact h.2.2.2.1 i (by omega)
            · exact br_f p1 (br_t p2 (xc_g hc (br_f xb_10 (br_f w1 (br_f w2 (br_f h0 ⟨h8, br_f p1 ⟨h8, br_t p2 (yc_g hc (br_t rfl (br_f w1 (br_f w2 (br_f xb_10 ⟨rfl, zz_in h hq⟩)))))⟩⟩))))))
      · have p2 : ¬ nI (j % 8) < nI n := nI_nlt (by omega) (by omega)
        exact br_f p1 (br_f p2 (br_f h0 ⟨h8, br_f p1 ⟨h8, br_f p2 ⟨rfl, zz_in h hq⟩⟩⟩))
/-- the cells from d up to i hold their right neighbours -/
def sh_a (a : Nat → Int32) (d i : Nat) : Nat → Int32 := fun e => if d ≤ e ∧ e < i then a (e + 1) else a e
theorem sh_0 (a : Nat → Int32) (d : Nat) : sh_a a d d = a := by
  funext e
  exact if_neg (by omega)
theorem sh_s {a : Nat → Int32} {d i : Nat} (h : d ≤ i) : upd (sh_a a d i) i (sh_a a d i (i + 1)) = sh_a a d (i + 1) := by
  funext e
  by_cases c : e = i
  · subst c
    rw [pk_us]
    unfold sh_a
    rw [if_neg (by omega), if_pos (by omega)]
  · rw [pk_un c]
    unfold sh_a
    have : (d ≤ e ∧ e < i) ↔ (d ≤ e ∧ e < i + 1) := by omega
    simp only [this]
theorem sh_t {a : Nat → Int32} {d i e : Nat} (h : d ≤ e) (h2 : e < i) : sh_a a d i e = a (e + 1) := if_pos ⟨h, h2⟩
theorem sh_f {a : Nat → Int32} {d i e : Nat} (h : e < d) : sh_a a d i e = a e := if_neg (by omega)
section
variable {n N : Nat} {sz bar : Int32} {us vs cs ws qs co ch ro ud di sp be ar qy la uy : Nat → Int32}
theorem xh_14 {post : Int32 → SX → Prop} {d : Nat} (hN : N + 1 ≤ 12)
    (hp : post (nI N) (nI n, nI N, sz, sh_a us d N, sh_a vs d N, sh_a cs d N, sh_a ws d N, qs, co, ch, ro, ud, di, sp, be, ar)) :
    ∀ (q i fuel : Nat), i + q = N → q < fuel → d ≤ i → wX_cut_14 post (nI n) (nI (N + 1)) sz fuel (nI (i + 1)) (sh_a us d i) (sh_a vs d i) (sh_a cs d i) (sh_a ws d i) qs co ch ro ud di sp be ar := by
  intro q
  induction q with
  | zero =>
    intro i fuel hi hfu hd
    obtain ⟨g, rfl, hg⟩ := cx_fu hfu
    have e : i = N := by omega
    subst e
    exact br_t (nI_le (by omega) (by omega)) (nm_r (nI_pred i) hp)
  | succ q ih =>
    intro i fuel hi hfu hd
    obtain ⟨g, rfl, hg⟩ := cx_fu hfu
    have v1 : vp_in (nI (i + 1)) 12 := vp_in_nI (by omega) (by omega)
    have v0 : vp_in (nI (i + 1) - 1) 12 := by
      rw [nI_pred]
      exact vp_in_nI (by omega) (by omega)
    have c1 : (nI (i + 1)).toNatClampNeg = i + 1 := nI_clamp (by omega)
    have c0 : (nI (i + 1) - 1).toNatClampNeg = i := by
      rw [nI_pred]
      exact nI_clamp (by omega)
    have s1 : ∀ a : Nat → Int32, upd (sh_a a d i) (nI (i + 1) - 1).toNatClampNeg (sh_a a d i (nI (i + 1)).toNatClampNeg) = sh_a a d (i + 1) := by
      intro a
      rw [c0, c1]
      exact sh_s hd
    exact br_f (nI_ge (by omega) (by omega)) ⟨v1, v0, nm_r (s1 us) ⟨v1, v0, nm_r (s1 vs) ⟨v1, v0, nm_r (s1 cs) ⟨v1, v0, nm_r (s1 ws) (nm_r (nI_1 (i + 1)) (ih (i + 1) g (by omega) (by omega) (by omega)))⟩⟩⟩⟩
theorem yh_12 {post : Int32 → SY → Prop} {d : Nat} (hN : N + 1 ≤ 12)
    (hp : post (nI N) (nI n, nI N, sh_a us d N, sh_a vs d N, sh_a cs d N, sh_a ws d N, qy, la, uy)) :
    ∀ (q i fuel : Nat), i + q = N → q < fuel → d ≤ i → wY_cut_12 post (nI n) (nI (N + 1)) fuel (nI i) (sh_a us d i) (sh_a vs d i) (sh_a cs d i) (sh_a ws d i) qy la uy := by
  have e0 : nI (N + 1) - 1 = nI N := nI_pred N
  intro q
  induction q with
  | zero =>
    intro i fuel hi hfu hd
    obtain ⟨g, rfl, hg⟩ := cx_fu hfu
    have e : i = N := by omega
    subst e
    exact br_t (by rw [e0]; exact nI_le (by omega) (by omega)) (nm_r e0 hp)
  | succ q ih =>
    intro i fuel hi hfu hd
    obtain ⟨g, rfl, hg⟩ := cx_fu hfu
    have v1 : vp_in (nI i + 1) 12 := by
      rw [nI_1]
      exact vp_in_nI (by omega) (by omega)
    have v0 : vp_in (nI i) 12 := vp_in_nI (by omega) (by omega)
    have c1 : (nI i + 1).toNatClampNeg = i + 1 := by
      rw [nI_1]
      exact nI_clamp (by omega)
    have c0 : (nI i).toNatClampNeg = i := nI_clamp (by omega)
    have s1 : ∀ a : Nat → Int32, upd (sh_a a d i) (nI i).toNatClampNeg (sh_a a d i (nI i + 1).toNatClampNeg) = sh_a a d (i + 1) := by
      intro a
      rw [c0, c1]
      exact sh_s hd
    exact br_f (by rw [e0]; exact nI_ge (by omega) (by omega)) (br_f (nI_ge (b := 11) (by omega) (by omega)) ⟨v1, v0, nm_r (s1 us) ⟨v1, v0, nm_r (s1 vs) ⟨v1, v0, nm_r (s1 cs) ⟨v1, v0, nm_r (s1 ws) (nm_r (nI_1 i) (ih (i + 1) g (by omega) (by omega) (by omega)))⟩⟩⟩⟩)
end
theorem i_vc_cut {k : Nat} {u : SX} {v : SY} (I : i_Rel k u v) (hk : k + 4 ≤ 2049) (v1 : Int32) : wpX_cut (fun r u' => wpY_cut (fun r' v' => r' = r ∧ i_Rel (k + 4) u' v') v v1) u v1 := by
  refine zz_el (P := fun u v => wpX_cut (fun r u' => wpY_cut (fun r' v' => r' = r ∧ i_Rel (k + 4) u' v') v v1) u v1) ?_ I
  intro n N sz us vs cs ws qs co ch ro ud di sp be ar qy la uy U V C Q W h hq
  have hN := cx_N h
  unfold wpX_cut wpY_cut
  dsimp only
  rcases zz_ix v1 (n := N) (by omega) with z | ⟨e, he, rfl⟩
  · exact xe_b hN z (br_t rfl (ye_b hN z (br_f xb_10 ⟨rfl, zz_in h hq⟩)))
  · obtain ⟨M, rfl⟩ : ∃ M, N = M + 1 := ⟨N - 1, by omega⟩
    refine xe_g hN he (br_f xb_10 (nm_r (nI_1 e) ⟨M + 1, ?_⟩))
    have hX := xh_14 (n := n) (sz := sz) (us := us) (vs := vs) (cs := cs) (ws := ws) (qs := qs) (co := co) (ch := ch) (ro := ro) (ud := ud) (di := di) (sp := sp) (be := be) (ar := ar) (N := M) (d := e)
      (post := fun r u' => wpY_badEdge (fun r_1 => ((r_1 = 0 → ∃ n12 : Nat, wY_cut_12 (fun r' v' => r' = r ∧ i_Rel (k + 4) u' v') (nI n) (nI (M + 1)) n12 (nI e) us vs cs ws qy la uy) ∧ (¬ r_1 = 0 → ((-1 = r) ∧ i_Rel (k + 4) u' (nI n, nI (M + 1), us, vs, cs, ws, qy, la, uy))))) (nI n, nI (M + 1), us, vs, cs, ws, qy, la, uy) (nI e))
      hN ?_ (M - e) e (M + 1) (by omega) (by omega) (Nat.le_refl _)
    · rw [sh_0, sh_0, sh_0, sh_0] at hX
      exact hX
    · refine ye_g (N := M + 1) hN he (br_t rfl ⟨M + 1, ?_⟩)
      have hY := yh_12 (n := n) (us := us) (vs := vs) (cs := cs) (ws := ws) (qy := qy) (la := la) (uy := uy) (N := M) (d := e)
        (post := fun r' v' => r' = nI M ∧ i_Rel (k + 4) (nI n, nI M, sz, sh_a us e M, sh_a vs e M, sh_a cs e M, sh_a ws e M, qs, co, ch, ro, ud, di, sp, be, ar) v') hN ?_ (M - e) e (M + 1) (by omega) (by omega) (Nat.le_refl _)
      · rw [sh_0, sh_0, sh_0, sh_0] at hY
        exact hY
      · refine ⟨rfl, zz_in (U := fun i => if e ≤ i then U (i + 1) else U i) (V := fun i => if e ≤ i then V (i + 1) else V i) (C := fun i => if e ≤ i then C (i + 1) else C i) (Q := Q) (W := fun i => if e ≤ i then W (i + 1) else W i)
          ⟨h.1, h.2.1, by omega, fun i hi => ?_, h.2.2.2.2⟩ hq⟩
        by_cases c : e ≤ i
        · rw [sh_t c hi, sh_t c hi, sh_t c hi, sh_t c hi]
          simp only [if_pos c]
          exact h.2.2.2.1 (i + 1) (by omega)
        · rw [sh_f (by omega), sh_f (by omega), sh_f (by omega), sh_f (by omega)]
          simp only [if_neg c]
          exact h.2.2.2.1 i (by omega)
theorem xi_138 {post : SX → Prop} {fn : Int32} (hp : ∀ qs : Nat → Int32, (∀ c, c < 4 → qs c = nI 6) → post (fn, 0, 0, fun _ => 0, fun _ => 0, fun _ => 0, fun _ => 0, qs, fun _ => 0, fun _ => 0, fun _ => 0, fun _ => 0, fun _ => 0, fun _ => 0, fun _ => 0, fun _ => 0)) :
    ∀ (q c fuel : Nat) (qs : Nat → Int32), c + q = 4 → q < fuel → (∀ i, i < c → qs i = nI 6) →
    wX_init_138 post fn 0 0 fuel (nI c) (fun _ => 0) (fun _ => 0) (fun _ => 0) (fun _ => 0) qs (fun _ => 0) (fun _ => 0) (fun _ => 0) (fun _ => 0) (fun _ => 0) (fun _ => 0) (fun _ => 0) (fun _ => 0) := by
  intro q
  induction q with
  | zero =>
    intro c fuel qs hc hfu hq
    obtain ⟨g, rfl, hg⟩ := cx_fu hfu
    exact br_t (nI_le (a := 4) (by omega) (by omega)) (hp qs (fun i hi => hq i (by omega)))
  | succ q ih =>
    intro c fuel qs hc hfu hq
    obtain ⟨g, rfl, hg⟩ := cx_fu hfu
    refine br_f (nI_ge (b := 4) (by omega) (by omega)) ⟨vp_in_nI (by omega) (by omega), nm_e (nm_r (nI_1 c) (ih (c + 1) g _ (by omega) (by omega) (fun i hi => ?_)))⟩
    rw [nI_clamp (by omega)]
    by_cases y : i = c
    · rw [y, pk_us]
      rfl
    · rw [pk_un y]
      exact hq i (by omega)
theorem yi_87 {post : SY → Prop} {fn : Int32} (hp : ∀ qs : Nat → Int32, (∀ c, c < 8 → qs c = nI 6) → post (fn, 0, fun _ => 0, fun _ => 0, fun _ => 0, fun _ => 0, qs, fun _ => 0, fun _ => 0)) :
    ∀ (q c fuel : Nat) (qs : Nat → Int32), c + q = 8 → q < fuel → (∀ i, i < c → qs i = nI 6) →
    wY_init_87 post fn 0 fuel (nI c) (fun _ => 0) (fun _ => 0) (fun _ => 0) (fun _ => 0) qs (fun _ => 0) (fun _ => 0) := by
  intro q
  induction q with
  | zero =>
    intro c fuel qs hc hfu hq
    obtain ⟨g, rfl, hg⟩ := cx_fu hfu
    exact br_t (nI_le (a := 8) (by omega) (by omega)) (hp qs (fun i hi => hq i (by omega)))
  | succ q ih =>
    intro c fuel qs hc hfu hq
    obtain ⟨g, rfl, hg⟩ := cx_fu hfu
    refine br_f (nI_ge (b := 8) (by omega) (by omega)) ⟨vp_in_nI (by omega) (by omega), nm_e (nm_r (nI_1 c) (ih (c + 1) g _ (by omega) (by omega) (fun i hi => ?_)))⟩
    rw [nI_clamp (by omega)]
    by_cases y : i = c
    · rw [y, pk_us]
      rfl
    · rw [pk_un y]
      exact hq i (by omega)
theorem zi_rel {n : Nat} {qs qy : Nat → Int32} (h2 : 2 ≤ n) (h7 : n ≤ 7) (h4 : ∀ c, c < 4 → qs c = nI 6) (h8 : ∀ c, c < 8 → qy c = nI 6) :
    i_Rel 1 (nI n, 0, 0, fun _ => 0, fun _ => 0, fun _ => 0, fun _ => 0, qs, fun _ => 0, fun _ => 0, fun _ => 0, fun _ => 0, fun _ => 0, fun _ => 0, fun _ => 0, fun _ => 0)
      (nI n, 0, fun _ => 0, fun _ => 0, fun _ => 0, fun _ => 0, qy, fun _ => 0, fun _ => 0) :=
  zz_in (N := 0) (U := fun _ => 0) (V := fun _ => 0) (C := fun _ => 0) (Q := fun _ => 6) (W := fun _ => 0) ⟨h2, h7, by omega, fun e he => absurd he (by omega), fun c hc => ⟨h4 c hc, Nat.le_refl 6⟩⟩
    (fun c hc => by rw [h4 c hc, h8 c (by omega)])
theorem i_vc0 (k0 : Int32) : wpX_init (fun u => wpY_init (fun v => i_Rel 1 u v) k0) k0 := by
  unfold wpX_init wX_init_118 wpY_init
  by_cases h2 : 2 ≤ k0
  · have h0 : ¬ k0 < 0 := Int32.not_lt.mpr (Int32.le_trans (by decide) h2)
    obtain ⟨j, hj, rfl⟩ := nI_of h0
    have j2 : 2 ≤ j := (nI_leI (a := 2) (by omega) hj).mp h2
    by_cases h7 : nI j ≤ 7
    · have j7 : j ≤ 7 := (nI_leI (b := 7) hj (by omega)).mp h7
      exact br_t h2 (br_t h7 ⟨5, xi_138 (fun qs hq => br_t h2 (br_t h7 ⟨9, yi_87 (fun qy hq2 => zi_rel j2 j7 hq hq2) 8 0 9 _ (by omega) (by omega) (fun i hi => absurd hi (by omega))⟩)) 4 0 5 _ (by omega) (by omega) (fun i hi => absurd hi (by omega))⟩)
    · exact br_t h2 (br_f h7 ⟨5, xi_138 (fun qs hq => br_t h2 (br_f h7 ⟨9, yi_87 (fun qy hq2 => zi_rel (n := 7) (by omega) (by omega) hq hq2) 8 0 9 _ (by omega) (by omega) (fun i hi => absurd hi (by omega))⟩)) 4 0 5 _ (by omega) (by omega) (fun i hi => absurd hi (by omega))⟩)
  · exact br_f h2 (br_t (by decide) ⟨5, xi_138 (fun qs hq => br_f h2 ⟨9, yi_87 (fun qy hq2 => zi_rel (n := 2) (by omega) (by omega) hq hq2) 8 0 9 _ (by omega) (by omega) (fun i hi => absurd hi (by omega))⟩) 4 0 5 _ (by omega) (by omega) (fun i hi => absurd hi (by omega))⟩)
end
