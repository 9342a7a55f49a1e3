section
/-! GARSIA-WACHS, plain: a tree is a list of leaves (weight, e) in order, a leaf of size 2^e at an aligned place -/
def gw_z (e : Nat) : Int := ((2 ^ e : Nat) : Int)
theorem gw_z_succ (e : Nat) : gw_z (e + 1) = 2 * gw_z e := by
  simp only [gw_z, Nat.pow_succ]; omega
theorem gw_z_pos (e : Nat) : 0 < gw_z e := by
  have := Nat.two_pow_pos e
  simp only [gw_z]; omega
theorem gw_z_dvd {a b : Nat} (h : a ≤ b) : gw_z a ∣ gw_z b := by
  simp only [gw_z]; exact Int.natCast_dvd_natCast.mpr (Nat.pow_dvd_pow 2 h)
theorem gw_z_mono {a b : Nat} (h : a ≤ b) : gw_z a ≤ gw_z b := Int.le_of_dvd (gw_z_pos b) (gw_z_dvd h)
theorem gw_z_lt {a b : Nat} (h : a < b) : gw_z a < gw_z b := by
  have h1 := gw_z_mono (show a + 1 ≤ b from h)
  have h2 := gw_z_succ a
  have h3 := gw_z_pos a
  omega
theorem gw_z_le {a b : Nat} (h : gw_z a ≤ gw_z b) : a ≤ b := by
  rcases Nat.lt_or_ge b a with q | q
  · have := gw_z_lt q
    omega
  · exact q
theorem gw_z_of_dvd {a b : Nat} (h : gw_z a ∣ gw_z b) : a ≤ b := gw_z_le (Int.le_of_dvd (gw_z_pos b) h)
theorem gw_next {d s M : Int} (h1 : d ∣ s) (h2 : d ∣ M) (h : s < M) : s + d ≤ M := by
  have h3 := Int.le_of_dvd (by omega : 0 < M - s) (Int.dvd_sub h2 h1)
  omega
def gw_vd : Int → List (Nat × Nat) → Int → Prop
  | s, [], t => s = t
  | s, p :: P, t => gw_z p.2 ∣ s ∧ gw_vd (s + gw_z p.2) P t
def gw_G : List (Nat × Nat) → Nat
  | [] => 0
  | p :: P => p.1 * p.2 + gw_G P
def gw_W (P : List (Nat × Nat)) : Nat := (P.map Prod.fst).sum
def gw_up (P : List (Nat × Nat)) : List (Nat × Nat) := P.map (fun p => (p.1, p.2 + 1))
theorem gw_up_fst (P : List (Nat × Nat)) : (gw_up P).map Prod.fst = P.map Prod.fst := by
  simp [gw_up]
theorem gw_up_mem {P : List (Nat × Nat)} {q : Nat × Nat} (h : q ∈ gw_up P) : ∃ p ∈ P, q = (p.1, p.2 + 1) := by
  simp only [gw_up, List.mem_map] at h
  obtain ⟨p, h1, h2⟩ := h
  exact ⟨p, h1, h2.symm⟩
theorem gw_G_app (P Q : List (Nat × Nat)) : gw_G (P ++ Q) = gw_G P + gw_G Q := by
  induction P with
  | nil => simp [gw_G]
  | cons p P ih => simp [gw_G, ih]; omega
theorem gw_G_rev (P : List (Nat × Nat)) : gw_G P.reverse = gw_G P := by
  induction P with
  | nil => rfl
  | cons p P ih => simp [gw_G_app, gw_G, ih]; omega
theorem gw_G_up (P : List (Nat × Nat)) : gw_G (gw_up P) = gw_G P + gw_W P := by
  induction P with
  | nil => rfl
  | cons p P ih =>
    simp only [gw_up, gw_W, List.map_cons, List.sum_cons, gw_G] at ih ⊢
    rw [ih, Nat.mul_succ]; omega
theorem gw_app {Q : List (Nat × Nat)} {t : Int} : ∀ {P : List (Nat × Nat)} {s : Int}, gw_vd s (P ++ Q) t ↔ ∃ m, gw_vd s P m ∧ gw_vd m Q t := by
  intro P
  induction P with
  | nil =>
    intro s
    simp [gw_vd]
  | cons p P ih =>
    intro s
    simp only [List.cons_append, gw_vd, ih]
    constructor
    · rintro ⟨h1, m, h2, h3⟩; exact ⟨m, ⟨h1, h2⟩, h3⟩
    · rintro ⟨m, ⟨h1, h2⟩, h3⟩; exact ⟨h1, m, h2, h3⟩
theorem gw_mk {P Q : List (Nat × Nat)} {s m t : Int} (h1 : gw_vd s P m) (h2 : gw_vd m Q t) : gw_vd s (P ++ Q) t := gw_app.mpr ⟨m, h1, h2⟩
theorem gw_to {P : List (Nat × Nat)} {s s' t t' : Int} (h : gw_vd s P t) (h1 : s = s') (h2 : t = t') : gw_vd s' P t' := by
  subst h1; subst h2; exact h
theorem gw_vle {t : Int} : ∀ {P : List (Nat × Nat)} {s : Int}, gw_vd s P t → s ≤ t := by
  intro P
  induction P with
  | nil => intro s h; simp only [gw_vd] at h; omega
  | cons p P ih =>
    intro s h
    have := ih h.2
    have := gw_z_pos p.2
    omega
theorem gw_vsz {t : Int} : ∀ {P : List (Nat × Nat)} {s : Int}, gw_vd s P t → ∀ p ∈ P, s + gw_z p.2 ≤ t := by
  intro P
  induction P with
  | nil => intro s h p hp; cases hp
  | cons q P ih =>
    intro s h p hp
    have h1 := gw_vle h.2
    have h2 := gw_z_pos q.2
    rcases List.mem_cons.mp hp with rfl | hp
    · exact h1
    · have := ih h.2 p hp
      omega
theorem gw_shift {d t : Int} : ∀ {P : List (Nat × Nat)} {s : Int}, gw_vd s P t → (∀ p ∈ P, gw_z p.2 ∣ d) → gw_vd (s + d) P (t + d) := by
  intro P
  induction P with
  | nil => intro s h _; simp only [gw_vd] at h ⊢; omega
  | cons p P ih =>
    intro s h hd
    refine ⟨Int.dvd_add h.1 (hd p List.mem_cons_self), ?_⟩
    exact gw_to (ih h.2 (fun q hq => hd q (List.mem_cons_of_mem _ hq))) (by omega) rfl
theorem gw_scale {d t : Int} : ∀ {P : List (Nat × Nat)} {s : Int}, gw_vd s P t → (∀ p ∈ P, gw_z (p.2 + 1) ∣ d) → gw_vd (2 * s + d) (gw_up P) (2 * t + d) := by
  intro P
  induction P with
  | nil => intro s h _; simp only [gw_vd, gw_up, List.map_nil] at h ⊢; omega
  | cons p P ih =>
    intro s h hd
    refine ⟨Int.dvd_add ?_ (hd p List.mem_cons_self), ?_⟩
    · show gw_z (p.2 + 1) ∣ 2 * s
      rw [gw_z_succ]; exact Int.mul_dvd_mul_left 2 h.1
    · refine gw_to (ih h.2 (fun q hq => hd q (List.mem_cons_of_mem _ hq))) ?_ rfl
      show 2 * (s + gw_z p.2) + d = 2 * s + d + gw_z (p.2 + 1)
      rw [gw_z_succ]; omega
theorem gw_rev {t : Int} : ∀ {P : List (Nat × Nat)} {s : Int}, gw_vd s P t → gw_vd (-t) P.reverse (-s) := by
  intro P
  induction P with
  | nil => intro s h; simp only [gw_vd, List.reverse_nil] at h ⊢; omega
  | cons p P ih =>
    intro s h
    rw [List.reverse_cons]
    refine gw_mk (ih h.2) ⟨?_, ?_⟩
    · exact (Int.dvd_neg).mpr (Int.dvd_add h.1 (Int.dvd_refl _))
    · simp only [gw_vd]; omega
theorem gw_dend {d t : Int} : ∀ {P : List (Nat × Nat)} {s : Int}, gw_vd s P t → d ∣ s → (∀ p ∈ P, d ∣ gw_z p.2) → d ∣ t := by
  intro P
  induction P with
  | nil => intro s h h1 _; simp only [gw_vd] at h; rw [← h]; exact h1
  | cons p P ih =>
    intro s h h1 hd
    exact ih h.2 (Int.dvd_add h1 (hd p List.mem_cons_self)) (fun q hq => hd q (List.mem_cons_of_mem _ hq))
theorem gw_cut {f : Nat} {M t : Int} (hM : gw_z f ∣ M) : ∀ {P : List (Nat × Nat)} {s : Int}, gw_vd s P t → M - gw_z f < s → s ≤ M → M ≤ t → ∃ A B, P = A ++ B ∧ gw_vd s A M ∧ gw_vd M B t ∧ ∀ p ∈ A, p.2 < f := by
  intro P
  induction P with
  | nil =>
    intro s h h1 h2 h3
    simp only [gw_vd] at h
    have e : s = M := by omega
    exact ⟨[], [], rfl, e, by show M = t; omega, fun p hp => by cases hp⟩
  | cons p P ih =>
    intro s h h1 h2 h3
    by_cases e : s = M
    · subst e
      exact ⟨[], p :: P, rfl, rfl, h, fun p hp => by cases hp⟩
    · have hlt : s < M := by omega
      have hf : p.2 < f := by
        rcases Nat.lt_or_ge p.2 f with q | q
        · exact q
        · have := gw_next (Int.dvd_trans (gw_z_dvd q) h.1) hM hlt
          omega
      have hn := gw_next h.1 (Int.dvd_trans (gw_z_dvd (Nat.le_of_lt hf)) hM) hlt
      have hz := gw_z_pos p.2
      obtain ⟨A, B, e1, e2, e3, e4⟩ := ih h.2 (by omega) hn h3
      refine ⟨p :: A, B, by rw [e1]; rfl, ⟨h.1, e2⟩, e3, fun q hq => ?_⟩
      rcases List.mem_cons.mp hq with rfl | hq
      · exact hf
      · exact e4 q hq
theorem gw_leK {K : Nat} {P : List (Nat × Nat)} (h : gw_vd 0 P (gw_z K)) : ∀ p ∈ P, p.2 ≤ K := by
  intro p hp
  have := gw_vsz h p hp
  exact gw_z_le (by omega)
theorem gw_vrev {K : Nat} {P : List (Nat × Nat)} (h : gw_vd 0 P (gw_z K)) : gw_vd 0 P.reverse (gw_z K) := by
  have h1 := gw_shift (d := gw_z K) (gw_rev h) (fun p hp => gw_z_dvd (gw_leK h p (List.mem_reverse.mp hp)))
  exact gw_to h1 (by omega) (by omega)
def gw_Opt (K : Nat) (P : List (Nat × Nat)) : Prop := gw_vd 0 P (gw_z K) ∧ ∀ P', gw_vd 0 P' (gw_z K) → P'.map Prod.fst = P.map Prod.fst → gw_G P' ≤ gw_G P
theorem gw_opt_rev {K : Nat} {P : List (Nat × Nat)} (h : gw_Opt K P) : gw_Opt K P.reverse := by
  refine ⟨gw_vrev h.1, fun P' h1 h2 => ?_⟩
  have h3 := h.2 P'.reverse (gw_vrev h1) (by rw [List.map_reverse, h2, List.map_reverse, List.reverse_reverse])
  rw [gw_G_rev] at h3
  rw [gw_G_rev]
  exact h3
theorem gw_G_bound {K : Nat} : ∀ (P : List (Nat × Nat)), (∀ p ∈ P, p.2 ≤ K) → gw_G P ≤ K * gw_W P := by
  intro P
  induction P with
  | nil => intro _; simp [gw_G]
  | cons p P ih =>
    intro h
    have h1 := ih (fun q hq => h q (List.mem_cons_of_mem _ hq))
    have h2 := Nat.mul_le_mul_left p.1 (h p List.mem_cons_self)
    simp only [gw_G, gw_W, List.map_cons, List.sum_cons, Nat.mul_add] at h1 ⊢
    rw [Nat.mul_comm K p.1]; omega
theorem gw_opt_ex {K : Nat} : ∀ (n : Nat) (P : List (Nat × Nat)), gw_vd 0 P (gw_z K) → K * gw_W P - gw_G P ≤ n → ∃ P', gw_Opt K P' ∧ P'.map Prod.fst = P.map Prod.fst ∧ gw_G P ≤ gw_G P' := by
  intro n
  induction n with
  | zero =>
    intro P h hn
    refine ⟨P, ⟨h, fun P' h1 h2 => ?_⟩, rfl, Nat.le_refl _⟩
    have h3 := gw_G_bound P' (gw_leK h1)
    have h4 : gw_W P' = gw_W P := by simp only [gw_W, h2]
    rw [h4] at h3
    omega
  | succ n ih =>
    intro P h hn
    by_cases ho : ∀ P', gw_vd 0 P' (gw_z K) → P'.map Prod.fst = P.map Prod.fst → gw_G P' ≤ gw_G P
    · exact ⟨P, ⟨h, ho⟩, rfl, Nat.le_refl _⟩
    · simp only [Classical.not_forall] at ho
      obtain ⟨P', h1, h2, h3⟩ := ho
      have h4 : gw_W P' = gw_W P := by simp only [gw_W, h2]
      obtain ⟨P2, a, b, c⟩ := ih P' h1 (by rw [h4]; omega)
      exact ⟨P2, a, b.trans h2, by omega⟩
/-- the leaf x goes down by one, all that lies in Y goes up by one -/
theorem gw_lower {x g : Nat} {Q Y B : List (Nat × Nat)} {s p t : Int} (hx : gw_z (g + 1) ∣ s) (hQ : gw_vd (s + gw_z (g + 1)) Q p) (hq : ∀ q ∈ Q, q.2 = g) (hY : gw_vd p Y (p + gw_z g)) (hy : ∀ y ∈ Y, gw_z (y.2 + 1) ∣ p + gw_z g) (hB : gw_vd (p + gw_z g) B t) : gw_vd s ((x, g) :: (Q ++ (gw_up Y ++ B))) t := by
  have hs := gw_z_succ g
  refine ⟨Int.dvd_trans (gw_z_dvd (Nat.le_succ g)) hx, ?_⟩
  have h1 := gw_shift (d := -(gw_z g)) hQ (fun q hq' => by rw [hq q hq']; exact (Int.dvd_neg).mpr (Int.dvd_refl _))
  have h2 := gw_scale (d := -(p + gw_z g)) hY (fun y hy' => (Int.dvd_neg).mpr (hy y hy'))
  exact gw_mk (gw_to h1 (by show s + gw_z (g + 1) + -gw_z g = s + gw_z g; omega) rfl) (gw_mk (gw_to h2 (by omega) (by omega)) hB)
/-- x, then leaves one lower, then y lower still: y and the next may go up if x goes down -/
theorem gw_R {K x g y e : Nat} {A Q B : List (Nat × Nat)} (h : gw_vd 0 (A ++ (x, g + 1) :: (Q ++ (y, e) :: B)) (gw_z K)) (hQ : ∀ q ∈ Q, q.2 = g) (he : e < g) : ∃ v B1 B', B.map Prod.fst = v :: B1 ∧ B'.map Prod.fst = B.map Prod.fst ∧ gw_vd 0 (A ++ (x, g) :: (Q ++ (y, e + 1) :: B')) (gw_z K) ∧ gw_G (A ++ (x, g + 1) :: (Q ++ (y, e) :: B)) + (y + v) ≤ gw_G (A ++ (x, g) :: (Q ++ (y, e + 1) :: B')) + x := by
  have hK : g + 1 ≤ K := gw_leK h (x, g + 1) (by simp)
  obtain ⟨s, hA, hx, h1⟩ := gw_app.mp h
  obtain ⟨p, hQv, hye, h2⟩ := gw_app.mp h1
  have hx : gw_z (g + 1) ∣ s := hx
  have hye : gw_z e ∣ p := hye
  have hp : gw_z g ∣ p := gw_dend hQv (Int.dvd_add (Int.dvd_trans (gw_z_dvd (Nat.le_succ g)) hx) (gw_z_dvd (Nat.le_succ g))) (fun q hq => by rw [hQ q hq]; exact Int.dvd_refl _)
  have h2 : gw_vd (p + gw_z e) B (gw_z K) := h2
  have h3 := gw_vle h2
  have h4 := gw_z_pos e
  have h5 := gw_next hp (gw_z_dvd (by omega : g ≤ K)) (by omega)
  have h6 := gw_z_lt he
  have hM : gw_z g ∣ p + gw_z g := Int.dvd_add hp (Int.dvd_refl _)
  obtain ⟨Y1, B2, e1, e2, e3, e4⟩ := gw_cut hM h2 (by omega) (by omega) h5
  cases Y1 with
  | nil => simp only [gw_vd] at e2; omega
  | cons v Y2 =>
    refine ⟨v.1, (Y2 ++ B2).map Prod.fst, gw_up (v :: Y2) ++ B2, by rw [e1]; rfl, ?_, ?_, ?_⟩
    · rw [e1, List.map_append, gw_up_fst, List.map_append]
    · have hl := gw_lower (x := x) (Y := (y, e) :: v :: Y2) hx hQv hQ ⟨hye, e2⟩ (fun w hw => by
        refine Int.dvd_trans (gw_z_dvd ?_) hM
        rcases List.mem_cons.mp hw with rfl | hw
        · exact he
        · exact e4 w hw) e3
      exact gw_mk hA hl
    · rw [e1]
      simp only [gw_G_app, gw_G, gw_G_up, gw_W, List.map_cons, List.sum_cons, Nat.mul_add, Nat.mul_one]
      omega
theorem gw_L2 {K z e1 y e0 : Nat} {A B : List (Nat × Nat)} (h : gw_vd 0 (A ++ (z, e1) :: (y, e0) :: B) (gw_z K)) (he : e0 < e1) : ∃ v B1 e0' B', B.map Prod.fst = v :: B1 ∧ B'.map Prod.fst = B.map Prod.fst ∧ gw_vd 0 (A ++ (z, e1 - 1) :: (y, e0') :: B') (gw_z K) ∧ e0 ≤ e0' ∧ e0' ≤ e1 - 1 ∧ gw_G (A ++ (z, e1) :: (y, e0) :: B) + v ≤ gw_G (A ++ (z, e1 - 1) :: (y, e0') :: B') + z := by
  obtain ⟨g, rfl⟩ : ∃ g, e1 = g + 1 := ⟨e1 - 1, by omega⟩
  rw [Nat.add_sub_cancel]
  rcases Nat.lt_or_ge e0 g with q | q
  · obtain ⟨v, B1, B', a, b, c, d⟩ := gw_R (Q := []) h (fun q hq => by cases hq) q
    exact ⟨v, B1, e0 + 1, B', a, b, c, by omega, by omega, by simp only [List.nil_append] at d; omega⟩
  · have e : e0 = g := by omega
    subst e
    have hK : e0 + 1 ≤ K := gw_leK h (z, e0 + 1) (by simp)
    obtain ⟨s, hA, hz, hy, h2⟩ := gw_app.mp h
    have hz : gw_z (e0 + 1) ∣ s := hz
    have hy : gw_z e0 ∣ s + gw_z (e0 + 1) := hy
    have h2 : gw_vd (s + gw_z (e0 + 1) + gw_z e0) B (gw_z K) := h2
    have hs := gw_z_succ e0
    have h3 := gw_vle h2
    have h4 := gw_z_pos e0
    have h5 := gw_next (Int.dvd_add hz (Int.dvd_refl _)) (gw_z_dvd hK) (by omega : s + gw_z (e0 + 1) < gw_z K)
    obtain ⟨p, hp⟩ : ∃ p, p = s + gw_z (e0 + 1) + gw_z e0 := ⟨_, rfl⟩
    rw [← hp] at h2
    have hM : gw_z (e0 + 1) ∣ p + gw_z e0 := by
      have : p + gw_z e0 = s + gw_z (e0 + 1) + gw_z (e0 + 1) := by omega
      rw [this]; exact Int.dvd_add (Int.dvd_add hz (Int.dvd_refl _)) (Int.dvd_refl _)
    cases B with
    | nil => simp only [gw_vd] at h2; omega
    | cons v B1 =>
      have hv : v.2 ≤ e0 := by
        rcases Nat.lt_or_ge e0 v.2 with q | q
        · exfalso
          have h6 : gw_z (e0 + 1) ∣ p := Int.dvd_trans (gw_z_dvd q) h2.1
          have h7 : gw_z (e0 + 1) ∣ gw_z e0 := by
            have := Int.dvd_sub hM h6
            rwa [show p + gw_z e0 - p = gw_z e0 by omega] at this
          have := gw_z_of_dvd h7
          omega
        · exact q
      have h6 := gw_z_mono hv
      have h7 := gw_z_pos v.2
      obtain ⟨Y1, B2, a1, a2, a3, a4⟩ := gw_cut (f := e0) (Int.dvd_trans (gw_z_dvd (Nat.le_succ e0)) hM) h2.2 (by omega) (by omega) (by omega)
      refine ⟨v.1, B1.map Prod.fst, e0, gw_up (v :: Y1) ++ B2, rfl, ?_, ?_, Nat.le_refl _, Nat.le_refl _, ?_⟩
      · rw [a1, List.map_append, gw_up_fst]; simp
      · have hl := gw_lower (x := z) (Q := [(y, e0)]) (Y := v :: Y1) (p := p) hz ⟨hy, by show s + gw_z (e0 + 1) + gw_z e0 = p; omega⟩ (fun q hq => by simp at hq; rw [hq]) ⟨h2.1, a2⟩ (fun w hw => by
          refine Int.dvd_trans (gw_z_dvd ?_) hM
          rcases List.mem_cons.mp hw with rfl | hw
          · omega
          · have := a4 w hw; omega) a3
        exact gw_mk hA hl
      · rw [a1]
        simp only [gw_G_app, gw_G, gw_G_up, gw_W, List.map_cons, List.sum_cons, Nat.mul_add, Nat.mul_one]
        omega
end
section
/-- sums of neighbours are at least X -/
def gw_prs (X : Nat) : List Nat → Prop
  | [] => True
  | y :: l => (match l with | [] => True | v :: _ => X ≤ y + v) ∧ gw_prs X l
theorem gw_prs_hd {X y v : Nat} {l : List Nat} (h : gw_prs X (y :: v :: l)) : X ≤ y + v := h.1
theorem gw_prs_pre {X : Nat} {m : List Nat} : ∀ {l : List Nat}, gw_prs X (l ++ m) → gw_prs X l := by
  intro l
  induction l with
  | nil => intro _; trivial
  | cons y l ih =>
    intro h
    refine ⟨?_, ih h.2⟩
    cases l with
    | nil => trivial
    | cons v l => exact h.1
theorem gw_prs_last {X a c : Nat} (hc : a ≤ c) : ∀ {l : List Nat}, gw_prs X (l ++ [a]) → gw_prs X (l ++ [c]) := by
  intro l
  induction l with
  | nil => intro _; exact ⟨trivial, trivial⟩
  | cons y l ih =>
    intro h
    refine ⟨?_, ih h.2⟩
    cases l with
    | nil =>
      have : X ≤ y + a := h.1
      show X ≤ y + c
      omega
    | cons v l => exact h.1
/-- every second one falls -/
def gw_D2 (w : List Nat) : Prop := ∀ A v y z B, w = A ++ v :: y :: z :: B → z < v
theorem gw_D2_tl {u : Nat} {w : List Nat} (h : gw_D2 (u :: w)) : gw_D2 w := fun A v y z B e => h (u :: A) v y z B (by rw [e]; rfl)
theorem gw_D2_suf {w : List Nat} : ∀ {l : List Nat}, gw_D2 (l ++ w) → gw_D2 w := by
  intro l
  induction l with
  | nil => intro h; exact h
  | cons u l ih => intro h; exact ih (gw_D2_tl h)
theorem gw_D2_prs {a b : Nat} : ∀ {l : List Nat}, gw_D2 (l ++ [a, b]) → gw_prs (a + b + 1) (l ++ [a]) := by
  intro l
  induction l with
  | nil => intro _; exact ⟨trivial, trivial⟩
  | cons u l ih =>
    intro h
    have hi := ih (gw_D2_tl h)
    refine ⟨?_, hi⟩
    cases l with
    | nil =>
      have := h [] u a b [] rfl
      show a + b + 1 ≤ u + a
      omega
    | cons v l =>
      show a + b + 1 ≤ u + v
      cases l with
      | nil =>
        have h1 := h [] u v a [b] rfl
        have h2 : a + b + 1 ≤ v + a := hi.1
        omega
      | cons r l =>
        have h1 := h [] u v r (l ++ [a, b]) rfl
        have h2 : a + b + 1 ≤ v + r := hi.1
        omega
theorem gw_prs_ab {a b : Nat} : ∀ {l : List Nat}, gw_prs (a + b + 1) (l ++ [a]) → gw_prs (a + b) (l ++ [a, b]) := by
  intro l
  induction l with
  | nil => intro _; exact ⟨Nat.le_refl _, trivial, trivial⟩
  | cons u l ih =>
    intro h
    refine ⟨?_, ih h.2⟩
    cases l with
    | nil =>
      have : a + b + 1 ≤ u + a := h.1
      show a + b ≤ u + a
      omega
    | cons v l =>
      have : a + b + 1 ≤ u + v := h.1
      show a + b ≤ u + v
      omega
/-- levels fall where the weights fall over two -/
theorem gw_mono {K y ey z ez : Nat} {A B : List (Nat × Nat)} (h : gw_Opt K (A ++ (y, ey) :: (z, ez) :: B)) (hw : ∀ A' v, A.map Prod.fst = A' ++ [v] → z < v) : ez ≤ ey := by
  rcases Nat.lt_or_ge ey ez with q | q
  · exfalso
    have hr := gw_opt_rev h
    have e : (A ++ (y, ey) :: (z, ez) :: B).reverse = B.reverse ++ (z, ez) :: (y, ey) :: A.reverse := by simp
    rw [e] at hr
    obtain ⟨v, B1, e0, B', a1, a2, a3, -, -, a4⟩ := gw_L2 hr.1 q
    have h1 := hr.2 _ a3 (by simp only [List.map_append, List.map_cons, a2])
    have h2 := hw B1.reverse v (by
      have := congrArg List.reverse a1
      rw [List.map_reverse, List.reverse_reverse, List.reverse_cons] at this
      exact this)
    omega
  · exact q
/-- behind a leaf at level g+1, in an optimal tree, none lies below g while neighbours' sums are above all weights -/
theorem gw_flat {K X : Nat} : ∀ (U A : List (Nat × Nat)) (x g : Nat) (Q : List (Nat × Nat)) (y ey : Nat) (B : List (Nat × Nat)), gw_Opt K (A ++ (x, g + 1) :: (Q ++ (U ++ (y, ey) :: B))) → (∀ q ∈ Q, q.2 = g) → (∀ u ∈ U, u.2 ≤ g + 1) → x < X → (∀ u ∈ U, u.1 < X) → gw_prs X (U.map Prod.fst ++ y :: (B.map Prod.fst).take 1) → (∀ u ∈ U, g ≤ u.2) ∧ g ≤ ey := by
  intro U
  induction U with
  | nil =>
    intro A x g Q y ey B h hQ _ hx _ hp
    refine ⟨fun u hu => (by cases hu), ?_⟩
    rcases Nat.lt_or_ge ey g with q | q
    · exfalso
      obtain ⟨v, B1, B', a1, a2, a3, a4⟩ := gw_R h.1 hQ q
      have h1 := h.2 _ a3 (by simp only [List.map_append, List.map_cons, a2, List.nil_append])
      rw [a1] at hp
      have := gw_prs_hd (l := []) hp
      simp only [List.nil_append] at h1 a4
      omega
    · exact q
  | cons u U ih =>
    intro A x g Q y ey B h hQ hU hx hux hp
    obtain ⟨uw, ue⟩ := u
    have hue : ue ≤ g + 1 := hU (uw, ue) List.mem_cons_self
    have hU' : ∀ u ∈ U, u.2 ≤ g + 1 := fun u hu => hU u (List.mem_cons_of_mem _ hu)
    have hux' : ∀ u ∈ U, u.1 < X := fun u hu => hux u (List.mem_cons_of_mem _ hu)
    have huw : uw < X := hux (uw, ue) List.mem_cons_self
    rcases (by omega : ue = g + 1 ∨ ue = g ∨ ue < g) with q | q | q
    · subst q
      have e : A ++ (x, g + 1) :: (Q ++ ((uw, g + 1) :: U ++ (y, ey) :: B)) = (A ++ (x, g + 1) :: Q) ++ (uw, g + 1) :: ([] ++ (U ++ (y, ey) :: B)) := by simp
      rw [e] at h
      obtain ⟨r1, r2⟩ := ih _ uw g [] y ey B h (fun q hq => by cases hq) hU' huw hux' hp.2
      refine ⟨fun u hu => ?_, r2⟩
      rcases List.mem_cons.mp hu with rfl | hu
      · exact Nat.le_succ g
      · exact r1 u hu
    · subst q
      have e : A ++ (x, ue + 1) :: (Q ++ ((uw, ue) :: U ++ (y, ey) :: B)) = A ++ (x, ue + 1) :: ((Q ++ [(uw, ue)]) ++ (U ++ (y, ey) :: B)) := by simp
      rw [e] at h
      obtain ⟨r1, r2⟩ := ih _ x ue (Q ++ [(uw, ue)]) y ey B h (fun q hq => by
        rcases List.mem_append.mp hq with hq | hq
        · exact hQ q hq
        · simp at hq; rw [hq]) hU' hx hux' hp.2
      refine ⟨fun u hu => ?_, r2⟩
      rcases List.mem_cons.mp hu with rfl | hu
      · exact Nat.le_refl ue
      · exact r1 u hu
    · exfalso
      obtain ⟨v, B1, B', a1, a2, a3, a4⟩ := gw_R (B := U ++ (y, ey) :: B) h.1 hQ q
      have h1 := h.2 _ a3 (by simp only [List.map_append, List.map_cons, a2, List.cons_append])
      have h2 : X ≤ uw + v := by
        have h3 := hp.1
        cases U with
        | nil =>
          simp only [List.nil_append, List.map_cons, List.cons.injEq] at a1
          rw [← a1.1]; exact h3
        | cons u2 U2 =>
          simp only [List.cons_append, List.map_cons, List.cons.injEq] at a1
          rw [← a1.1]; exact h3
      simp only [List.cons_append] at h1 a4
      omega
theorem gw_pw : ∀ (L : List (Nat × Nat)), (∀ A p q B, L = A ++ p :: q :: B → q.2 ≤ p.2) → L.Pairwise (fun p q => q.2 ≤ p.2) := by
  intro L
  induction L with
  | nil => intro _; exact List.Pairwise.nil
  | cons p L ih =>
    intro h
    have h1 := ih (fun A q r B e => h (p :: A) q r B (by rw [e]; rfl))
    refine List.Pairwise.cons ?_ h1
    cases L with
    | nil => intro q hq; cases hq
    | cons q L =>
      have h2 := h [] p q L rfl
      intro r hr
      rcases List.mem_cons.mp hr with rfl | hr
      · exact h2
      · exact Nat.le_trans (List.rel_of_pairwise_cons h1 hr) h2
/-- a and b come to one level -/
theorem gw_eq {K a b : Nat} {A : List (Nat × Nat)} (hb : ∀ A' v, A.map Prod.fst = A' ++ [v] → b < v) : ∀ (n ea eb : Nat) (B : List (Nat × Nat)), (∀ c B', B.map Prod.fst = c :: B' → a ≤ c) → gw_Opt K (A ++ (a, ea) :: (b, eb) :: B) → ea - eb ≤ n → ∃ h B', gw_Opt K (A ++ (a, h) :: (b, h) :: B') ∧ B'.map Prod.fst = B.map Prod.fst ∧ gw_G (A ++ (a, h) :: (b, h) :: B') = gw_G (A ++ (a, ea) :: (b, eb) :: B) := by
  intro n
  induction n with
  | zero =>
    intro ea eb B hc h hn
    have h1 := gw_mono h hb
    have e : ea = eb := by omega
    subst e
    exact ⟨ea, B, h, rfl, rfl⟩
  | succ n ih =>
    intro ea eb B hc h hn
    have h1 := gw_mono h hb
    by_cases e : ea = eb
    · subst e
      exact ⟨ea, B, h, rfl, rfl⟩
    · obtain ⟨v, B1, e0, B', a1, a2, a3, a4, a5, a6⟩ := gw_L2 h.1 (by omega : eb < ea)
      have h2 := hc v B1 a1
      have hw : (A ++ (a, ea - 1) :: (b, e0) :: B').map Prod.fst = (A ++ (a, ea) :: (b, eb) :: B).map Prod.fst := by simp only [List.map_append, List.map_cons, a2]
      have h3 := h.2 _ a3 hw
      have ho : gw_Opt K (A ++ (a, ea - 1) :: (b, e0) :: B') := ⟨a3, fun P' p1 p2 => by
        have := h.2 P' p1 (p2.trans hw)
        omega⟩
      obtain ⟨hh, B2, b1, b2, b3⟩ := ih (ea - 1) e0 B' (fun c B3 q => hc c B3 (by rw [← a2]; exact q)) ho (by omega)
      exact ⟨hh, B2, b1, b2.trans a2, by omega⟩
end
section
/-- from a tree of the row as it is to one of the row with a and b joined and moved -/
theorem gw_step1 {K a b : Nat} {al up be : List Nat} (hD : gw_D2 (al ++ (up ++ [a, b]))) (hc : ∀ c B', be = c :: B' → a ≤ c) (hu : ∀ u ∈ up, u < a + b) (hal : ∀ A' v, al = A' ++ [v] → a + b ≤ v) {P : List (Nat × Nat)} (hP : gw_vd 0 P (gw_z K)) (hw : P.map Prod.fst = al ++ (up ++ a :: b :: be)) : ∃ P', gw_vd 0 P' (gw_z K) ∧ P'.map Prod.fst = al ++ (a + b) :: (up ++ be) ∧ gw_G P + (a + b) ≤ gw_G P' := by
  obtain ⟨P0, ho, hw0, hg0⟩ := gw_opt_ex _ P hP (Nat.le_refl _)
  rw [hw] at hw0
  obtain ⟨PA, P1, rfl, hPA, hP1⟩ := List.map_eq_append_iff.mp hw0
  obtain ⟨PU, P2, rfl, hPU, hP2⟩ := List.map_eq_append_iff.mp hP1
  obtain ⟨pa, P3, rfl, hpa, hP3⟩ := List.map_eq_cons_iff.mp hP2
  obtain ⟨pb, PB, rfl, hpb, hPB⟩ := List.map_eq_cons_iff.mp hP3
  obtain ⟨a', ea⟩ := pa
  obtain ⟨b', eb⟩ := pb
  have hpa : a' = a := hpa
  have hpb : b' = b := hpb
  subst hpa; subst hpb
  rw [← List.append_assoc] at ho hg0
  obtain ⟨h, B', ho, hB', hgE⟩ := gw_eq (A := PA ++ PU) (fun A' v q => by
    rw [List.map_append, hPA, hPU] at q
    exact hD A' v a' b' [] (by rw [← List.append_assoc, q, List.append_assoc]; rfl)) _ ea eb PB (fun c B1 q => hc c B1 (by rw [← hPB]; exact q)) ho (Nat.le_refl _)
  rw [← hgE] at hg0
  rw [hPB] at hB'
  -- levels fall along PU and a
  have hpw : (PU ++ [(a', h)]).Pairwise (fun p q => q.2 ≤ p.2) := by
    refine gw_pw _ (fun A p q B e => ?_)
    obtain ⟨p1, p2⟩ := p
    obtain ⟨q1, q2⟩ := q
    have e2 : PA ++ PU ++ (a', h) :: (b', h) :: B' = (PA ++ A) ++ (p1, p2) :: (q1, q2) :: (B ++ (b', h) :: B') := by
      have : PU ++ (a', h) :: (b', h) :: B' = (PU ++ [(a', h)]) ++ (b', h) :: B' := by simp
      rw [List.append_assoc, this, e]; simp
    rw [e2] at ho
    refine gw_mono ho (fun A' v q => ?_)
    refine hD A' v p1 q1 (B.map Prod.fst ++ [b']) ?_
    have e3 := congrArg (List.map Prod.fst) e
    simp only [List.map_append, List.map_cons, List.map_nil, hPU] at e3
    rw [List.map_append, hPA] at q
    have e4 : al ++ (up ++ [a', b']) = al ++ ((up ++ [a']) ++ [b']) := by simp
    rw [e4, e3, show A' ++ v :: p1 :: q1 :: (B.map Prod.fst ++ [b']) = (A' ++ [v]) ++ p1 :: q1 :: (B.map Prod.fst ++ [b']) by simp, ← q]
    simp
  have hge : ∀ u ∈ PU, h ≤ u.2 := fun u hu => (List.pairwise_append.mp hpw).2.2 u hu (a', h) (by simp)
  have hle : ∀ u ∈ PU, u.2 ≤ h + 1 := by
    cases PU with
    | nil => intro u hu; cases hu
    | cons u1 PU' =>
      obtain ⟨uw, ue⟩ := u1
      have hpw1 : ∀ u ∈ PU', u.2 ≤ ue := fun u hu' => List.rel_of_pairwise_cons (show ((uw, ue) :: (PU' ++ [(a', h)])).Pairwise _ from hpw) (List.mem_append_left _ hu')
      have hmain : ue ≤ h + 1 := by
        cases ue with
        | zero => omega
        | succ g =>
          have e2 : PA ++ ((uw, g + 1) :: PU') ++ (a', h) :: (b', h) :: B' = PA ++ (uw, g + 1) :: ([] ++ (PU' ++ (a', h) :: (b', h) :: B')) := by simp
          rw [e2] at ho
          have hup : up = uw :: PU'.map Prod.fst := by rw [← hPU]; rfl
          have hpr := gw_prs_ab (gw_D2_prs (gw_D2_suf hD))
          rw [hup] at hpr hu
          have := (gw_flat (X := a' + b') PU' PA uw g [] a' h _ ho (fun q hq => by cases hq) hpw1 (hu uw List.mem_cons_self) (fun u hu' => hu u.1 (List.mem_cons_of_mem _ (List.mem_map_of_mem hu'))) hpr.2).2
          omega
      intro u hu'
      rcases List.mem_cons.mp hu' with rfl | hu'
      · exact hmain
      · exact Nat.le_trans (hpw1 u hu') hmain
  obtain ⟨s1, hAU, ha, hb, hBv⟩ := gw_app.mp ho.1
  obtain ⟨s, hA, hU⟩ := gw_app.mp hAU
  have ha : gw_z h ∣ s1 := ha
  have hb : gw_z h ∣ s1 + gw_z h := hb
  have hBv : gw_vd (s1 + gw_z h + gw_z h) B' (gw_z K) := hBv
  have hz := gw_z_succ h
  by_cases hs : gw_z (h + 1) ∣ s
  · refine ⟨PA ++ (a' + b', h + 1) :: (PU ++ B'), ?_, ?_, ?_⟩
    · refine gw_mk hA ⟨hs, gw_mk (m := s1 + gw_z (h + 1)) (gw_shift hU (fun p hp => gw_z_dvd (hle p hp))) (gw_to hBv (by omega) rfl)⟩
    · simp only [List.map_append, List.map_cons, hPA, hPU, hB']
    · simp only [gw_G_app, gw_G, Nat.mul_add, Nat.add_mul, Nat.mul_one] at hg0 ⊢
      omega
  · -- all of PU at level h
    have hall : ∀ u ∈ PU, u.2 = h := by
      cases PU with
      | nil => intro u hu'; cases hu'
      | cons u1 PU' =>
        obtain ⟨uw, ue⟩ := u1
        have h1 := hle _ List.mem_cons_self
        have h2 := hge _ List.mem_cons_self
        have h3 : gw_z ue ∣ s := hU.1
        have h4 : ue = h := by
          rcases (by simp only at h1 h2; omega : ue = h ∨ ue = h + 1) with q | q
          · exact q
          · rw [q] at h3; exact absurd h3 hs
        intro u hu'
        have h5 := hge u hu'
        rcases List.mem_cons.mp hu' with rfl | hu'
        · exact h4
        · have := List.rel_of_pairwise_cons (show ((uw, ue) :: (PU' ++ [(a', h)])).Pairwise _ from hpw) (List.mem_append_left _ hu')
          simp only at this
          omega
    have hsz : gw_z h ∣ s := by
      cases PU with
      | nil => have : s = s1 := hU; rw [this]; exact ha
      | cons u1 PU' => have := hU.1; rw [hall u1 List.mem_cons_self] at this; exact this
    have hs0 : 0 ≤ s := gw_vle hA
    have hodd : gw_z (h + 1) ∣ s - gw_z h := by
      obtain ⟨k, hk⟩ := hsz
      rcases (by omega : k % 2 = 0 ∨ k % 2 = 1) with q | q
      · exfalso
        refine hs ⟨k / 2, ?_⟩
        rw [hk, hz, Int.mul_comm 2, Int.mul_assoc]
        congr 1
        omega
      · refine ⟨k / 2, ?_⟩
        have : k = 2 * (k / 2) + 1 := by omega
        rw [hk, hz]
        conv => lhs; rw [this]
        rw [Int.mul_add, Int.mul_one, Int.mul_comm 2 (gw_z h), Int.mul_assoc]
        omega
    have hne : s ≠ 0 := fun q => hs (by rw [q]; exact Int.dvd_zero _)
    have hzh := gw_z_pos h
    have hzs : gw_z h ≤ s := Int.le_of_dvd (by omega) hsz
    rcases List.eq_nil_or_concat PA with q | ⟨PA', vl, q⟩
    · rw [q] at hA
      exact absurd hA.symm hne
    · rw [List.concat_eq_append] at q
      subst q
      obtain ⟨v, ev⟩ := vl
      have hv : a' + b' ≤ v := hal (PA'.map Prod.fst) v (by rw [← hPA]; simp)
      have hr := gw_rev hA
      rw [List.reverse_append] at hr
      have hr : gw_z ev ∣ -s ∧ gw_vd (-s + gw_z ev) PA'.reverse (-0) := hr
      have hev : ev ≤ h := by
        rcases Nat.lt_or_ge h ev with q | q
        · exact absurd (Int.dvd_trans (gw_z_dvd (show h + 1 ≤ ev from q)) (Int.dvd_neg.mp hr.1)) hs
        · exact q
      have h6 := gw_z_mono hev
      have h7 := gw_z_pos ev
      obtain ⟨Y1, B2, c1, c2, c3, c4⟩ := gw_cut (f := h) (M := -s + gw_z h) (Int.dvd_add (Int.dvd_neg.mpr hsz) (Int.dvd_refl _)) hr.2 (by omega) (by omega) (by omega)
      have c1' : PA' = B2.reverse ++ Y1.reverse := by rw [← List.reverse_append, ← c1, List.reverse_reverse]
      have z1 : gw_vd (-s) ((v, ev) :: Y1) (-s + gw_z h) := ⟨hr.1, c2⟩
      have z2 := gw_rev z1
      have z3 := gw_rev c3
      have z4 := gw_scale (d := -(s - gw_z h)) z2 (fun p hp => by
        refine Int.dvd_neg.mpr (Int.dvd_trans (gw_z_dvd ?_) hodd)
        rcases List.mem_cons.mp (List.mem_reverse.mp hp) with rfl | hp
        · simp only; omega
        · have := c4 p hp; omega)
      refine ⟨B2.reverse ++ (gw_up ((v, ev) :: Y1).reverse ++ (a' + b', h) :: (PU ++ B')), ?_, ?_, ?_⟩
      · refine gw_mk (gw_to z3 (by omega) rfl) (gw_mk (gw_to z4 (by omega) rfl) ⟨?_, ?_⟩)
        · show gw_z h ∣ 2 * - -s + -(s - gw_z h)
          rw [show 2 * - -s + -(s - gw_z h) = s + gw_z h by omega]
          exact Int.dvd_add hsz (Int.dvd_refl _)
        · refine gw_mk (m := s1 + gw_z (h + 1)) ?_ (gw_to hBv (by omega) rfl)
          exact gw_to (gw_shift (d := gw_z (h + 1)) hU (fun p hp => gw_z_dvd (hle p hp))) (by show s + gw_z (h + 1) = 2 * - -s + -(s - gw_z h) + gw_z h; omega) rfl
      · rw [c1'] at hPA
        simp only [List.map_append, List.map_cons, gw_up_fst, List.reverse_cons, List.map_nil, List.append_assoc] at hPA ⊢
        rw [hPU, hB', ← hPA]
        simp
      · rw [c1'] at hg0
        simp only [gw_G_app, gw_G, gw_G_up, gw_W, List.reverse_cons, List.map_append, List.map_cons, List.map_nil, List.sum_append, List.sum_cons, List.sum_nil, Nat.add_mul] at hg0 ⊢
        omega
/-- and back, one level more -/
theorem gw_step2 {K a b : Nat} {al up be : List Nat} (hD : gw_D2 (al ++ (up ++ [a, b]))) (hc : ∀ c B', be = c :: B' → a ≤ c) (hu : ∀ u ∈ up, u < a + b) (hal : ∀ A' v, al = A' ++ [v] → a + b ≤ v) {P : List (Nat × Nat)} (hP : gw_vd 0 P (gw_z K)) (hw : P.map Prod.fst = al ++ (a + b) :: (up ++ be)) : ∃ P', gw_vd 0 P' (gw_z (K + 1)) ∧ P'.map Prod.fst = al ++ (up ++ a :: b :: be) ∧ gw_G P + gw_W P ≤ gw_G P' + (a + b) := by
  obtain ⟨P0, ho, hw0, hg0⟩ := gw_opt_ex _ P hP (Nat.le_refl _)
  have hW0 : gw_W P0 = gw_W P := by simp only [gw_W, hw0]
  rw [hw] at hw0
  obtain ⟨PA, P1, rfl, hPA, hP1⟩ := List.map_eq_append_iff.mp hw0
  obtain ⟨px, P2, rfl, hpx, hP2⟩ := List.map_eq_cons_iff.mp hP1
  obtain ⟨PU, PB, rfl, hPU, hPB⟩ := List.map_eq_append_iff.mp hP2
  obtain ⟨x', g⟩ := px
  have hpx : x' = a + b := hpx
  subst hpx
  have hDu : gw_D2 (up ++ [a, b]) := gw_D2_suf hD
  have hpw : ((a + b, g) :: PU).Pairwise (fun p q => q.2 ≤ p.2) := by
    refine gw_pw _ (fun A p q B e => ?_)
    obtain ⟨p1, p2⟩ := p
    obtain ⟨q1, q2⟩ := q
    have e2 : PA ++ (a + b, g) :: (PU ++ PB) = (PA ++ A) ++ (p1, p2) :: (q1, q2) :: (B ++ PB) := by
      have : (a + b, g) :: (PU ++ PB) = ((a + b, g) :: PU) ++ PB := by simp
      rw [this, e]; simp
    rw [e2] at ho
    refine gw_mono ho (fun A' v qq => ?_)
    cases A with
    | nil =>
      simp only [List.nil_append, List.cons.injEq] at e
      rw [List.append_nil, hPA] at qq
      have h1 := hal A' v qq
      have h2 := hu q1 (by rw [← hPU, e.2]; simp)
      omega
    | cons r A =>
      simp only [List.cons_append, List.cons.injEq] at e
      obtain ⟨e0, e1⟩ := e
      rcases List.eq_nil_or_concat A with q | ⟨A2, r2, q⟩
      · subst q
        have h2 := hu q1 (by rw [← hPU, e1]; simp)
        rw [← e0, List.map_append] at qq
        have h3 := List.append_inj_right' qq (by simp)
        simp only [List.map_cons, List.map_nil, List.cons.injEq, and_true] at h3
        omega
      · rw [List.concat_eq_append] at q
        subst q
        have h3 : r2.1 = v := by
          have qq2 : (PA.map Prod.fst ++ r.1 :: A2.map Prod.fst) ++ [r2.1] = A' ++ [v] := by rw [← qq]; simp
          have := List.append_inj_right' qq2 (by simp)
          simpa using this
        have h4 := congrArg (List.map Prod.fst) e1
        simp only [List.map_append, List.map_cons, List.map_nil, hPU] at h4
        rw [← h3]
        exact hDu (A2.map Prod.fst) r2.1 p1 q1 (B.map Prod.fst ++ [a, b]) (by rw [h4]; simp)
  have hle : ∀ u ∈ PU, u.2 ≤ g := fun u hu' => List.rel_of_pairwise_cons hpw hu'
  have hge : ∀ u ∈ PU, g ≤ u.2 + 1 := by
    cases g with
    | zero => intro u _; omega
    | succ g =>
      have hpr := gw_D2_prs hDu
      rcases List.eq_nil_or_concat PU with q | ⟨PU', r, q⟩
      · subst q; intro u hu'; cases hu'
      · rw [List.concat_eq_append] at q
        subst q
        obtain ⟨y, ey⟩ := r
        have e2 : PA ++ (a + b, g + 1) :: (PU' ++ [(y, ey)] ++ PB) = PA ++ (a + b, g + 1) :: ([] ++ (PU' ++ (y, ey) :: PB)) := by simp
        rw [e2] at ho
        have hup : up = PU'.map Prod.fst ++ [y] := by rw [← hPU]; simp
        have hpr2 : gw_prs (a + b + 1) (PU'.map Prod.fst ++ y :: (PB.map Prod.fst).take 1) := by
          rw [hPB]
          cases be with
          | nil =>
            rw [hup] at hpr
            exact gw_prs_pre (m := [a]) (by simpa using hpr)
          | cons c be =>
            have := gw_prs_last (hc c be rfl) hpr
            rw [hup] at this
            simpa using this
        have := gw_flat (X := a + b + 1) PU' PA (a + b) g [] y ey PB ho (fun q hq => by cases hq) (fun u hu' => hle u (List.mem_append_left _ hu')) (Nat.lt_succ_self _) (fun u hu' => by
          have := hu u.1 (by rw [hup]; exact List.mem_append_left _ (List.mem_map_of_mem hu'))
          omega) hpr2
        intro u hu'
        rcases List.mem_append.mp hu' with hu' | hu'
        · have := this.1 u hu'; omega
        · simp at hu'; rw [hu']; simp only; omega
  have hz := gw_z_succ g
  have hv := gw_scale (d := 0) ho.1 (fun p _ => Int.dvd_zero _)
  have e3 : gw_up (PA ++ (a + b, g) :: (PU ++ PB)) = gw_up PA ++ (a + b, g + 1) :: (gw_up PU ++ gw_up PB) := by simp [gw_up]
  rw [e3] at hv
  obtain ⟨s, hA, hx, h1⟩ := gw_app.mp hv
  obtain ⟨s2, hU, hB⟩ := gw_app.mp h1
  have hx : gw_z (g + 1) ∣ s := hx
  have hU : gw_vd (s + gw_z (g + 1)) (gw_up PU) s2 := hU
  have hA : gw_vd 0 (gw_up PA) s := gw_to hA (by omega) rfl
  have hB : gw_vd s2 (gw_up PB) (gw_z (K + 1)) := gw_to hB rfl (by rw [gw_z_succ]; omega)
  have hU1 : gw_vd s (gw_up PU) (s2 - gw_z (g + 1)) := gw_to (gw_shift (d := -gw_z (g + 1)) hU (fun p hp => by
    obtain ⟨q, hq, rfl⟩ := gw_up_mem hp
    exact Int.dvd_neg.mpr (gw_z_dvd (by have := hle q hq; simp only; omega)))) (by omega) (by omega)
  have hs2 : gw_z g ∣ s2 - gw_z (g + 1) := gw_dend hU1 (Int.dvd_trans (gw_z_dvd (Nat.le_succ g)) hx) (fun p hp => by
    obtain ⟨q, hq, rfl⟩ := gw_up_mem hp
    exact gw_z_dvd (hge q hq))
  refine ⟨gw_up PA ++ (gw_up PU ++ (a, g) :: (b, g) :: gw_up PB), ?_, ?_, ?_⟩
  · refine gw_mk hA (gw_mk hU1 ⟨hs2, Int.dvd_add hs2 (Int.dvd_refl _), ?_⟩)
    exact gw_to hB (by show s2 = s2 - gw_z (g + 1) + gw_z g + gw_z g; omega) rfl
  · simp only [List.map_append, List.map_cons, gw_up_fst, hPA, hPU, hPB]
  · rw [← hW0]
    simp only [gw_G_app, gw_G, gw_G_up, gw_W, List.map_append, List.map_cons, List.sum_append, List.sum_cons, Nat.add_mul] at hg0 ⊢
    omega
end
section
/-- the algorithm, as a relation: n joins take the row w to one heap, and cost c -/
def gw_rel : Nat → List Nat → Nat → Prop
  | 0, w, c => (∃ x, w = [x]) ∧ c = 0
  | n + 1, w, c => ∃ (al up : List Nat) (a b : Nat) (be : List Nat) (c' : Nat), w = al ++ (up ++ a :: b :: be) ∧ gw_D2 (al ++ (up ++ [a, b])) ∧ (∀ c B', be = c :: B' → a ≤ c) ∧ (∀ u ∈ up, u < a + b) ∧ (∀ A' v, al = A' ++ [v] → a + b ≤ v) ∧ gw_rel n (al ++ (a + b) :: (up ++ be)) c' ∧ c = c' + (a + b)
/-- c is the least cost of an alphabetic tree over w -/
def gw_best (w : List Nat) (c : Nat) : Prop := (∀ (K : Nat) (P : List (Nat × Nat)), gw_vd 0 P (gw_z K) → P.map Prod.fst = w → c + gw_G P ≤ K * w.sum) ∧ ∃ (K : Nat) (P : List (Nat × Nat)), gw_vd 0 P (gw_z K) ∧ P.map Prod.fst = w ∧ K * w.sum ≤ c + gw_G P
theorem gw_best_uniq {w : List Nat} {c c' : Nat} (h : gw_best w c) (h' : gw_best w c') : c = c' := by
  obtain ⟨K, P, a1, a2, a3⟩ := h.2
  obtain ⟨K', P', b1, b2, b3⟩ := h'.2
  have := h.1 K' P' b1 b2
  have := h'.1 K P a1 a2
  omega
theorem gw_one (x K : Nat) (P : List (Nat × Nat)) (h : gw_vd 0 P (gw_z K)) (hw : P.map Prod.fst = [x]) : P = [(x, K)] := by
  obtain ⟨p, P', rfl, h1, h2⟩ := List.map_eq_cons_iff.mp hw
  have h3 := List.map_eq_nil_iff.mp h2
  subst h3
  obtain ⟨p1, p2⟩ := p
  have h4 : 0 + gw_z p2 = gw_z K := h.2
  have h5 : p2 = K := Nat.le_antisymm (gw_z_le (by omega)) (gw_z_le (by omega))
  have h1 : p1 = x := h1
  rw [h1, h5]
theorem gw_best_1 (x : Nat) : gw_best [x] 0 := by
  constructor
  · intro K P h hw
    rw [gw_one x K P h hw]
    simp only [gw_G, List.sum_cons, List.sum_nil]
    rw [Nat.mul_comm x K]; simp
  · refine ⟨0, [(x, 0)], ⟨Int.dvd_zero _, by show 0 + gw_z 0 = gw_z 0; omega⟩, rfl, by simp⟩
theorem gw_rel_best : ∀ (n : Nat) (w : List Nat) (c : Nat), gw_rel n w c → gw_best w c := by
  intro n
  induction n with
  | zero =>
    rintro w c ⟨⟨x, rfl⟩, rfl⟩
    exact gw_best_1 x
  | succ n ih =>
    rintro w c ⟨al, up, a, b, be, c', rfl, hD, hc, hu, hal, hr, rfl⟩
    have hi := ih _ _ hr
    have hsum : (al ++ (up ++ a :: b :: be)).sum = (al ++ (a + b) :: (up ++ be)).sum := by
      simp only [List.sum_append, List.sum_cons]; omega
    constructor
    · intro K P h hw
      obtain ⟨P', b1, b2, b3⟩ := gw_step1 hD hc hu hal h hw
      have := hi.1 K P' b1 b2
      rw [hsum]; omega
    · obtain ⟨K, P, a1, a2, a3⟩ := hi.2
      obtain ⟨P', b1, b2, b3⟩ := gw_step2 hD hc hu hal a1 a2
      refine ⟨K + 1, P', b1, b2, ?_⟩
      rw [hsum, Nat.add_mul, Nat.one_mul]
      have : gw_W P = (al ++ (a + b) :: (up ++ be)).sum := by simp only [gw_W, a2]
      omega
theorem gw_cutf {f : Nat} {M t : Int} (hM : gw_z f ∣ M) : ∀ {P : List (Nat × Nat)} {s : Int}, gw_vd s P t → (∀ p ∈ P, p.2 ≤ f) → s ≤ M → M ≤ t → ∃ A B, P = A ++ B ∧ gw_vd s A M ∧ gw_vd M B t := by
  intro P
  induction P with
  | nil =>
    intro s h _ h2 h3
    simp only [gw_vd] at h
    exact ⟨[], [], rfl, by show s = M; omega, by show M = t; omega⟩
  | cons p P ih =>
    intro s h h1 h2 h3
    by_cases e : s = M
    · subst e
      exact ⟨[], p :: P, rfl, rfl, h⟩
    · have hn := gw_next h.1 (Int.dvd_trans (gw_z_dvd (h1 p List.mem_cons_self)) hM) (by omega)
      obtain ⟨A, B, e1, e2, e3⟩ := ih h.2 (fun q hq => h1 q (List.mem_cons_of_mem _ hq)) hn h3
      exact ⟨p :: A, B, by rw [e1]; rfl, ⟨h.1, e2⟩, e3⟩
theorem gw_raise {P : List (Nat × Nat)} {w : List Nat} (hw : P.map Prod.fst = w) {c : Nat} : ∀ (j K : Nat) (P : List (Nat × Nat)), gw_vd 0 P (gw_z K) → P.map Prod.fst = w → K * w.sum ≤ c + gw_G P → ∃ P', gw_vd 0 P' (gw_z (K + j)) ∧ P'.map Prod.fst = w ∧ (K + j) * w.sum ≤ c + gw_G P' := by
  intro j
  induction j with
  | zero => intro K P a1 a2 a3; exact ⟨P, a1, a2, a3⟩
  | succ j ih =>
    intro K P a1 a2 a3
    obtain ⟨P', b1, b2, b3⟩ := ih K P a1 a2 a3
    refine ⟨gw_up P', gw_to (gw_scale (d := 0) b1 (fun _ _ => Int.dvd_zero _)) (by omega) (by rw [← Nat.add_assoc, gw_z_succ]; omega), by rw [gw_up_fst]; exact b2, ?_⟩
    have : gw_W P' = w.sum := by simp only [gw_W, b2]
    rw [gw_G_up, this, ← Nat.add_assoc, Nat.add_mul, Nat.one_mul]
    omega
/-- the interval recursion gives the least cost -/
theorem gw_best_split {w : List Nat} {c : Nat} (h2 : 2 ≤ w.length) (hall : ∀ A B, w = A ++ B → A ≠ [] → B ≠ [] → ∃ cA cB, gw_best A cA ∧ gw_best B cB ∧ c ≤ w.sum + cA + cB) (hex : ∃ A B cA cB, w = A ++ B ∧ gw_best A cA ∧ gw_best B cB ∧ c = w.sum + cA + cB) : gw_best w c := by
  constructor
  · intro K P h hw
    cases K with
    | zero =>
      exfalso
      rw [← hw, List.length_map] at h2
      match P, h2 with
      | p :: q :: P, _ =>
        have h3 := gw_vle h.2.2
        have h4 := gw_z_pos p.2
        have h5 := gw_z_pos q.2
        have h6 : gw_z 0 = 1 := rfl
        omega
    | succ K =>
      have hz := gw_z_succ K
      have hzp := gw_z_pos K
      have hle : ∀ p ∈ P, p.2 ≤ K := by
        intro p hp
        have h3 := gw_leK h p hp
        rcases (by omega : p.2 ≤ K ∨ p.2 = K + 1) with q | q
        · exact q
        · exfalso
          obtain ⟨A, B, rfl⟩ := List.append_of_mem hp
          obtain ⟨m, e1, e2⟩ := gw_app.mp h
          have e3 := gw_vle e1
          have e4 := gw_vle e2.2
          rw [q] at e4
          have e5 : m = 0 := by omega
          subst e5
          have e6 : A = [] := by
            cases A with
            | nil => rfl
            | cons r A => have := gw_vle e1.2; have := gw_z_pos r.2; omega
          have e7 : B = [] := by
            cases B with
            | nil => rfl
            | cons r B => have h8 := gw_vle e2.2.2; rw [q] at h8; have := gw_z_pos r.2; omega
          subst e6; subst e7
          rw [← hw] at h2
          simp at h2
      obtain ⟨A, B, rfl, hA, hB⟩ := gw_cutf (f := K) (Int.dvd_refl _) h hle (by omega) (by omega)
      have hAne : A ≠ [] := by
        rintro rfl
        have : (0 : Int) = gw_z K := hA
        omega
      have hBne : B ≠ [] := by
        rintro rfl
        have : gw_z K = gw_z (K + 1) := hB
        omega
      obtain ⟨cA, cB, d1, d2, d3⟩ := hall (A.map Prod.fst) (B.map Prod.fst) (by rw [← hw, List.map_append]) (by simpa using hAne) (by simpa using hBne)
      have f1 := d1.1 K A hA rfl
      have hB0 : gw_vd 0 B (gw_z K) := gw_to (gw_shift (d := -gw_z K) hB (fun p hp => Int.dvd_neg.mpr (gw_z_dvd (hle p (List.mem_append_right _ hp))))) (by omega) (by omega)
      have f2 := d2.1 K B hB0 rfl
      rw [← hw] at d3 ⊢
      simp only [List.map_append, List.sum_append, gw_G_app, Nat.add_mul, Nat.mul_add, Nat.one_mul] at d3 f1 f2 ⊢
      omega
  · obtain ⟨A, B, cA, cB, rfl, hA, hB, rfl⟩ := hex
    obtain ⟨K1, P1, a1, a2, a3⟩ := hA.2
    obtain ⟨K2, P2, b1, b2, b3⟩ := hB.2
    obtain ⟨Q1, q1, q2, q3⟩ := gw_raise a2 K2 K1 P1 a1 a2 a3
    obtain ⟨Q2, r1, r2, r3⟩ := gw_raise b2 K1 K2 P2 b1 b2 b3
    rw [Nat.add_comm K2 K1] at r1 r3
    refine ⟨K1 + K2 + 1, Q1 ++ Q2, ?_, by rw [List.map_append, q2, r2], ?_⟩
    · refine gw_mk q1 (gw_to (gw_shift (d := gw_z (K1 + K2)) r1 (fun p hp => gw_z_dvd (gw_leK r1 p hp))) (by omega) (by rw [gw_z_succ]; omega))
    · simp only [List.sum_append, gw_G_app]
      rw [Nat.add_mul, Nat.one_mul, Nat.mul_add]
      omega
end
section
/-! HUFFMAN, plain: r of the least are joined at a time; pairs (weight, depth); Kraft's sum -/
def hf_C : List (Nat × Nat) → Nat
  | [] => 0
  | p :: P => p.1 * p.2 + hf_C P
def hf_k (r K : Nat) : List (Nat × Nat) → Nat
  | [] => 0
  | p :: P => r ^ (K - p.2) + hf_k r K P
theorem hf_C_app (P Q : List (Nat × Nat)) : hf_C (P ++ Q) = hf_C P + hf_C Q := by
  induction P with
  | nil => simp [hf_C]
  | cons p P ih => simp [hf_C, ih]; omega
theorem hf_k_app (r K : Nat) (P Q : List (Nat × Nat)) : hf_k r K (P ++ Q) = hf_k r K P + hf_k r K Q := by
  induction P with
  | nil => simp [hf_k]
  | cons p P ih => simp [hf_k, ih]; omega
theorem hf_C_perm {P Q : List (Nat × Nat)} (h : P.Perm Q) : hf_C P = hf_C Q := by
  induction h with
  | nil => rfl
  | cons p _ ih => simp [hf_C, ih]
  | swap p q l => simp only [hf_C]; omega
  | trans _ _ h1 h2 => exact h1.trans h2
theorem hf_k_perm {r K : Nat} {P Q : List (Nat × Nat)} (h : P.Perm Q) : hf_k r K P = hf_k r K Q := by
  induction h with
  | nil => rfl
  | cons p _ ih => simp [hf_k, ih]
  | swap p q l => simp only [hf_k]; omega
  | trans _ _ h1 h2 => exact h1.trans h2
/-- a rearrangement of the images comes from one of the things -/
theorem hf_lift {α : Type} {f : α → Nat} {l l' : List Nat} (h : l.Perm l') : ∀ {M : List α}, M.map f = l → ∃ M', M.Perm M' ∧ M'.map f = l' := by
  induction h with
  | nil =>
    intro M hM
    exact ⟨M, List.Perm.refl _, hM⟩
  | cons x _ ih =>
    intro M hM
    obtain ⟨a, M1, rfl, h1, h2⟩ := List.map_eq_cons_iff.mp hM
    obtain ⟨M', e1, e2⟩ := ih h2
    exact ⟨a :: M', e1.cons a, by rw [List.map_cons, h1, e2]⟩
  | swap x y l =>
    intro M hM
    obtain ⟨a, M1, rfl, h1, h2⟩ := List.map_eq_cons_iff.mp hM
    obtain ⟨b, M2, rfl, h3, h4⟩ := List.map_eq_cons_iff.mp h2
    exact ⟨b :: a :: M2, List.Perm.swap b a M2, by rw [List.map_cons, List.map_cons, h1, h3, h4]⟩
  | trans _ _ ih1 ih2 =>
    intro M hM
    obtain ⟨M1, e1, e2⟩ := ih1 hM
    obtain ⟨M2, e3, e4⟩ := ih2 e2
    exact ⟨M2, e1.trans e3, e4⟩
theorem hf_max : ∀ (P : List (Nat × Nat)), P ≠ [] → ∃ q P', P.Perm (q :: P') ∧ ∀ p ∈ P', p.2 ≤ q.2 := by
  intro P
  induction P with
  | nil => intro h; exact absurd rfl h
  | cons p P ih =>
    intro _
    cases P with
    | nil => exact ⟨p, [], List.Perm.refl _, fun q hq => by cases hq⟩
    | cons p2 P2 =>
      obtain ⟨q, P', h1, h2⟩ := ih (by simp)
      rcases Nat.le_total p.2 q.2 with hh | hh
      · refine ⟨q, p :: P', (h1.cons p).trans (List.Perm.swap q p P'), fun x hx => ?_⟩
        rcases List.mem_cons.mp hx with rfl | hx
        · exact hh
        · exact h2 x hx
      · refine ⟨p, q :: P', h1.cons p, fun x hx => ?_⟩
        rcases List.mem_cons.mp hx with rfl | hx
        · exact hh
        · exact Nat.le_trans (h2 x hx) hh
theorem hf_swap_le {x y e m : Nat} (h1 : x ≤ y) (h2 : e ≤ m) : x * m + y * e ≤ x * e + y * m := by
  obtain ⟨a, rfl⟩ := Nat.exists_eq_add_of_le h1
  obtain ⟨b, rfl⟩ := Nat.exists_eq_add_of_le h2
  simp only [Nat.add_mul, Nat.mul_add]
  omega
/-- the least weight takes the greatest depth -/
theorem hf_exch {P : List (Nat × Nat)} {x : Nat} {L : List Nat} (h : (P.map Prod.fst).Perm (x :: L)) (hx : ∀ y ∈ L, x ≤ y) : ∃ m P', (P'.map Prod.fst).Perm L ∧ (∀ q ∈ P', q.2 ≤ m) ∧ hf_C P' + x * m ≤ hf_C P ∧ (m :: P'.map Prod.snd).Perm (P.map Prod.snd) := by
  obtain ⟨M, h1, h2⟩ := hf_lift h rfl
  obtain ⟨p, P1, rfl, hp, hP1⟩ := List.map_eq_cons_iff.mp h2
  obtain ⟨x', e⟩ := p
  have hp : x' = x := hp
  subst hp
  have hC := hf_C_perm h1
  have hs := (h1.map Prod.snd).symm
  cases P1 with
  | nil =>
    refine ⟨e, [], (by rw [← hP1]), fun q hq => (by cases hq), ?_, hs⟩
    rw [hC]; simp only [hf_C]; omega
  | cons p2 P2 =>
    obtain ⟨q, P3, g1, g2⟩ := hf_max (p2 :: P2) (by simp)
    obtain ⟨y, m⟩ := q
    have hw : ((y :: P3.map Prod.fst)).Perm L := by
      have := (g1.map Prod.fst).symm
      rw [hP1] at this
      exact this
    have hxy : x' ≤ y := hx y (hw.mem_iff.mp List.mem_cons_self)
    have hC2 := hf_C_perm g1
    have hs2 : (e :: m :: P3.map Prod.snd).Perm (P.map Prod.snd) := ((g1.map Prod.snd).symm.cons e).trans hs
    rw [show hf_C ((x', e) :: p2 :: P2) = x' * e + hf_C (p2 :: P2) from rfl, hC2, show hf_C ((y, m) :: P3) = y * m + hf_C P3 from rfl] at hC
    rcases Nat.le_total e m with hh | hh
    · refine ⟨m, (y, e) :: P3, hw, fun q hq => ?_, ?_, (List.Perm.swap e m _).trans hs2⟩
      · rcases List.mem_cons.mp hq with rfl | hq
        · exact hh
        · exact g2 q hq
      · have := hf_swap_le hxy hh
        simp only [hf_C]
        omega
    · refine ⟨e, (y, m) :: P3, hw, fun q hq => ?_, ?_, hs2⟩
      · rcases List.mem_cons.mp hq with rfl | hq
        · exact hh
        · exact Nat.le_trans (g2 q hq) hh
      · simp only [hf_C]
        omega
def hf_ks (r K : Nat) : List Nat → Nat
  | [] => 0
  | d :: D => r ^ (K - d) + hf_ks r K D
theorem hf_ks_eq (r K : Nat) (P : List (Nat × Nat)) : hf_ks r K (P.map Prod.snd) = hf_k r K P := by
  induction P with
  | nil => rfl
  | cons p P ih => simp only [List.map_cons, hf_ks, hf_k, ih]
theorem hf_ks_perm {r K : Nat} {P Q : List Nat} (h : P.Perm Q) : hf_ks r K P = hf_ks r K Q := by
  induction h with
  | nil => rfl
  | cons p _ ih => simp [hf_ks, ih]
  | swap p q l => simp only [hf_ks]; omega
  | trans _ _ h1 h2 => exact h1.trans h2
/-- taking the least, j times: the taken ones sum to S, at least depths m each -/
def hf_take : Nat → List Nat → Nat → List Nat → Prop
  | 0, L, S, R => S = 0 ∧ L.Perm R
  | j + 1, L, S, R => ∃ x L' S', L.Perm (x :: L') ∧ (∀ y ∈ L', x ≤ y) ∧ hf_take j L' S' R ∧ S = x + S'
/-- j + 1 of the least are taken: they may stand at the greatest depths, the last of these being m -/
theorem hf_takes {r K : Nat} (hr : 0 < r) : ∀ (j : Nat) (L : List Nat) (S : Nat) (R : List Nat) (P : List (Nat × Nat)), hf_take (j + 1) L S R → (P.map Prod.fst).Perm L → (∀ p ∈ P, p.2 ≤ K) → ∃ m P', (P'.map Prod.fst).Perm R ∧ (∀ q ∈ P', q.2 ≤ m) ∧ m ∈ P.map Prod.snd ∧ hf_C P' + S * m ≤ hf_C P ∧ hf_k r K P' + r ^ (K - m) ≤ hf_k r K P ∧ (1 ≤ j → hf_k r K P' + r ^ (K - m) < hf_k r K P) := by
  intro j
  induction j with
  | zero =>
    rintro L S R P ⟨x, L', S', h1, h2, ⟨rfl, h3⟩, rfl⟩ hP hK
    obtain ⟨m, P', e1, e2, e3, e4⟩ := hf_exch (hP.trans h1) h2
    have hm : m ∈ P.map Prod.snd := e4.mem_iff.mp List.mem_cons_self
    have hk := hf_ks_perm (r := r) (K := K) e4
    rw [hf_ks_eq] at hk
    simp only [hf_ks] at hk
    rw [hf_ks_eq] at hk
    exact ⟨m, P', e1.trans h3, e2, hm, (by omega), (by omega), fun h => (by omega)⟩
  | succ j ih =>
    rintro L S R P ⟨x, L', S', h1, h2, h3, rfl⟩ hP hK
    obtain ⟨m, P', e1, e2, e3, e4⟩ := hf_exch (hP.trans h1) h2
    have hm : m ∈ P.map Prod.snd := e4.mem_iff.mp List.mem_cons_self
    have hmK : m ≤ K := by
      obtain ⟨q, hq, rfl⟩ := List.mem_map.mp hm
      exact hK q hq
    have hk := hf_ks_perm (r := r) (K := K) e4
    rw [hf_ks_eq] at hk
    simp only [hf_ks] at hk
    rw [hf_ks_eq] at hk
    obtain ⟨m', P2, a1, a2, a3, a4, a5, -⟩ := ih L' S' R P' h3 e1 (fun q' hq' => Nat.le_trans (e2 q' hq') hmK)
    have hm' : m' ≤ m := by
      obtain ⟨q, hq, rfl⟩ := List.mem_map.mp a3
      exact e2 q hq
    have hmul := Nat.mul_le_mul_left x hm'
    have hpos : 0 < r ^ (K - m) := Nat.pow_pos hr
    refine ⟨m', P2, a1, a2, e4.mem_iff.mp (List.mem_cons_of_mem _ a3), ?_, (by omega), fun _ => (by omega)⟩
    rw [Nat.add_mul]
    omega
theorem hf_take_len : ∀ (j : Nat) (L : List Nat) (S : Nat) (R : List Nat), hf_take j L S R → L.length = j + R.length := by
  intro j
  induction j with
  | zero => rintro L S R ⟨-, h⟩; have := h.length_eq; omega
  | succ j ih =>
    rintro L S R ⟨x, L', S', h1, h2, h3, rfl⟩
    have h4 := ih _ _ _ h3
    have h5 := h1.length_eq
    simp only [List.length_cons] at h5
    omega
theorem hf_take_snoc : ∀ (j : Nat) (L : List Nat) (S : Nat) (R : List Nat) (x : Nat) (R' : List Nat), hf_take j L S R → R.Perm (x :: R') → (∀ y ∈ R', x ≤ y) → hf_take (j + 1) L (S + x) R' := by
  intro j
  induction j with
  | zero =>
    rintro L S R x R' ⟨rfl, h⟩ h1 h2
    exact ⟨x, R', 0, h.trans h1, h2, ⟨rfl, List.Perm.refl _⟩, (by omega)⟩
  | succ j ih =>
    rintro L S R x R' ⟨z, L', S', a1, a2, a3, rfl⟩ h1 h2
    exact ⟨z, L', S' + x, a1, a2, ih _ _ _ _ _ a3 h1 h2, (by omega)⟩
/-- the joining, as a relation: n joins of r each, cost c -/
def hf_rel (r : Nat) : Nat → List Nat → Nat → Prop
  | 0, L, c => L.length ≤ 1 ∧ c = 0
  | n + 1, L, c => ∃ S R c', hf_take r L S R ∧ hf_rel r n (S :: R) c' ∧ c = c' + S
theorem hf_k_scale {r K m : Nat} (hm : m ≤ K) : ∀ (P : List (Nat × Nat)), (∀ p ∈ P, p.2 ≤ m) → hf_k r K P = r ^ (K - m) * hf_k r m P := by
  intro P
  induction P with
  | nil => intro _; simp [hf_k]
  | cons p P ih =>
    intro h
    have h1 := h p List.mem_cons_self
    simp only [hf_k, Nat.mul_add]
    rw [ih (fun q hq => h q (List.mem_cons_of_mem _ hq)), ← Nat.pow_add]
    congr 2
    omega
theorem hf_powmod (q : Nat) : ∀ j, (q + 1) ^ j % q = 1 % q := by
  intro j
  induction j with
  | zero => rfl
  | succ j ih => rw [Nat.pow_succ, Nat.mul_add, Nat.mul_one, Nat.mul_comm, Nat.mul_add_mod, ih]
theorem hf_kmod (q m : Nat) : ∀ (P : List (Nat × Nat)), hf_k (q + 1) m P % q = P.length % q := by
  intro P
  induction P with
  | nil => rfl
  | cons p P ih =>
    simp only [hf_k, List.length_cons]
    rw [Nat.add_mod, hf_powmod, ih, ← Nat.add_mod, Nat.add_comm]
theorem hf_gap {a b q : Nat} (h : a % q = b % q) (hl : a < b) : a + q ≤ b := by
  have h1 := Nat.sub_mod_eq_zero_of_mod_eq h.symm
  have h2 := Nat.le_of_dvd (by omega) (Nat.dvd_of_mod_eq_zero h1)
  omega
/-- no tree is cheaper than the joining of the least -/
theorem hf_low {q : Nat} (hq : 1 ≤ q) : ∀ (n : Nat) (L : List Nat) (c : Nat), hf_rel (q + 1) n L c → L.length % q = 1 % q → ∀ (K : Nat) (P : List (Nat × Nat)), (P.map Prod.fst).Perm L → (∀ p ∈ P, p.2 ≤ K) → hf_k (q + 1) K P ≤ (q + 1) ^ K → c ≤ hf_C P := by
  intro n
  induction n with
  | zero => rintro L c ⟨-, rfl⟩ _ K P _ _ _; exact Nat.zero_le _
  | succ n ih =>
    rintro L c ⟨S, R, c', h1, h2, rfl⟩ hlen K P hP hK hk
    obtain ⟨m, P', a1, a2, a3, a4, -, a6⟩ := hf_takes (r := q + 1) (K := K) (by omega) q L S R P h1 hP hK
    have a6 := a6 hq
    have hmK : m ≤ K := by
      obtain ⟨x, hx, rfl⟩ := List.mem_map.mp a3
      exact hK x hx
    have hl := hf_take_len _ _ _ _ h1
    have hl2 : P'.length = R.length := by have := a1.length_eq; simpa using this
    have hmod : (hf_k (q + 1) m P' + 1) % q = (q + 1) ^ m % q := by
      rw [hf_powmod, Nat.add_mod, hf_kmod, ← Nat.add_mod, hl2]
      rw [hl, show q + 1 + R.length = q + (R.length + 1) by omega, Nat.add_mod_left] at hlen
      exact hlen
    have e1 := hf_k_scale (r := q + 1) hmK P' a2
    have e2 : (q + 1) ^ K = (q + 1) ^ (K - m) * (q + 1) ^ m := by rw [← Nat.pow_add]; congr 1; omega
    have hpos : 0 < (q + 1) ^ (K - m) := Nat.pow_pos (by omega)
    have hlt : hf_k (q + 1) m P' + 1 < (q + 1) ^ m := by
      have h3 : (q + 1) ^ (K - m) * (hf_k (q + 1) m P' + 1) < (q + 1) ^ (K - m) * (q + 1) ^ m := by
        rw [Nat.mul_add, Nat.mul_one, ← e1, ← e2]; omega
      exact Nat.lt_of_mul_lt_mul_left h3
    have hgap := hf_gap hmod hlt
    obtain ⟨m0, rfl⟩ : ∃ m0, m = m0 + 1 := by
      cases m with
      | zero => simp at hlt
      | succ m0 => exact ⟨m0, rfl⟩
    have hr := ih (S :: R) c' h2 (by
      rw [hl, show q + 1 + R.length = q + (R.length + 1) by omega, Nat.add_mod_left] at hlen
      simpa using hlen) K ((S, m0) :: P') (by simpa using a1.cons S) (fun p hp => by
        rcases List.mem_cons.mp hp with rfl | hp
        · show m0 ≤ K; omega
        · have := a2 p hp; omega) (by
      simp only [hf_k]
      rw [e1, e2, show K - m0 = (K - (m0 + 1)) + 1 by omega, Nat.pow_succ, ← Nat.mul_add]
      exact Nat.mul_le_mul_left _ (by omega))
    simp only [hf_C] at hr
    rw [Nat.mul_add, Nat.mul_one] at a4
    omega
end
section
/-! MASKS: subsets as bits of a number -/
theorem mk_or {p q : Nat} (h : p &&& q = 0) : p ||| q = p + q := by
  have hp : p < 2 ^ (p + q + 1) := Nat.lt_of_lt_of_le Nat.lt_two_pow_self (Nat.pow_le_pow_right (by omega) (by omega))
  have hq : q < 2 ^ (p + q + 1) := Nat.lt_of_lt_of_le Nat.lt_two_pow_self (Nat.pow_le_pow_right (by omega) (by omega))
  have h1 : BitVec.ofNat (p + q + 1) p &&& BitVec.ofNat (p + q + 1) q = 0#(p + q + 1) := by
    apply BitVec.eq_of_toNat_eq
    rw [BitVec.toNat_and, BitVec.toNat_ofNat, BitVec.toNat_ofNat, Nat.mod_eq_of_lt hp, Nat.mod_eq_of_lt hq, h]
    simp
  have h2 := congrArg BitVec.toNat (BitVec.add_eq_or_of_and_eq_zero _ _ h1)
  rw [BitVec.toNat_add_of_and_eq_zero h1, BitVec.toNat_or, BitVec.toNat_ofNat, BitVec.toNat_ofNat, Nat.mod_eq_of_lt hp, Nat.mod_eq_of_lt hq] at h2
  exact h2.symm
theorem mk_dj {p q : Nat} (h : p &&& q = 0) (i : Nat) : ¬ (p.testBit i = true ∧ q.testBit i = true) := by
  intro ⟨h1, h2⟩
  have := congrArg (fun x => x.testBit i) h
  simp [h1, h2] at this
theorem mk_or_dj {p q t : Nat} (h1 : p &&& t = 0) (h2 : q &&& t = 0) : (p ||| q) &&& t = 0 := by
  rw [Nat.and_or_distrib_right, h1, h2]; rfl
/-- the sum over a mask, of the first n -/
def mk_sm (w : Nat → Nat) : Nat → Nat → Nat
  | 0, _ => 0
  | n + 1, s => mk_sm w n s + (if s.testBit n then w n else 0)
def mk_ls (w : Nat → Nat) : Nat → Nat → List Nat
  | 0, _ => []
  | n + 1, s => (if s.testBit n then [w n] else []) ++ mk_ls w n s
theorem mk_sm_0 (w : Nat → Nat) (n : Nat) : mk_sm w n 0 = 0 := by
  induction n with
  | zero => rfl
  | succ n ih => simp [mk_sm, ih]
theorem mk_sm_or {w : Nat → Nat} {p q : Nat} (h : p &&& q = 0) (n : Nat) : mk_sm w n (p ||| q) = mk_sm w n p + mk_sm w n q := by
  induction n with
  | zero => rfl
  | succ n ih =>
    have h1 := mk_dj h n
    simp only [mk_sm, ih, Nat.testBit_or]
    cases hp : p.testBit n <;> cases hq : q.testBit n <;> simp [hp, hq] at h1 ⊢ <;> omega
theorem mk_ls_sum (w : Nat → Nat) (n s : Nat) : (mk_ls w n s).sum = mk_sm w n s := by
  induction n with
  | zero => rfl
  | succ n ih =>
    simp only [mk_sm, mk_ls, List.sum_append, ih]
    cases s.testBit n <;> simp; omega
theorem mk_ls_or {w : Nat → Nat} {p q : Nat} (h : p &&& q = 0) (n : Nat) : (mk_ls w n (p ||| q)).Perm (mk_ls w n p ++ mk_ls w n q) := by
  induction n with
  | zero => exact List.Perm.refl _
  | succ n ih =>
    have h1 := mk_dj h n
    simp only [mk_ls, Nat.testBit_or]
    cases hp : p.testBit n <;> cases hq : q.testBit n <;> simp [hp, hq] at h1 ⊢
    · exact ih
    · exact (ih.cons (w n)).trans List.perm_middle.symm
    · exact ih
/-- the or of a list of masks -/
def mk_ors : List Nat → Nat
  | [] => 0
  | p :: M => p ||| mk_ors M
theorem mk_ors_perm {M N : List Nat} (h : M.Perm N) : mk_ors M = mk_ors N := by
  induction h with
  | nil => rfl
  | cons p _ ih => simp [mk_ors, ih]
  | swap p q l => simp only [mk_ors]; rw [← Nat.or_assoc, ← Nat.or_assoc, Nat.or_comm q p]
  | trans _ _ h1 h2 => exact h1.trans h2
theorem mk_ors_app (M N : List Nat) : mk_ors (M ++ N) = mk_ors M ||| mk_ors N := by
  induction M with
  | nil => simp [mk_ors]
  | cons p M ih => simp [mk_ors, ih, Nat.or_assoc]
theorem mk_ors_dj {q : Nat} : ∀ (M : List Nat), (∀ p ∈ M, p &&& q = 0) → mk_ors M &&& q = 0 := by
  intro M
  induction M with
  | nil => intro _; simp [mk_ors]
  | cons p M ih =>
    intro h
    exact mk_or_dj (h p List.mem_cons_self) (ih (fun x hx => h x (List.mem_cons_of_mem _ hx)))
def mk_pd (M : List Nat) : Prop := M.Pairwise (fun p q => p &&& q = 0)
theorem mk_pd_perm {M N : List Nat} (h : M.Perm N) (hp : mk_pd M) : mk_pd N := h.pairwise hp (fun hh => by rw [Nat.and_comm]; exact hh)
theorem mk_sm_ors {w : Nat → Nat} {n : Nat} : ∀ (M : List Nat), mk_pd M → mk_sm w n (mk_ors M) = (M.map (mk_sm w n)).sum := by
  intro M
  induction M with
  | nil => intro _; exact mk_sm_0 w n
  | cons p M ih =>
    intro h
    obtain ⟨h1, h2⟩ := List.pairwise_cons.mp h
    simp only [mk_ors, List.map_cons, List.sum_cons]
    rw [mk_sm_or, ih h2]
    rw [Nat.and_comm]
    exact mk_ors_dj M (fun x hx => by rw [Nat.and_comm]; exact h1 x hx)
/-- what is taken from the sums is taken from the masks -/
theorem mk_take {f : Nat → Nat} : ∀ (j : Nat) (L : List Nat) (S : Nat) (R : List Nat) (M : List Nat), hf_take j L S R → (M.map f).Perm L → ∃ mt mR, M.Perm (mt ++ mR) ∧ mt.length = j ∧ (mt.map f).sum = S ∧ (mR.map f).Perm R := by
  intro j
  induction j with
  | zero =>
    rintro L S R M ⟨rfl, h⟩ hM
    exact ⟨[], M, List.Perm.refl _, rfl, rfl, hM.trans h⟩
  | succ j ih =>
    rintro L S R M ⟨x, L', S', h1, h2, h3, rfl⟩ hM
    obtain ⟨M', e1, e2⟩ := hf_lift (hM.trans h1) rfl
    obtain ⟨a, M1, rfl, e3, e4⟩ := List.map_eq_cons_iff.mp e2
    obtain ⟨mt, mR, b1, b2, b3, b4⟩ := ih L' S' R M1 h3 (by rw [e4])
    exact ⟨a :: mt, mR, e1.trans (b1.cons a), by simp [b2], by simp [e3, b3], b4⟩
/-- the joining's cost is above the table's: by the masks that are joined -/
theorem mk_up {w b : Nat → Nat} {n r : Nat} (hb : ∀ mt : List Nat, mt.length = r → mk_pd mt → mk_ors mt < 2 ^ n → b (mk_ors mt) ≤ (mt.map b).sum + mk_sm w n (mk_ors mt)) : ∀ (k : Nat) (L : List Nat) (c : Nat), hf_rel r k L c → ∀ (M : List Nat), (M.map (mk_sm w n)).Perm L → mk_pd M → mk_ors M < 2 ^ n → M ≠ [] → b (mk_ors M) ≤ c + (M.map b).sum := by
  intro k
  induction k with
  | zero =>
    rintro L c ⟨hl, rfl⟩ M hM hpd hlt hne
    have h1 := hM.length_eq
    rw [List.length_map] at h1
    match M, hne with
    | [p], _ => simp [mk_ors]
    | p :: q :: M, _ => simp only [List.length_cons] at h1; omega
  | succ k ih =>
    rintro L c ⟨S, R, c', h1, h2, rfl⟩ M hM hpd hlt hne
    obtain ⟨mt, mR, b1, b2, b3, b4⟩ := mk_take _ _ _ _ M h1 hM
    have hpd2 := mk_pd_perm b1 hpd
    obtain ⟨p1, p2, p3⟩ := List.pairwise_append.mp hpd2
    have ho : mk_ors M = mk_ors mt ||| mk_ors mR := by rw [mk_ors_perm b1, mk_ors_app]
    have hlt2 : mk_ors mt < 2 ^ n := by
      have : mk_ors mt ≤ mk_ors M := by rw [ho]; exact Nat.left_le_or
      omega
    have hs := mk_sm_ors (w := w) (n := n) mt p1
    have h3 := hb mt b2 p1 hlt2
    have h4 := ih (S :: R) c' h2 (mk_ors mt :: mR) (by rw [List.map_cons, hs, b3]; exact b4.cons S) (List.pairwise_cons.mpr ⟨fun q hq => mk_ors_dj mt (fun p hp => p3 p hp q hq), p2⟩) (by rw [mk_ors, ← ho]; exact hlt) (by simp)
    have h5 : (M.map b).sum = (mt.map b).sum + (mR.map b).sum := by
      rw [(b1.map b).sum_nat, List.map_append, List.sum_append]
    simp only [mk_ors, ← ho, List.map_cons, List.sum_cons] at h4
    rw [hs, b3] at h3
    omega
end
section
/-- the table of least costs over masks: splits in two, and in three where r is 3 -/
def mk_T (r n : Nat) (w b : Nat → Nat) : Prop :=
  b 0 = 0 ∧ (∀ s, 0 < s → s < 2 ^ n → s &&& (s - 1) = 0 → b s = 0) ∧
  (∀ p q, 0 < p → 0 < q → p &&& q = 0 → p ||| q < 2 ^ n → b (p ||| q) ≤ b p + b q + mk_sm w n (p ||| q)) ∧
  (r = 3 → ∀ p q t, 0 < p → 0 < q → 0 < t → p &&& q = 0 → (p ||| q) &&& t = 0 → p ||| q ||| t < 2 ^ n → b (p ||| q ||| t) ≤ b p + b q + b t + mk_sm w n (p ||| q ||| t)) ∧
  (∀ s, 0 < s → s < 2 ^ n → s &&& (s - 1) ≠ 0 → (∃ p q, 0 < p ∧ 0 < q ∧ p &&& q = 0 ∧ p ||| q = s ∧ b s = b p + b q + mk_sm w n s) ∨ (r = 3 ∧ ∃ p q t, 0 < p ∧ 0 < q ∧ 0 < t ∧ p &&& q = 0 ∧ (p ||| q) &&& t = 0 ∧ p ||| q ||| t = s ∧ b s = b p + b q + b t + mk_sm w n s))
theorem mk_pow : ∀ s, s < 256 → s &&& (s - 1) = 0 → s = 0 ∨ ∃ i, i < 8 ∧ s = 2 ^ i := by decide +kernel
theorem mk_ls_pow (w : Nat → Nat) (i : Nat) : ∀ n, mk_ls w n (2 ^ i) = if i < n then [w i] else [] := by
  intro n
  induction n with
  | zero => rfl
  | succ n ih =>
    simp only [mk_ls, ih, Nat.testBit_two_pow]
    by_cases h1 : i = n
    · subst h1; simp
    · by_cases h2 : i < n
      · simp [h1, h2, Nat.lt_succ_of_lt h2]
      · simp [h1, h2, show ¬ i < n + 1 by omega]
theorem mk_sm_pow (w : Nat → Nat) {i n : Nat} (h : i < n) : mk_sm w n (2 ^ i) = w i := by
  rw [← mk_ls_sum, mk_ls_pow]; simp [h]
def mk_all (w : Nat → Nat) : Nat → List Nat
  | 0 => []
  | n + 1 => w n :: mk_all w n
theorem mk_all_len (w : Nat → Nat) : ∀ n, (mk_all w n).length = n := by
  intro n
  induction n with
  | zero => rfl
  | succ n ih => simp [mk_all, ih]
theorem mk_ls_full (w : Nat → Nat) (n : Nat) : ∀ k, k ≤ n → mk_ls w k (2 ^ n - 1) = mk_all w k := by
  intro k
  induction k with
  | zero => intro _; rfl
  | succ k ih =>
    intro h
    have : k < n := h
    simp only [mk_ls, mk_all, ih (by omega), Nat.testBit_two_pow_sub_one]
    simp [this]
def mk_sg : Nat → List Nat
  | 0 => []
  | n + 1 => 2 ^ n :: mk_sg n
theorem mk_pow_dj {i j : Nat} (h : i ≠ j) : 2 ^ i &&& 2 ^ j = 0 := by
  apply Nat.eq_of_testBit_eq
  intro k
  rw [Nat.testBit_and, Nat.testBit_two_pow, Nat.testBit_two_pow, Nat.zero_testBit]
  by_cases h1 : i = k
  · subst h1
    simp [Ne.symm h]
  · simp [h1]
theorem mk_sg_mem : ∀ {n p : Nat}, p ∈ mk_sg n → ∃ i, i < n ∧ p = 2 ^ i := by
  intro n
  induction n with
  | zero => intro p h; cases h
  | succ n ih =>
    intro p h
    rcases List.mem_cons.mp h with rfl | h
    · exact ⟨n, Nat.lt_succ_self n, rfl⟩
    · obtain ⟨i, h1, h2⟩ := ih h
      exact ⟨i, Nat.lt_succ_of_lt h1, h2⟩
theorem mk_sg_pd : ∀ n, mk_pd (mk_sg n) := by
  intro n
  induction n with
  | zero => exact List.Pairwise.nil
  | succ n ih =>
    refine List.pairwise_cons.mpr ⟨fun p hp => ?_, ih⟩
    obtain ⟨i, h1, rfl⟩ := mk_sg_mem hp
    exact mk_pow_dj (by omega)
theorem mk_sg_ors : ∀ n, mk_ors (mk_sg n) = 2 ^ n - 1 := by
  intro n
  induction n with
  | zero => rfl
  | succ n ih =>
    have hd : 2 ^ n &&& mk_ors (mk_sg n) = 0 := by
      rw [Nat.and_comm]
      refine mk_ors_dj _ (fun p hp => ?_)
      obtain ⟨i, h1, rfl⟩ := mk_sg_mem hp
      exact mk_pow_dj (by omega)
    rw [mk_sg, mk_ors, mk_or hd, ih, Nat.pow_succ]
    have := Nat.two_pow_pos n
    omega
theorem mk_sg_sm (w : Nat → Nat) (n : Nat) : ∀ k, k ≤ n → (mk_sg k).map (mk_sm w n) = mk_all w k := by
  intro k
  induction k with
  | zero => intro _; rfl
  | succ k ih =>
    intro h
    rw [mk_sg, List.map_cons, ih (by omega), mk_sm_pow w (show k < n from h)]; rfl
theorem mk_sg_b {r n : Nat} {w b : Nat → Nat} (hT : mk_T r n w b) : ∀ k, k ≤ n → ((mk_sg k).map b).sum = 0 := by
  intro k
  induction k with
  | zero => intro _; rfl
  | succ k ih =>
    intro h
    rw [mk_sg, List.map_cons, List.sum_cons, ih (by omega)]
    have h1 : 2 ^ k < 2 ^ n := Nat.pow_lt_pow_right (by omega) h
    have h2 : 2 ^ k &&& (2 ^ k - 1) = 0 := by
      rw [← mk_sg_ors, Nat.and_comm]
      refine mk_ors_dj _ (fun p hp => ?_)
      obtain ⟨i, h1, rfl⟩ := mk_sg_mem hp
      exact mk_pow_dj (by omega)
    rw [hT.2.1 (2 ^ k) (Nat.two_pow_pos k) h1 h2]
def hf_dn (P : List (Nat × Nat)) : List (Nat × Nat) := P.map (fun p => (p.1, p.2 + 1))
theorem hf_dn_fst (P : List (Nat × Nat)) : (hf_dn P).map Prod.fst = P.map Prod.fst := by simp [hf_dn]
theorem hf_dn_C (P : List (Nat × Nat)) : hf_C (hf_dn P) = hf_C P + (P.map Prod.fst).sum := by
  induction P with
  | nil => rfl
  | cons p P ih =>
    simp only [hf_dn, List.map_cons, List.sum_cons, hf_C] at ih ⊢
    rw [ih, Nat.mul_succ]; omega
theorem hf_dn_k (r K : Nat) (P : List (Nat × Nat)) : hf_k r (K + 1) (hf_dn P) = hf_k r K P := by
  induction P with
  | nil => rfl
  | cons p P ih =>
    simp only [hf_dn, List.map_cons, hf_k] at ih ⊢
    rw [ih, Nat.add_sub_add_right]
theorem hf_dn_le {P : List (Nat × Nat)} {m : Nat} (h : ∀ p ∈ P, p.2 ≤ m) : ∀ p ∈ hf_dn P, p.2 ≤ m + 1 := by
  intro p hp
  simp only [hf_dn, List.mem_map] at hp
  obtain ⟨q, h1, rfl⟩ := hp
  have := h q h1
  show q.2 + 1 ≤ m + 1
  omega
/-- a tree for every entry of the table -/
theorem mk_low {r n : Nat} {w b : Nat → Nat} (hr : r = 2 ∨ r = 3) (hn : n ≤ 8) (hT : mk_T r n w b) : ∀ (m s : Nat), s ≤ m → 0 < s → s < 2 ^ n → ∃ P, (P.map Prod.fst).Perm (mk_ls w n s) ∧ (∀ p ∈ P, p.2 ≤ s) ∧ (∀ K, s ≤ K → hf_k r K P ≤ r ^ K) ∧ hf_C P = b s := by
  intro m
  induction m with
  | zero => intro s h1 h2; omega
  | succ m ih =>
    intro s hsm h0 hlt
    have hn8 : 2 ^ n ≤ 2 ^ 8 := Nat.pow_le_pow_right (by omega) hn
    by_cases hs : s &&& (s - 1) = 0
    · rcases mk_pow s (by omega) hs with q | ⟨i, hi, rfl⟩
      · omega
      · have hin : i < n := (Nat.pow_lt_pow_iff_right (by omega)).mp hlt
        refine ⟨[(w i, 0)], ?_, fun p hp => ?_, fun K _ => ?_, ?_⟩
        · rw [mk_ls_pow]; simp [hin]
        · simp at hp; rw [hp]; exact Nat.zero_le _
        · simp [hf_k]
        · rw [hT.2.1 _ h0 hlt hs]; simp [hf_C]
    · rcases hT.2.2.2.2 s h0 hlt hs with ⟨p, q, hp, hq, hd, rfl, hb⟩ | ⟨hr3, p, q, t, hp, hq, ht, hd, hd2, rfl, hb⟩
      · have e := mk_or hd
        obtain ⟨P1, a1, a2, a3, a4⟩ := ih p (by omega) hp (by omega)
        obtain ⟨P2, b1, b2, b3, b4⟩ := ih q (by omega) hq (by omega)
        have hperm : ((P1 ++ P2).map Prod.fst).Perm (mk_ls w n (p ||| q)) := by
          rw [List.map_append]; exact (a1.append b1).trans (mk_ls_or hd n).symm
        refine ⟨hf_dn (P1 ++ P2), by rw [hf_dn_fst]; exact hperm, ?_, fun K hK => ?_, ?_⟩
        · intro x hx
          have := hf_dn_le (m := p + q - 1) (fun y hy => by
            rcases List.mem_append.mp hy with hy | hy
            · have := a2 y hy; omega
            · have := b2 y hy; omega) x hx
          omega
        · obtain ⟨K', rfl⟩ : ∃ K', K = K' + 1 := ⟨K - 1, by omega⟩
          rw [hf_dn_k, hf_k_app, Nat.pow_succ]
          have h1 := a3 K' (by omega)
          have h2 := b3 K' (by omega)
          have h3 : r ^ K' * 2 ≤ r ^ K' * r := Nat.mul_le_mul_left _ (by omega)
          omega
        · rw [hf_dn_C, hf_C_app, a4, b4, hperm.sum_nat, mk_ls_sum, hb]
      · have e1 := mk_or hd
        have e2 := mk_or hd2
        obtain ⟨P1, a1, a2, a3, a4⟩ := ih p (by omega) hp (by omega)
        obtain ⟨P2, b1, b2, b3, b4⟩ := ih q (by omega) hq (by omega)
        obtain ⟨P3, c1, c2, c3, c4⟩ := ih t (by omega) ht (by omega)
        have hperm : ((P1 ++ P2 ++ P3).map Prod.fst).Perm (mk_ls w n (p ||| q ||| t)) := by
          rw [List.map_append, List.map_append]; exact (((a1.append b1).trans (mk_ls_or hd n).symm).append c1).trans (mk_ls_or hd2 n).symm
        refine ⟨hf_dn (P1 ++ P2 ++ P3), by rw [hf_dn_fst]; exact hperm, ?_, fun K hK => ?_, ?_⟩
        · intro x hx
          have := hf_dn_le (m := p + q + t - 1) (fun y hy => by
            rcases List.mem_append.mp hy with hy | hy
            · rcases List.mem_append.mp hy with hy | hy
              · have := a2 y hy; omega
              · have := b2 y hy; omega
            · have := c2 y hy; omega) x hx
          omega
        · obtain ⟨K', rfl⟩ : ∃ K', K = K' + 1 := ⟨K - 1, by omega⟩
          rw [hf_dn_k, hf_k_app, hf_k_app, Nat.pow_succ]
          have h1 := a3 K' (by omega)
          have h2 := b3 K' (by omega)
          have h3 := c3 K' (by omega)
          rw [hr3] at h1 h2 h3 ⊢
          omega
        · rw [hf_dn_C, hf_C_app, hf_C_app, a4, b4, c4, hperm.sum_nat, mk_ls_sum, hb]
theorem mk_hb {r n : Nat} {w b : Nat → Nat} (hr : r = 2 ∨ r = 3) (hT : mk_T r n w b) : ∀ mt : List Nat, mt.length = r → mk_pd mt → mk_ors mt < 2 ^ n → b (mk_ors mt) ≤ (mt.map b).sum + mk_sm w n (mk_ors mt) := by
  intro mt hl hpd hlt
  have h2 : ∀ p q, p &&& q = 0 → p ||| q < 2 ^ n → b (p ||| q) ≤ b p + b q + mk_sm w n (p ||| q) := by
    intro p q hd hl
    rcases Nat.eq_zero_or_pos p with rfl | hp
    · rw [Nat.zero_or]; omega
    · rcases Nat.eq_zero_or_pos q with rfl | hq
      · rw [Nat.or_zero]; omega
      · exact hT.2.2.1 p q hp hq hd hl
  rcases hr with rfl | rfl
  · match mt, hl with
    | [p, q], _ =>
      obtain ⟨h3, -⟩ := List.pairwise_cons.mp hpd
      have := h2 p q (h3 q (by simp)) (by simpa [mk_ors] using hlt)
      simp only [mk_ors, List.map_cons, List.map_nil, List.sum_cons, List.sum_nil, Nat.or_zero]
      omega
  · match mt, hl with
    | [p, q, t], _ =>
      obtain ⟨h3, h4⟩ := List.pairwise_cons.mp hpd
      obtain ⟨h5, -⟩ := List.pairwise_cons.mp h4
      have d1 := h3 q (by simp)
      have d2 := h3 t (by simp)
      have d3 := h5 t (by simp)
      simp only [mk_ors, List.map_cons, List.map_nil, List.sum_cons, List.sum_nil, Nat.or_zero] at hlt ⊢
      rw [← Nat.or_assoc] at hlt ⊢
      rcases Nat.eq_zero_or_pos p with rfl | hp
      · rw [Nat.zero_or] at hlt ⊢
        have := h2 q t d3 hlt
        omega
      · rcases Nat.eq_zero_or_pos q with rfl | hq
        · rw [Nat.or_zero] at hlt ⊢
          have := h2 p t d2 hlt
          omega
        · rcases Nat.eq_zero_or_pos t with rfl | ht
          · rw [Nat.or_zero] at hlt ⊢
            have := h2 p q d1 hlt
            omega
          · have := hT.2.2.2.1 rfl p q t hp hq ht d1 (mk_or_dj d2 d3) hlt
            omega
/-- the joining of the least costs what the table says of all -/
theorem mk_fin {q n : Nat} {w b : Nat → Nat} (hq : q = 1 ∨ q = 2) (hn : 1 ≤ n) (hn8 : n ≤ 8) (hT : mk_T (q + 1) n w b) {k : Nat} {L : List Nat} {c : Nat} (hrel : hf_rel (q + 1) k L c) (hlen : L.length % q = 1 % q) (hL : L.Perm (mk_all w n) ∨ (q = 2 ∧ L.Perm (0 :: mk_all w n))) : c = b (2 ^ n - 1) := by
  have hr : q + 1 = 2 ∨ q + 1 = 3 := by omega
  have h2n : 2 ≤ 2 ^ n := by
    have : 2 ^ 1 ≤ 2 ^ n := Nat.pow_le_pow_right (by omega) hn
    omega
  apply Nat.le_antisymm
  · obtain ⟨P, a1, a2, a3, a4⟩ := mk_low hr hn8 hT (2 ^ n - 1) (2 ^ n - 1) (Nat.le_refl _) (by omega) (by omega)
    rw [mk_ls_full w n n (Nat.le_refl n)] at a1
    rw [← a4]
    rcases hL with hL | ⟨rfl, hL⟩
    · exact hf_low (by omega) k L c hrel hlen (2 ^ n - 1) P (a1.trans hL.symm) a2 (a3 _ (Nat.le_refl _))
    · have h3 := a3 (2 ^ n - 1) (Nat.le_refl _)
      have hl := hL.length_eq
      rw [List.length_cons, mk_all_len] at hl
      have hl2 := a1.length_eq
      rw [List.length_map, mk_all_len] at hl2
      have hm := hf_kmod 2 (2 ^ n - 1) P
      have hm2 := hf_powmod 2 (2 ^ n - 1)
      have h4 := hf_low (q := 2) (by omega) k L c hrel hlen (2 ^ n - 1) ((0, 2 ^ n - 1) :: P) (by simpa using (a1.cons 0).trans hL.symm) (fun p hp => by
        rcases List.mem_cons.mp hp with rfl | hp
        · exact Nat.le_refl _
        · exact a2 p hp) (by
        simp only [hf_k, Nat.sub_self, Nat.pow_zero]
        omega)
      simp only [hf_C] at h4
      omega
  · rcases hL with hL | ⟨rfl, hL⟩
    · have := mk_up (mk_hb hr hT) k L c hrel (mk_sg n) (by rw [mk_sg_sm w n n (Nat.le_refl n)]; exact hL.symm) (mk_sg_pd n) (by rw [mk_sg_ors]; omega) (by cases n with | zero => omega | succ n => simp [mk_sg])
      rw [mk_sg_ors, mk_sg_b hT n (Nat.le_refl n)] at this
      omega
    · have := mk_up (mk_hb hr hT) k L c hrel (0 :: mk_sg n) (by rw [List.map_cons, mk_sg_sm w n n (Nat.le_refl n), mk_sm_0]; exact hL.symm) (List.pairwise_cons.mpr ⟨fun q _ => by simp, mk_sg_pd n⟩) (by rw [mk_ors, Nat.zero_or, mk_sg_ors]; omega) (by simp)
      rw [mk_ors, Nat.zero_or, mk_sg_ors, List.map_cons, List.sum_cons, mk_sg_b hT n (Nat.le_refl n), hT.1] at this
      omega
end
section
-- ===== PART A: goes FIRST, ahead of the names: the tables' words, and 'selects' of the private methods out of them =====
/-- a private method of a class that the tables say can be made, by its rows of tables_1 -/
def lw_okq (q : MethodName × Nat) : Prop := (q.1.cls ≠ "java/lang/invoke/MethodHandle" ∧ q.1.cls ≠ "java/lang/invoke/VarHandle") ∧ Cond.instantiable q.1.cls q.2 ∈ tables_1 ∧ Cond.privateMethod q.1 ∈ tables_1 ∧ Cond.instanceMethod q.1 ∈ tables_1
set_option maxRecDepth 100000
theorem lw_p0 : lw_okq (⟨"MergeDesk", "joined", "(I)J"⟩, 4) := ⟨⟨by decide +kernel, by decide +kernel⟩, List.mem_of_getElem? (i := 5) rfl, List.mem_of_getElem? (i := 54) rfl, List.mem_of_getElem? (i := 55) rfl⟩
theorem lw_p1 : lw_okq (⟨"MergeDeskModel", "sum", "(I)J"⟩, 4) := ⟨⟨by decide +kernel, by decide +kernel⟩, List.mem_of_getElem? (i := 82) rfl, List.mem_of_getElem? (i := 115) rfl, List.mem_of_getElem? (i := 116) rfl⟩
def lw_privs_1 : List (MethodName × Nat) := [(⟨"MergeDesk", "joined", "(I)J"⟩, 4), (⟨"MergeDeskModel", "sum", "(I)J"⟩, 4)]
theorem lw_r1 : ∀ q ∈ lw_privs_1, lw_okq q := List.forall_mem_cons.mpr ⟨lw_p0, List.forall_mem_cons.mpr ⟨lw_p1, fun _ h => absurd h List.not_mem_nil⟩⟩
def lw_privs : List (MethodName × Nat) := lw_privs_1
def lw_tbl : List Cond := k2_sels lw_privs ++ tables_1
theorem lw_privs_ok : ∀ q ∈ lw_privs, lw_okq q := lw_r1
-- ===== ONE list of words for every method: the tables' words that hold all through a run =====
def lw_all : List Cond := lw_tbl.filter goodWord
/-- a word of the tables by its place: claim/WORDS.tsv -/
theorem lw_w {w : Cond} (i : Nat) (h : lw_tbl[i]? = some w) (g : goodWord w = true) : w ∈ lw_all := List.mem_filter.mpr ⟨List.mem_of_getElem? h, g⟩
theorem lw_all_tbl {w : Cond} (h : w ∈ lw_all) : w ∈ lw_tbl := (List.mem_filter.mp h).1
theorem lw_self : GoodIn lw_all lw_all := fun w h => ⟨h, good_of_word (List.mem_filter.mp h).2⟩
/-- a class's field words, by their places -/
theorem lw_in (ws : List Cond) (ps : List Nat) (hp : ws = ps.filterMap (fun i => lw_tbl[i]?)) (hg : ws.all goodWord = true) : ∀ w ∈ ws, w ∈ lw_all := by
  intro w h
  have h1 := List.all_eq_true.mp hg w h
  rw [hp] at h
  obtain ⟨i, -, hi⟩ := List.mem_filterMap.mp h
  exact lw_w i hi h1
/-- the words of a contract for the method y with code b, L locals, answer r -/
abbrev ws_ (y : MethodName) (b : ByteArray) (L : Nat) (r : Option FieldType) : List Cond := Cond.code y b L r :: lw_all
theorem lw_meth {y : MethodName} {b : ByteArray} {L : Nat} {r : Option FieldType} (h : Cond.code y b L r ∈ lw_all) : GoodIn lw_all (ws_ y b L r) := by
  intro w hw
  rcases List.mem_cons.mp hw with e | e
  · rw [e]
    exact lw_self _ h
  · exact lw_self _ e
theorem lw_app {a c : List Cond} (ha : ∀ w ∈ a, w ∈ lw_all) (hc : GoodIn lw_all c) : GoodIn lw_all (a ++ c) := by
  intro w hw
  rcases List.mem_append.mp hw with e | e
  · exact lw_self w (ha w e)
  · exact hc w e
/-- what a call through an object asks: cwV n hts (lw_V ..) -/
theorem lw_V {own : String} {idx : Nat} {C : String} {y : MethodName} {b : ByteArray} {L : Nat} {r : Option FieldType} (h1 : Cond.methodLink own idx y ∈ lw_all) (h2 : Cond.instanceMethod y ∈ lw_all) (h3 : Cond.selects C y y ∈ lw_all) (h4 : Cond.initialized C ∈ lw_all) (h5 : Cond.code y b L r ∈ lw_all) : GoodIn lw_all (wsV own idx C y (ws_ y b L r)) := by
  refine lw_app ?_ (lw_meth h5)
  intro w hw
  simp only [List.mem_cons, List.not_mem_nil, or_false] at hw
  rcases hw with e | e | e | e
  · rw [e]; exact h1
  · rw [e]; exact h2
  · rw [e]; exact h3
  · rw [e]; exact h4
/-- what a static call asks: va_cwS n hts (lw_S ..) -/
theorem lw_S {own : String} {idx : Nat} {y : MethodName} {b : ByteArray} {L : Nat} {r : Option FieldType} (h1 : Cond.methodLink own idx y ∈ lw_all) (h2 : Cond.static y ∈ lw_all) (h3 : Cond.initialized y.cls ∈ lw_all) (h4 : Cond.code y b L r ∈ lw_all) : GoodIn lw_all (va_wsS own idx y (ws_ y b L r)) := by
  refine lw_app ?_ (lw_meth h4)
  intro w hw
  simp only [List.mem_cons, List.not_mem_nil, or_false] at hw
  rcases hw with e | e | e
  · rw [e]; exact h1
  · rw [e]; exact h2
  · rw [e]; exact h3
/-- the words of a contract for a method WITH HANDLERS (hh: its table) -/
abbrev wsW_ (y : MethodName) (b : ByteArray) (L : Nat) (r : Option FieldType) (hh : List (Nat × Nat × Nat × Nat)) : List Cond := Cond.codeWith y b L r hh :: lw_all
theorem lw_methW {y : MethodName} {b : ByteArray} {L : Nat} {r : Option FieldType} {hh : List (Nat × Nat × Nat × Nat)} (h : Cond.codeWith y b L r hh ∈ lw_all) : GoodIn lw_all (wsW_ y b L r hh) := by
  intro w hw
  rcases List.mem_cons.mp hw with e | e
  · rw [e]
    exact lw_self _ h
  · exact lw_self _ e
/-- any list of words by their places (lw_in), good -/
theorem lw_good {ws : List Cond} (h : ∀ w ∈ ws, w ∈ lw_all) : GoodIn lw_all ws := fun w hw => lw_self w (h w hw)
/-- what a call of a method with handlers asks: vx_cwVW n hts (lw_VW ..), vx_cwSW n hts (lw_SW ..) -/
theorem lw_VW {own : String} {idx : Nat} {C : String} {y : MethodName} {b : ByteArray} {L : Nat} {r : Option FieldType} {hh : List (Nat × Nat × Nat × Nat)} (h1 : Cond.methodLink own idx y ∈ lw_all) (h2 : Cond.instanceMethod y ∈ lw_all) (h3 : Cond.selects C y y ∈ lw_all) (h4 : Cond.initialized C ∈ lw_all) (h5 : Cond.codeWith y b L r hh ∈ lw_all) : GoodIn lw_all (wsV own idx C y (wsW_ y b L r hh)) := by
  refine lw_app ?_ (lw_methW h5)
  intro w hw
  simp only [List.mem_cons, List.not_mem_nil, or_false] at hw
  rcases hw with e | e | e | e
  · rw [e]; exact h1
  · rw [e]; exact h2
  · rw [e]; exact h3
  · rw [e]; exact h4
theorem lw_SW {own : String} {idx : Nat} {y : MethodName} {b : ByteArray} {L : Nat} {r : Option FieldType} {hh : List (Nat × Nat × Nat × Nat)} (h1 : Cond.methodLink own idx y ∈ lw_all) (h2 : Cond.static y ∈ lw_all) (h3 : Cond.initialized y.cls ∈ lw_all) (h4 : Cond.codeWith y b L r hh ∈ lw_all) : GoodIn lw_all (va_wsS own idx y (wsW_ y b L r hh)) := by
  refine lw_app ?_ (lw_methW h4)
  intro w hw
  simp only [List.mem_cons, List.not_mem_nil, or_false] at hw
  rcases hw with e | e | e
  · rw [e]; exact h1
  · rw [e]; exact h2
  · rw [e]; exact h3
/-- a word by its place in its run of the tables -/
theorem lw_at {r : List Cond} (hr : ∀ w ∈ r, w ∈ lw_tbl) {w : Cond} (i : Nat) (h : r[i]? = some w) : w ∈ lw_tbl := hr w (List.mem_of_getElem? h)
theorem lw_g {w : Cond} (h : w ∈ lw_tbl) (g : goodWord w = true) : w ∈ lw_all := List.mem_filter.mpr ⟨h, g⟩
theorem lw_ms : ∀ w ∈ k2_sels lw_privs, w ∈ lw_tbl := fun w h => show w ∈ k2_sels lw_privs ++ tables_1 from List.mem_append_left _ h
theorem lw_m0 : ∀ w ∈ tables_1, w ∈ lw_tbl := fun w h => show w ∈ k2_sels lw_privs ++ tables_1 from List.mem_append_right (k2_sels lw_privs) h
theorem qs0 : (Cond.selects "MergeDesk" ⟨"MergeDesk", "joined", "(I)J"⟩ ⟨"MergeDesk", "joined", "(I)J"⟩) ∈ lw_all := lw_g (lw_at lw_ms 0 rfl) rfl
theorem qs1 : (Cond.selects "MergeDeskModel" ⟨"MergeDeskModel", "sum", "(I)J"⟩ ⟨"MergeDeskModel", "sum", "(I)J"⟩) ∈ lw_all := lw_g (lw_at lw_ms 1 rfl) rfl
end
section
/-! java/lang/Object -/
set_option maxRecDepth 100000
def RJ0 : String := "java/lang/Object"
abbrev cJ0_init : ByteArray := object_method_1_code
def yJ0_init : MethodName := ⟨RJ0, "<init>", "()V"⟩
theorem dJ0_init_0 : decode cJ0_init 0 = .ok (.return_, 1) := by decide +kernel
theorem q12 : (Jvm.Cond.instanceMethod ({ cls := "java/lang/Object", name := "<init>", desc := "()V" } : Jvm.MethodName)) ∈ lw_all := lw_g (lw_at lw_m0 10 rfl) rfl
theorem q13 : (Jvm.Cond.code ({ cls := "java/lang/Object", name := "<init>", desc := "()V" } : Jvm.MethodName) object_method_1_code (1 : Nat) (Option.none : Option Jvm.ClassFile.FieldType)) ∈ lw_all := lw_g (lw_at lw_m0 11 rfl) rfl
theorem q27 : (Jvm.Cond.arrayClass Jvm.ClassFile.FieldType.int) ∈ lw_all := lw_g (lw_at lw_m0 25 rfl) rfl
set_option maxRecDepth 100000
theorem q28 : (Jvm.Cond.arrayClass Jvm.ClassFile.FieldType.long) ∈ lw_all := lw_g (lw_at lw_m0 26 rfl) rfl
theorem q2 : (Jvm.Cond.initialized "MergeDeskLaw") ∈ lw_all := lw_g (lw_at lw_m0 0 rfl) rfl
set_option maxRecDepth 100000
theorem q6 : (Jvm.Cond.classLink "MergeDeskLaw" (7 : Nat) "MergeDesk") ∈ lw_all := lw_g (lw_at lw_m0 4 rfl) rfl
theorem q8 : (Jvm.Cond.methodLink "MergeDeskLaw" (9 : Nat) ({ cls := "MergeDesk", name := "<init>", desc := "()V" } : Jvm.MethodName)) ∈ lw_all := lw_g (lw_at lw_m0 6 rfl) rfl
theorem q42 : (Jvm.Cond.methodLink "MergeDeskLaw" (13 : Nat) ({ cls := "MergeDesk", name := "put", desc := "(I)Z" } : Jvm.MethodName)) ∈ lw_all := lw_g (lw_at lw_m0 40 rfl) rfl
theorem q47 : (Jvm.Cond.methodLink "MergeDeskLaw" (18 : Nat) ({ cls := "MergeDesk", name := "drop", desc := "()Z" } : Jvm.MethodName)) ∈ lw_all := lw_g (lw_at lw_m0 45 rfl) rfl
theorem q51 : (Jvm.Cond.methodLink "MergeDeskLaw" (23 : Nat) ({ cls := "MergeDesk", name := "any", desc := "()J" } : Jvm.MethodName)) ∈ lw_all := lw_g (lw_at lw_m0 49 rfl) rfl
theorem q71 : (Jvm.Cond.methodLink "MergeDeskLaw" (32 : Nat) ({ cls := "MergeDesk", name := "three", desc := "()J" } : Jvm.MethodName)) ∈ lw_all := lw_g (lw_at lw_m0 69 rfl) rfl
theorem q75 : (Jvm.Cond.methodLink "MergeDeskLaw" (28 : Nat) ({ cls := "MergeDesk", name := "beside", desc := "()J" } : Jvm.MethodName)) ∈ lw_all := lw_g (lw_at lw_m0 73 rfl) rfl
theorem q79 : (Jvm.Cond.methodLink "MergeDeskLaw" (36 : Nat) ({ cls := "MergeDesk", name := "heaps", desc := "()I" } : Jvm.MethodName)) ∈ lw_all := lw_g (lw_at lw_m0 77 rfl) rfl
theorem q83 : (Jvm.Cond.classLink "MergeDeskLaw" (10 : Nat) "MergeDeskModel") ∈ lw_all := lw_g (lw_at lw_m0 81 rfl) rfl
theorem q85 : (Jvm.Cond.methodLink "MergeDeskLaw" (12 : Nat) ({ cls := "MergeDeskModel", name := "<init>", desc := "()V" } : Jvm.MethodName)) ∈ lw_all := lw_g (lw_at lw_m0 83 rfl) rfl
theorem q102 : (Jvm.Cond.methodLink "MergeDeskLaw" (17 : Nat) ({ cls := "MergeDeskModel", name := "put", desc := "(I)Z" } : Jvm.MethodName)) ∈ lw_all := lw_g (lw_at lw_m0 100 rfl) rfl
theorem q107 : (Jvm.Cond.methodLink "MergeDeskLaw" (22 : Nat) ({ cls := "MergeDeskModel", name := "drop", desc := "()Z" } : Jvm.MethodName)) ∈ lw_all := lw_g (lw_at lw_m0 105 rfl) rfl
theorem q111 : (Jvm.Cond.methodLink "MergeDeskLaw" (27 : Nat) ({ cls := "MergeDeskModel", name := "any", desc := "()J" } : Jvm.MethodName)) ∈ lw_all := lw_g (lw_at lw_m0 109 rfl) rfl
theorem q120 : (Jvm.Cond.methodLink "MergeDeskLaw" (31 : Nat) ({ cls := "MergeDeskModel", name := "beside", desc := "()J" } : Jvm.MethodName)) ∈ lw_all := lw_g (lw_at lw_m0 118 rfl) rfl
theorem q124 : (Jvm.Cond.methodLink "MergeDeskLaw" (35 : Nat) ({ cls := "MergeDeskModel", name := "three", desc := "()J" } : Jvm.MethodName)) ∈ lw_all := lw_g (lw_at lw_m0 122 rfl) rfl
theorem q128 : (Jvm.Cond.methodLink "MergeDeskLaw" (40 : Nat) ({ cls := "MergeDeskModel", name := "heaps", desc := "()I" } : Jvm.MethodName)) ∈ lw_all := lw_g (lw_at lw_m0 126 rfl) rfl
/-! MergeDesk$Least -/
set_option maxRecDepth 100000
def RX1 : String := "MergeDesk$Least"
def TX1 : u_T := fun k => match k with
  | 0 => ("MergeDesk$Least", "row", "[J", true)
  | _ => ("MergeDesk$Least", "many", "I", false)
def tyX1 : Nat → FieldType := fun k => match k with
  | 0 => .array .long
  | _ => .int
abbrev wsX10 : List Cond := u_ws RX1 TX1 2
theorem nmX1 : ∀ a, a < 2 → ∀ b, b < 2 → a ≠ b → (TX1 a).2.1 ≠ (TX1 b).2.1 := by decide +kernel
theorem tyX1_ok : ∀ k, k < 2 → parseFieldDescriptor (TX1 k).2.2.1 = some (tyX1 k) := by decide +kernel
abbrev cX1_init : ByteArray := prog_2_method_1_code
def yX1_init : MethodName := ⟨RX1, "<init>", "()V"⟩
theorem dX1_init_0 : decode cX1_init 0 = .ok (.aload_n 0, 1) := by decide +kernel
theorem dX1_init_1 : decode cX1_init 1 = .ok (.invokespecial 3, 3) := by decide +kernel
theorem dX1_init_4 : decode cX1_init 4 = .ok (.aload_n 0, 1) := by decide +kernel
theorem dX1_init_5 : decode cX1_init 5 = .ok (.bipush 10, 2) := by decide +kernel
theorem dX1_init_7 : decode cX1_init 7 = .ok (.newarray .long, 2) := by decide +kernel
theorem dX1_init_9 : decode cX1_init 9 = .ok (.putfield 9, 3) := by decide +kernel
theorem dX1_init_12 : decode cX1_init 12 = .ok (.return_, 1) := by decide +kernel
abbrev cX1_clear : ByteArray := prog_2_method_2_code
def yX1_clear : MethodName := ⟨RX1, "clear", "()V"⟩
theorem dX1_clear_0 : decode cX1_clear 0 = .ok (.aload_n 0, 1) := by decide +kernel
theorem dX1_clear_1 : decode cX1_clear 1 = .ok (.iconst 0, 1) := by decide +kernel
theorem dX1_clear_2 : decode cX1_clear 2 = .ok (.putfield 15, 3) := by decide +kernel
theorem dX1_clear_5 : decode cX1_clear 5 = .ok (.return_, 1) := by decide +kernel
abbrev cX1_put : ByteArray := prog_2_method_3_code
def yX1_put : MethodName := ⟨RX1, "put", "(J)V"⟩
theorem dX1_put_0 : decode cX1_put 0 = .ok (.aload_n 0, 1) := by decide +kernel
theorem dX1_put_1 : decode cX1_put 1 = .ok (.dup, 1) := by decide +kernel
theorem dX1_put_2 : decode cX1_put 2 = .ok (.getfield 15, 3) := by decide +kernel
theorem dX1_put_5 : decode cX1_put 5 = .ok (.dup_x1, 1) := by decide +kernel
theorem dX1_put_6 : decode cX1_put 6 = .ok (.iconst 1, 1) := by decide +kernel
theorem dX1_put_7 : decode cX1_put 7 = .ok (.iadd, 1) := by decide +kernel
theorem dX1_put_8 : decode cX1_put 8 = .ok (.putfield 15, 3) := by decide +kernel
theorem dX1_put_11 : decode cX1_put 11 = .ok (.istore_n 3, 1) := by decide +kernel
theorem dX1_put_12 : decode cX1_put 12 = .ok (.iload_n 3, 1) := by decide +kernel
theorem dX1_put_13 : decode cX1_put 13 = .ok (.ifCond .le 43, 3) := by decide +kernel
theorem dX1_put_16 : decode cX1_put 16 = .ok (.aload_n 0, 1) := by decide +kernel
theorem dX1_put_17 : decode cX1_put 17 = .ok (.getfield 9, 3) := by decide +kernel
theorem dX1_put_20 : decode cX1_put 20 = .ok (.iload_n 3, 1) := by decide +kernel
theorem dX1_put_21 : decode cX1_put 21 = .ok (.iconst 1, 1) := by decide +kernel
theorem dX1_put_22 : decode cX1_put 22 = .ok (.isub, 1) := by decide +kernel
theorem dX1_put_23 : decode cX1_put 23 = .ok (.iconst 2, 1) := by decide +kernel
theorem dX1_put_24 : decode cX1_put 24 = .ok (.idiv, 1) := by decide +kernel
theorem dX1_put_25 : decode cX1_put 25 = .ok (.laload, 1) := by decide +kernel
theorem dX1_put_26 : decode cX1_put 26 = .ok (.lload_n 1, 1) := by decide +kernel
theorem dX1_put_27 : decode cX1_put 27 = .ok (.lcmp, 1) := by decide +kernel
theorem dX1_put_28 : decode cX1_put 28 = .ok (.ifCond .le 28, 3) := by decide +kernel
theorem dX1_put_31 : decode cX1_put 31 = .ok (.aload_n 0, 1) := by decide +kernel
theorem dX1_put_32 : decode cX1_put 32 = .ok (.getfield 9, 3) := by decide +kernel
theorem dX1_put_35 : decode cX1_put 35 = .ok (.iload_n 3, 1) := by decide +kernel
theorem dX1_put_36 : decode cX1_put 36 = .ok (.aload_n 0, 1) := by decide +kernel
theorem dX1_put_37 : decode cX1_put 37 = .ok (.getfield 9, 3) := by decide +kernel
theorem dX1_put_40 : decode cX1_put 40 = .ok (.iload_n 3, 1) := by decide +kernel
theorem dX1_put_41 : decode cX1_put 41 = .ok (.iconst 1, 1) := by decide +kernel
theorem dX1_put_42 : decode cX1_put 42 = .ok (.isub, 1) := by decide +kernel
theorem dX1_put_43 : decode cX1_put 43 = .ok (.iconst 2, 1) := by decide +kernel
theorem dX1_put_44 : decode cX1_put 44 = .ok (.idiv, 1) := by decide +kernel
theorem dX1_put_45 : decode cX1_put 45 = .ok (.laload, 1) := by decide +kernel
theorem dX1_put_46 : decode cX1_put 46 = .ok (.lastore, 1) := by decide +kernel
theorem dX1_put_47 : decode cX1_put 47 = .ok (.iload_n 3, 1) := by decide +kernel
theorem dX1_put_48 : decode cX1_put 48 = .ok (.iconst 1, 1) := by decide +kernel
theorem dX1_put_49 : decode cX1_put 49 = .ok (.isub, 1) := by decide +kernel
theorem dX1_put_50 : decode cX1_put 50 = .ok (.iconst 2, 1) := by decide +kernel
theorem dX1_put_51 : decode cX1_put 51 = .ok (.idiv, 1) := by decide +kernel
theorem dX1_put_52 : decode cX1_put 52 = .ok (.istore_n 3, 1) := by decide +kernel
theorem dX1_put_53 : decode cX1_put 53 = .ok (.goto (-41), 3) := by decide +kernel
theorem dX1_put_56 : decode cX1_put 56 = .ok (.aload_n 0, 1) := by decide +kernel
theorem dX1_put_57 : decode cX1_put 57 = .ok (.getfield 9, 3) := by decide +kernel
theorem dX1_put_60 : decode cX1_put 60 = .ok (.iload_n 3, 1) := by decide +kernel
theorem dX1_put_61 : decode cX1_put 61 = .ok (.lload_n 1, 1) := by decide +kernel
theorem dX1_put_62 : decode cX1_put 62 = .ok (.lastore, 1) := by decide +kernel
theorem dX1_put_63 : decode cX1_put 63 = .ok (.return_, 1) := by decide +kernel
abbrev cX1_take : ByteArray := prog_2_method_4_code
def yX1_take : MethodName := ⟨RX1, "take", "()J"⟩
theorem dX1_take_0 : decode cX1_take 0 = .ok (.aload_n 0, 1) := by decide +kernel
theorem dX1_take_1 : decode cX1_take 1 = .ok (.getfield 9, 3) := by decide +kernel
theorem dX1_take_4 : decode cX1_take 4 = .ok (.iconst 0, 1) := by decide +kernel
theorem dX1_take_5 : decode cX1_take 5 = .ok (.laload, 1) := by decide +kernel
theorem dX1_take_6 : decode cX1_take 6 = .ok (.lstore_n 1, 1) := by decide +kernel
theorem dX1_take_7 : decode cX1_take 7 = .ok (.aload_n 0, 1) := by decide +kernel
theorem dX1_take_8 : decode cX1_take 8 = .ok (.getfield 9, 3) := by decide +kernel
theorem dX1_take_11 : decode cX1_take 11 = .ok (.aload_n 0, 1) := by decide +kernel
theorem dX1_take_12 : decode cX1_take 12 = .ok (.dup, 1) := by decide +kernel
theorem dX1_take_13 : decode cX1_take 13 = .ok (.getfield 15, 3) := by decide +kernel
theorem dX1_take_16 : decode cX1_take 16 = .ok (.iconst 1, 1) := by decide +kernel
theorem dX1_take_17 : decode cX1_take 17 = .ok (.isub, 1) := by decide +kernel
theorem dX1_take_18 : decode cX1_take 18 = .ok (.dup_x1, 1) := by decide +kernel
theorem dX1_take_19 : decode cX1_take 19 = .ok (.putfield 15, 3) := by decide +kernel
theorem dX1_take_22 : decode cX1_take 22 = .ok (.laload, 1) := by decide +kernel
theorem dX1_take_23 : decode cX1_take 23 = .ok (.lstore_n 3, 1) := by decide +kernel
theorem dX1_take_24 : decode cX1_take 24 = .ok (.iconst 0, 1) := by decide +kernel
theorem dX1_take_25 : decode cX1_take 25 = .ok (.istore 5, 2) := by decide +kernel
theorem dX1_take_27 : decode cX1_take 27 = .ok (.iconst 2, 1) := by decide +kernel
theorem dX1_take_28 : decode cX1_take 28 = .ok (.iload 5, 2) := by decide +kernel
theorem dX1_take_30 : decode cX1_take 30 = .ok (.imul, 1) := by decide +kernel
theorem dX1_take_31 : decode cX1_take 31 = .ok (.iconst 1, 1) := by decide +kernel
theorem dX1_take_32 : decode cX1_take 32 = .ok (.iadd, 1) := by decide +kernel
theorem dX1_take_33 : decode cX1_take 33 = .ok (.aload_n 0, 1) := by decide +kernel
theorem dX1_take_34 : decode cX1_take 34 = .ok (.getfield 15, 3) := by decide +kernel
theorem dX1_take_37 : decode cX1_take 37 = .ok (.if_icmp .ge 81, 3) := by decide +kernel
theorem dX1_take_40 : decode cX1_take 40 = .ok (.iconst 2, 1) := by decide +kernel
theorem dX1_take_41 : decode cX1_take 41 = .ok (.iload 5, 2) := by decide +kernel
theorem dX1_take_43 : decode cX1_take 43 = .ok (.imul, 1) := by decide +kernel
theorem dX1_take_44 : decode cX1_take 44 = .ok (.iconst 1, 1) := by decide +kernel
theorem dX1_take_45 : decode cX1_take 45 = .ok (.iadd, 1) := by decide +kernel
theorem dX1_take_46 : decode cX1_take 46 = .ok (.istore 6, 2) := by decide +kernel
theorem dX1_take_48 : decode cX1_take 48 = .ok (.iload 6, 2) := by decide +kernel
theorem dX1_take_50 : decode cX1_take 50 = .ok (.iconst 1, 1) := by decide +kernel
theorem dX1_take_51 : decode cX1_take 51 = .ok (.iadd, 1) := by decide +kernel
theorem dX1_take_52 : decode cX1_take 52 = .ok (.aload_n 0, 1) := by decide +kernel
theorem dX1_take_53 : decode cX1_take 53 = .ok (.getfield 15, 3) := by decide +kernel
theorem dX1_take_56 : decode cX1_take 56 = .ok (.if_icmp .ge 26, 3) := by decide +kernel
theorem dX1_take_59 : decode cX1_take 59 = .ok (.aload_n 0, 1) := by decide +kernel
theorem dX1_take_60 : decode cX1_take 60 = .ok (.getfield 9, 3) := by decide +kernel
theorem dX1_take_63 : decode cX1_take 63 = .ok (.iload 6, 2) := by decide +kernel
theorem dX1_take_65 : decode cX1_take 65 = .ok (.iconst 1, 1) := by decide +kernel
theorem dX1_take_66 : decode cX1_take 66 = .ok (.iadd, 1) := by decide +kernel
theorem dX1_take_67 : decode cX1_take 67 = .ok (.laload, 1) := by decide +kernel
theorem dX1_take_68 : decode cX1_take 68 = .ok (.aload_n 0, 1) := by decide +kernel
theorem dX1_take_69 : decode cX1_take 69 = .ok (.getfield 9, 3) := by decide +kernel
theorem dX1_take_72 : decode cX1_take 72 = .ok (.iload 6, 2) := by decide +kernel
theorem dX1_take_74 : decode cX1_take 74 = .ok (.laload, 1) := by decide +kernel
theorem dX1_take_75 : decode cX1_take 75 = .ok (.lcmp, 1) := by decide +kernel
theorem dX1_take_76 : decode cX1_take 76 = .ok (.ifCond .ge 6, 3) := by decide +kernel
theorem dX1_take_79 : decode cX1_take 79 = .ok (.iinc 6 1, 3) := by decide +kernel
theorem dX1_take_82 : decode cX1_take 82 = .ok (.aload_n 0, 1) := by decide +kernel
theorem dX1_take_83 : decode cX1_take 83 = .ok (.getfield 9, 3) := by decide +kernel
theorem dX1_take_86 : decode cX1_take 86 = .ok (.iload 6, 2) := by decide +kernel
theorem dX1_take_88 : decode cX1_take 88 = .ok (.laload, 1) := by decide +kernel
theorem dX1_take_89 : decode cX1_take 89 = .ok (.lload_n 3, 1) := by decide +kernel
theorem dX1_take_90 : decode cX1_take 90 = .ok (.lcmp, 1) := by decide +kernel
theorem dX1_take_91 : decode cX1_take 91 = .ok (.ifCond .lt 6, 3) := by decide +kernel
theorem dX1_take_94 : decode cX1_take 94 = .ok (.goto 24, 3) := by decide +kernel
theorem dX1_take_97 : decode cX1_take 97 = .ok (.aload_n 0, 1) := by decide +kernel
theorem dX1_take_98 : decode cX1_take 98 = .ok (.getfield 9, 3) := by decide +kernel
theorem dX1_take_101 : decode cX1_take 101 = .ok (.iload 5, 2) := by decide +kernel
theorem dX1_take_103 : decode cX1_take 103 = .ok (.aload_n 0, 1) := by decide +kernel
theorem dX1_take_104 : decode cX1_take 104 = .ok (.getfield 9, 3) := by decide +kernel
theorem dX1_take_107 : decode cX1_take 107 = .ok (.iload 6, 2) := by decide +kernel
theorem dX1_take_109 : decode cX1_take 109 = .ok (.laload, 1) := by decide +kernel
theorem dX1_take_110 : decode cX1_take 110 = .ok (.lastore, 1) := by decide +kernel
theorem dX1_take_111 : decode cX1_take 111 = .ok (.iload 6, 2) := by decide +kernel
theorem dX1_take_113 : decode cX1_take 113 = .ok (.istore 5, 2) := by decide +kernel
theorem dX1_take_115 : decode cX1_take 115 = .ok (.goto (-88), 3) := by decide +kernel
theorem dX1_take_118 : decode cX1_take 118 = .ok (.aload_n 0, 1) := by decide +kernel
theorem dX1_take_119 : decode cX1_take 119 = .ok (.getfield 9, 3) := by decide +kernel
theorem dX1_take_122 : decode cX1_take 122 = .ok (.iload 5, 2) := by decide +kernel
theorem dX1_take_124 : decode cX1_take 124 = .ok (.lload_n 3, 1) := by decide +kernel
theorem dX1_take_125 : decode cX1_take 125 = .ok (.lastore, 1) := by decide +kernel
theorem dX1_take_126 : decode cX1_take 126 = .ok (.lload_n 1, 1) := by decide +kernel
theorem dX1_take_127 : decode cX1_take 127 = .ok (.lreturn, 1) := by decide +kernel
theorem q4 : (Jvm.Cond.initialized "MergeDesk$Least") ∈ lw_all := lw_g (lw_at lw_m0 2 rfl) rfl
theorem q15 : (Jvm.Cond.instantiable "MergeDesk$Least" (2 : Nat)) ∈ lw_all := lw_g (lw_at lw_m0 13 rfl) rfl
theorem q17 : (Jvm.Cond.instanceMethod ({ cls := "MergeDesk$Least", name := "<init>", desc := "()V" } : Jvm.MethodName)) ∈ lw_all := lw_g (lw_at lw_m0 15 rfl) rfl
theorem q18 : (Jvm.Cond.code ({ cls := "MergeDesk$Least", name := "<init>", desc := "()V" } : Jvm.MethodName) prog_2_method_1_code (1 : Nat) (Option.none : Option Jvm.ClassFile.FieldType)) ∈ lw_all := lw_g (lw_at lw_m0 16 rfl) rfl
theorem q19 : (Jvm.Cond.methodLink "MergeDesk$Least" (3 : Nat) ({ cls := "java/lang/Object", name := "<init>", desc := "()V" } : Jvm.MethodName)) ∈ lw_all := lw_g (lw_at lw_m0 17 rfl) rfl
theorem q20 : (Jvm.Cond.fieldLink "MergeDesk$Least" (9 : Nat) "MergeDesk$Least" "row" "[J") ∈ lw_all := lw_g (lw_at lw_m0 18 rfl) rfl
theorem q21 : (Jvm.Cond.fieldLink "MergeDesk$Least" (15 : Nat) "MergeDesk$Least" "many" "I") ∈ lw_all := lw_g (lw_at lw_m0 19 rfl) rfl
theorem q22 : (Jvm.Cond.laysFinal "MergeDesk$Least" "MergeDesk$Least" "row" "[J") ∈ lw_all := lw_g (lw_at lw_m0 20 rfl) rfl
theorem q23 : (Jvm.Cond.soleField "MergeDesk$Least" "row") ∈ lw_all := lw_g (lw_at lw_m0 21 rfl) rfl
theorem q24 : (Jvm.Cond.lays "MergeDesk$Least" "MergeDesk$Least" "many" "I") ∈ lw_all := lw_g (lw_at lw_m0 22 rfl) rfl
theorem q25 : (Jvm.Cond.soleField "MergeDesk$Least" "many") ∈ lw_all := lw_g (lw_at lw_m0 23 rfl) rfl
theorem q26 : (Jvm.Cond.superclass "MergeDesk$Least" "java/lang/Object") ∈ lw_all := lw_g (lw_at lw_m0 24 rfl) rfl
theorem q60 : (Jvm.Cond.instanceMethod ({ cls := "MergeDesk$Least", name := "clear", desc := "()V" } : Jvm.MethodName)) ∈ lw_all := lw_g (lw_at lw_m0 58 rfl) rfl
theorem q61 : (Jvm.Cond.selects "MergeDesk$Least" ({ cls := "MergeDesk$Least", name := "clear", desc := "()V" } : Jvm.MethodName) ({ cls := "MergeDesk$Least", name := "clear", desc := "()V" } : Jvm.MethodName)) ∈ lw_all := lw_g (lw_at lw_m0 59 rfl) rfl
theorem q62 : (Jvm.Cond.code ({ cls := "MergeDesk$Least", name := "clear", desc := "()V" } : Jvm.MethodName) prog_2_method_2_code (1 : Nat) (Option.none : Option Jvm.ClassFile.FieldType)) ∈ lw_all := lw_g (lw_at lw_m0 60 rfl) rfl
theorem q64 : (Jvm.Cond.instanceMethod ({ cls := "MergeDesk$Least", name := "put", desc := "(J)V" } : Jvm.MethodName)) ∈ lw_all := lw_g (lw_at lw_m0 62 rfl) rfl
theorem q65 : (Jvm.Cond.selects "MergeDesk$Least" ({ cls := "MergeDesk$Least", name := "put", desc := "(J)V" } : Jvm.MethodName) ({ cls := "MergeDesk$Least", name := "put", desc := "(J)V" } : Jvm.MethodName)) ∈ lw_all := lw_g (lw_at lw_m0 63 rfl) rfl
theorem q66 : (Jvm.Cond.code ({ cls := "MergeDesk$Least", name := "put", desc := "(J)V" } : Jvm.MethodName) prog_2_method_3_code (4 : Nat) (Option.none : Option Jvm.ClassFile.FieldType)) ∈ lw_all := lw_g (lw_at lw_m0 64 rfl) rfl
theorem q68 : (Jvm.Cond.instanceMethod ({ cls := "MergeDesk$Least", name := "take", desc := "()J" } : Jvm.MethodName)) ∈ lw_all := lw_g (lw_at lw_m0 66 rfl) rfl
theorem q69 : (Jvm.Cond.selects "MergeDesk$Least" ({ cls := "MergeDesk$Least", name := "take", desc := "()J" } : Jvm.MethodName) ({ cls := "MergeDesk$Least", name := "take", desc := "()J" } : Jvm.MethodName)) ∈ lw_all := lw_g (lw_at lw_m0 67 rfl) rfl
theorem q70 : (Jvm.Cond.code ({ cls := "MergeDesk$Least", name := "take", desc := "()J" } : Jvm.MethodName) prog_2_method_4_code (7 : Nat) (Option.some Jvm.ClassFile.FieldType.long)) ∈ lw_all := lw_g (lw_at lw_m0 68 rfl) rfl
theorem in_X1 : ∀ w ∈ wsX10, w ∈ lw_all := lw_in wsX10 [22, 24] (by decide +kernel) (by decide +kernel)
end
section
/-! MergeDesk -/
set_option maxRecDepth 100000
def RX0 : String := "MergeDesk"
def TX0 : u_T := fun k => match k with
  | 0 => ("MergeDesk", "stones", "[I", true)
  | 1 => ("MergeDesk", "least", "LMergeDesk$Least;", true)
  | 2 => ("MergeDesk", "row", "[J", true)
  | _ => ("MergeDesk", "heaps", "I", false)
def tyX0 : Nat → FieldType := fun k => match k with
  | 0 => .array .int
  | 1 => .object "MergeDesk$Least"
  | 2 => .array .long
  | _ => .int
abbrev wsX00 : List Cond := u_ws RX0 TX0 4
theorem nmX0 : ∀ a, a < 4 → ∀ b, b < 4 → a ≠ b → (TX0 a).2.1 ≠ (TX0 b).2.1 := by decide +kernel
theorem tyX0_ok : ∀ k, k < 4 → parseFieldDescriptor (TX0 k).2.2.1 = some (tyX0 k) := by decide +kernel
abbrev cX0_init : ByteArray := prog_1_method_1_code
def yX0_init : MethodName := ⟨RX0, "<init>", "()V"⟩
theorem dX0_init_0 : decode cX0_init 0 = .ok (.aload_n 0, 1) := by decide +kernel
theorem dX0_init_1 : decode cX0_init 1 = .ok (.invokespecial 1, 3) := by decide +kernel
theorem dX0_init_4 : decode cX0_init 4 = .ok (.aload_n 0, 1) := by decide +kernel
theorem dX0_init_5 : decode cX0_init 5 = .ok (.bipush 8, 2) := by decide +kernel
theorem dX0_init_7 : decode cX0_init 7 = .ok (.newarray .int, 2) := by decide +kernel
theorem dX0_init_9 : decode cX0_init 9 = .ok (.putfield 9, 3) := by decide +kernel
theorem dX0_init_12 : decode cX0_init 12 = .ok (.aload_n 0, 1) := by decide +kernel
theorem dX0_init_13 : decode cX0_init 13 = .ok (.new 13, 3) := by decide +kernel
theorem dX0_init_16 : decode cX0_init 16 = .ok (.dup, 1) := by decide +kernel
theorem dX0_init_17 : decode cX0_init 17 = .ok (.invokespecial 15, 3) := by decide +kernel
theorem dX0_init_20 : decode cX0_init 20 = .ok (.putfield 16, 3) := by decide +kernel
theorem dX0_init_23 : decode cX0_init 23 = .ok (.aload_n 0, 1) := by decide +kernel
theorem dX0_init_24 : decode cX0_init 24 = .ok (.bipush 8, 2) := by decide +kernel
theorem dX0_init_26 : decode cX0_init 26 = .ok (.newarray .long, 2) := by decide +kernel
theorem dX0_init_28 : decode cX0_init 28 = .ok (.putfield 20, 3) := by decide +kernel
theorem dX0_init_31 : decode cX0_init 31 = .ok (.return_, 1) := by decide +kernel
abbrev cX0_put : ByteArray := prog_1_method_2_code
def yX0_put : MethodName := ⟨RX0, "put", "(I)Z"⟩
theorem dX0_put_0 : decode cX0_put 0 = .ok (.aload_n 0, 1) := by decide +kernel
theorem dX0_put_1 : decode cX0_put 1 = .ok (.getfield 24, 3) := by decide +kernel
theorem dX0_put_4 : decode cX0_put 4 = .ok (.bipush 8, 2) := by decide +kernel
theorem dX0_put_6 : decode cX0_put 6 = .ok (.if_icmp .ne 5, 3) := by decide +kernel
theorem dX0_put_9 : decode cX0_put 9 = .ok (.iconst 0, 1) := by decide +kernel
theorem dX0_put_10 : decode cX0_put 10 = .ok (.ireturn, 1) := by decide +kernel
theorem dX0_put_11 : decode cX0_put 11 = .ok (.aload_n 0, 1) := by decide +kernel
theorem dX0_put_12 : decode cX0_put 12 = .ok (.getfield 9, 3) := by decide +kernel
theorem dX0_put_15 : decode cX0_put 15 = .ok (.aload_n 0, 1) := by decide +kernel
theorem dX0_put_16 : decode cX0_put 16 = .ok (.dup, 1) := by decide +kernel
theorem dX0_put_17 : decode cX0_put 17 = .ok (.getfield 24, 3) := by decide +kernel
theorem dX0_put_20 : decode cX0_put 20 = .ok (.dup_x1, 1) := by decide +kernel
theorem dX0_put_21 : decode cX0_put 21 = .ok (.iconst 1, 1) := by decide +kernel
theorem dX0_put_22 : decode cX0_put 22 = .ok (.iadd, 1) := by decide +kernel
theorem dX0_put_23 : decode cX0_put 23 = .ok (.putfield 24, 3) := by decide +kernel
theorem dX0_put_26 : decode cX0_put 26 = .ok (.iload_n 1, 1) := by decide +kernel
theorem dX0_put_27 : decode cX0_put 27 = .ok (.ldc 28, 2) := by decide +kernel
theorem dX0_put_29 : decode cX0_put 29 = .ok (.iand, 1) := by decide +kernel
theorem dX0_put_30 : decode cX0_put 30 = .ok (.iastore, 1) := by decide +kernel
theorem dX0_put_31 : decode cX0_put 31 = .ok (.iconst 1, 1) := by decide +kernel
theorem dX0_put_32 : decode cX0_put 32 = .ok (.ireturn, 1) := by decide +kernel
abbrev cX0_drop : ByteArray := prog_1_method_3_code
def yX0_drop : MethodName := ⟨RX0, "drop", "()Z"⟩
theorem dX0_drop_0 : decode cX0_drop 0 = .ok (.aload_n 0, 1) := by decide +kernel
theorem dX0_drop_1 : decode cX0_drop 1 = .ok (.getfield 24, 3) := by decide +kernel
theorem dX0_drop_4 : decode cX0_drop 4 = .ok (.ifCond .ne 5, 3) := by decide +kernel
theorem dX0_drop_7 : decode cX0_drop 7 = .ok (.iconst 0, 1) := by decide +kernel
theorem dX0_drop_8 : decode cX0_drop 8 = .ok (.ireturn, 1) := by decide +kernel
theorem dX0_drop_9 : decode cX0_drop 9 = .ok (.aload_n 0, 1) := by decide +kernel
theorem dX0_drop_10 : decode cX0_drop 10 = .ok (.dup, 1) := by decide +kernel
theorem dX0_drop_11 : decode cX0_drop 11 = .ok (.getfield 24, 3) := by decide +kernel
theorem dX0_drop_14 : decode cX0_drop 14 = .ok (.iconst 1, 1) := by decide +kernel
theorem dX0_drop_15 : decode cX0_drop 15 = .ok (.isub, 1) := by decide +kernel
theorem dX0_drop_16 : decode cX0_drop 16 = .ok (.putfield 24, 3) := by decide +kernel
theorem dX0_drop_19 : decode cX0_drop 19 = .ok (.iconst 1, 1) := by decide +kernel
theorem dX0_drop_20 : decode cX0_drop 20 = .ok (.ireturn, 1) := by decide +kernel
abbrev cX0_any : ByteArray := prog_1_method_5_code
def yX0_any : MethodName := ⟨RX0, "any", "()J"⟩
theorem dX0_any_0 : decode cX0_any 0 = .ok (.aload_n 0, 1) := by decide +kernel
theorem dX0_any_1 : decode cX0_any 1 = .ok (.iconst 2, 1) := by decide +kernel
theorem dX0_any_2 : decode cX0_any 2 = .ok (.invokevirtual 40, 3) := by decide +kernel
theorem dX0_any_5 : decode cX0_any 5 = .ok (.lreturn, 1) := by decide +kernel
abbrev cX0_joined : ByteArray := prog_1_method_4_code
def yX0_joined : MethodName := ⟨RX0, "joined", "(I)J"⟩
theorem dX0_joined_0 : decode cX0_joined 0 = .ok (.aload_n 0, 1) := by decide +kernel
theorem dX0_joined_1 : decode cX0_joined 1 = .ok (.getfield 16, 3) := by decide +kernel
theorem dX0_joined_4 : decode cX0_joined 4 = .ok (.invokevirtual 29, 3) := by decide +kernel
theorem dX0_joined_7 : decode cX0_joined 7 = .ok (.iconst 0, 1) := by decide +kernel
theorem dX0_joined_8 : decode cX0_joined 8 = .ok (.istore_n 2, 1) := by decide +kernel
theorem dX0_joined_9 : decode cX0_joined 9 = .ok (.iload_n 2, 1) := by decide +kernel
theorem dX0_joined_10 : decode cX0_joined 10 = .ok (.aload_n 0, 1) := by decide +kernel
theorem dX0_joined_11 : decode cX0_joined 11 = .ok (.getfield 24, 3) := by decide +kernel
theorem dX0_joined_14 : decode cX0_joined 14 = .ok (.if_icmp .ge 23, 3) := by decide +kernel
theorem dX0_joined_17 : decode cX0_joined 17 = .ok (.aload_n 0, 1) := by decide +kernel
theorem dX0_joined_18 : decode cX0_joined 18 = .ok (.getfield 16, 3) := by decide +kernel
theorem dX0_joined_21 : decode cX0_joined 21 = .ok (.aload_n 0, 1) := by decide +kernel
theorem dX0_joined_22 : decode cX0_joined 22 = .ok (.getfield 9, 3) := by decide +kernel
theorem dX0_joined_25 : decode cX0_joined 25 = .ok (.iload_n 2, 1) := by decide +kernel
theorem dX0_joined_26 : decode cX0_joined 26 = .ok (.iaload, 1) := by decide +kernel
theorem dX0_joined_27 : decode cX0_joined 27 = .ok (.i2l, 1) := by decide +kernel
theorem dX0_joined_28 : decode cX0_joined 28 = .ok (.invokevirtual 32, 3) := by decide +kernel
theorem dX0_joined_31 : decode cX0_joined 31 = .ok (.iinc 2 1, 3) := by decide +kernel
theorem dX0_joined_34 : decode cX0_joined 34 = .ok (.goto (-25), 3) := by decide +kernel
theorem dX0_joined_37 : decode cX0_joined 37 = .ok (.aload_n 0, 1) := by decide +kernel
theorem dX0_joined_38 : decode cX0_joined 38 = .ok (.getfield 24, 3) := by decide +kernel
theorem dX0_joined_41 : decode cX0_joined 41 = .ok (.istore_n 2, 1) := by decide +kernel
theorem dX0_joined_42 : decode cX0_joined 42 = .ok (.iload_n 2, 1) := by decide +kernel
theorem dX0_joined_43 : decode cX0_joined 43 = .ok (.iconst 1, 1) := by decide +kernel
theorem dX0_joined_44 : decode cX0_joined 44 = .ok (.if_icmp .le 27, 3) := by decide +kernel
theorem dX0_joined_47 : decode cX0_joined 47 = .ok (.iload_n 2, 1) := by decide +kernel
theorem dX0_joined_48 : decode cX0_joined 48 = .ok (.iconst 1, 1) := by decide +kernel
theorem dX0_joined_49 : decode cX0_joined 49 = .ok (.isub, 1) := by decide +kernel
theorem dX0_joined_50 : decode cX0_joined 50 = .ok (.iload_n 1, 1) := by decide +kernel
theorem dX0_joined_51 : decode cX0_joined 51 = .ok (.iconst 1, 1) := by decide +kernel
theorem dX0_joined_52 : decode cX0_joined 52 = .ok (.isub, 1) := by decide +kernel
theorem dX0_joined_53 : decode cX0_joined 53 = .ok (.irem, 1) := by decide +kernel
theorem dX0_joined_54 : decode cX0_joined 54 = .ok (.ifCond .eq 17, 3) := by decide +kernel
theorem dX0_joined_57 : decode cX0_joined 57 = .ok (.aload_n 0, 1) := by decide +kernel
theorem dX0_joined_58 : decode cX0_joined 58 = .ok (.getfield 16, 3) := by decide +kernel
theorem dX0_joined_61 : decode cX0_joined 61 = .ok (.lconst 0, 1) := by decide +kernel
theorem dX0_joined_62 : decode cX0_joined 62 = .ok (.invokevirtual 32, 3) := by decide +kernel
theorem dX0_joined_65 : decode cX0_joined 65 = .ok (.iinc 2 1, 3) := by decide +kernel
theorem dX0_joined_68 : decode cX0_joined 68 = .ok (.goto (-26), 3) := by decide +kernel
theorem dX0_joined_71 : decode cX0_joined 71 = .ok (.lconst 0, 1) := by decide +kernel
theorem dX0_joined_72 : decode cX0_joined 72 = .ok (.lstore_n 3, 1) := by decide +kernel
theorem dX0_joined_73 : decode cX0_joined 73 = .ok (.iload_n 2, 1) := by decide +kernel
theorem dX0_joined_74 : decode cX0_joined 74 = .ok (.iconst 1, 1) := by decide +kernel
theorem dX0_joined_75 : decode cX0_joined 75 = .ok (.if_icmp .le 56, 3) := by decide +kernel
theorem dX0_joined_78 : decode cX0_joined 78 = .ok (.lconst 0, 1) := by decide +kernel
theorem dX0_joined_79 : decode cX0_joined 79 = .ok (.lstore 5, 2) := by decide +kernel
theorem dX0_joined_81 : decode cX0_joined 81 = .ok (.iconst 0, 1) := by decide +kernel
theorem dX0_joined_82 : decode cX0_joined 82 = .ok (.istore 7, 2) := by decide +kernel
theorem dX0_joined_84 : decode cX0_joined 84 = .ok (.iload 7, 2) := by decide +kernel
theorem dX0_joined_86 : decode cX0_joined 86 = .ok (.iload_n 1, 1) := by decide +kernel
theorem dX0_joined_87 : decode cX0_joined 87 = .ok (.if_icmp .ge 21, 3) := by decide +kernel
theorem dX0_joined_90 : decode cX0_joined 90 = .ok (.lload 5, 2) := by decide +kernel
theorem dX0_joined_92 : decode cX0_joined 92 = .ok (.aload_n 0, 1) := by decide +kernel
theorem dX0_joined_93 : decode cX0_joined 93 = .ok (.getfield 16, 3) := by decide +kernel
theorem dX0_joined_96 : decode cX0_joined 96 = .ok (.invokevirtual 36, 3) := by decide +kernel
theorem dX0_joined_99 : decode cX0_joined 99 = .ok (.ladd, 1) := by decide +kernel
theorem dX0_joined_100 : decode cX0_joined 100 = .ok (.lstore 5, 2) := by decide +kernel
theorem dX0_joined_102 : decode cX0_joined 102 = .ok (.iinc 7 1, 3) := by decide +kernel
theorem dX0_joined_105 : decode cX0_joined 105 = .ok (.goto (-21), 3) := by decide +kernel
theorem dX0_joined_108 : decode cX0_joined 108 = .ok (.lload_n 3, 1) := by decide +kernel
theorem dX0_joined_109 : decode cX0_joined 109 = .ok (.lload 5, 2) := by decide +kernel
theorem dX0_joined_111 : decode cX0_joined 111 = .ok (.ladd, 1) := by decide +kernel
theorem dX0_joined_112 : decode cX0_joined 112 = .ok (.lstore_n 3, 1) := by decide +kernel
theorem dX0_joined_113 : decode cX0_joined 113 = .ok (.aload_n 0, 1) := by decide +kernel
theorem dX0_joined_114 : decode cX0_joined 114 = .ok (.getfield 16, 3) := by decide +kernel
theorem dX0_joined_117 : decode cX0_joined 117 = .ok (.lload 5, 2) := by decide +kernel
theorem dX0_joined_119 : decode cX0_joined 119 = .ok (.invokevirtual 32, 3) := by decide +kernel
theorem dX0_joined_122 : decode cX0_joined 122 = .ok (.iload_n 2, 1) := by decide +kernel
theorem dX0_joined_123 : decode cX0_joined 123 = .ok (.iload_n 1, 1) := by decide +kernel
theorem dX0_joined_124 : decode cX0_joined 124 = .ok (.iconst 1, 1) := by decide +kernel
theorem dX0_joined_125 : decode cX0_joined 125 = .ok (.isub, 1) := by decide +kernel
theorem dX0_joined_126 : decode cX0_joined 126 = .ok (.isub, 1) := by decide +kernel
theorem dX0_joined_127 : decode cX0_joined 127 = .ok (.istore_n 2, 1) := by decide +kernel
theorem dX0_joined_128 : decode cX0_joined 128 = .ok (.goto (-55), 3) := by decide +kernel
theorem dX0_joined_131 : decode cX0_joined 131 = .ok (.lload_n 3, 1) := by decide +kernel
theorem dX0_joined_132 : decode cX0_joined 132 = .ok (.lreturn, 1) := by decide +kernel
abbrev cX0_three : ByteArray := prog_1_method_6_code
def yX0_three : MethodName := ⟨RX0, "three", "()J"⟩
theorem dX0_three_0 : decode cX0_three 0 = .ok (.aload_n 0, 1) := by decide +kernel
theorem dX0_three_1 : decode cX0_three 1 = .ok (.iconst 3, 1) := by decide +kernel
theorem dX0_three_2 : decode cX0_three 2 = .ok (.invokevirtual 40, 3) := by decide +kernel
theorem dX0_three_5 : decode cX0_three 5 = .ok (.lreturn, 1) := by decide +kernel
abbrev cX0_beside : ByteArray := prog_1_method_7_code
def yX0_beside : MethodName := ⟨RX0, "beside", "()J"⟩
theorem dX0_beside_0 : decode cX0_beside 0 = .ok (.aload_n 0, 1) := by decide +kernel
theorem dX0_beside_1 : decode cX0_beside 1 = .ok (.getfield 24, 3) := by decide +kernel
theorem dX0_beside_4 : decode cX0_beside 4 = .ok (.istore_n 1, 1) := by decide +kernel
theorem dX0_beside_5 : decode cX0_beside 5 = .ok (.lconst 0, 1) := by decide +kernel
theorem dX0_beside_6 : decode cX0_beside 6 = .ok (.lstore_n 2, 1) := by decide +kernel
theorem dX0_beside_7 : decode cX0_beside 7 = .ok (.iconst 0, 1) := by decide +kernel
theorem dX0_beside_8 : decode cX0_beside 8 = .ok (.istore 4, 2) := by decide +kernel
theorem dX0_beside_10 : decode cX0_beside 10 = .ok (.iload 4, 2) := by decide +kernel
theorem dX0_beside_12 : decode cX0_beside 12 = .ok (.iload_n 1, 1) := by decide +kernel
theorem dX0_beside_13 : decode cX0_beside 13 = .ok (.if_icmp .ge 24, 3) := by decide +kernel
theorem dX0_beside_16 : decode cX0_beside 16 = .ok (.aload_n 0, 1) := by decide +kernel
theorem dX0_beside_17 : decode cX0_beside 17 = .ok (.getfield 20, 3) := by decide +kernel
theorem dX0_beside_20 : decode cX0_beside 20 = .ok (.iload 4, 2) := by decide +kernel
theorem dX0_beside_22 : decode cX0_beside 22 = .ok (.aload_n 0, 1) := by decide +kernel
theorem dX0_beside_23 : decode cX0_beside 23 = .ok (.getfield 9, 3) := by decide +kernel
theorem dX0_beside_26 : decode cX0_beside 26 = .ok (.iload 4, 2) := by decide +kernel
theorem dX0_beside_28 : decode cX0_beside 28 = .ok (.iaload, 1) := by decide +kernel
theorem dX0_beside_29 : decode cX0_beside 29 = .ok (.i2l, 1) := by decide +kernel
theorem dX0_beside_30 : decode cX0_beside 30 = .ok (.lastore, 1) := by decide +kernel
theorem dX0_beside_31 : decode cX0_beside 31 = .ok (.iinc 4 1, 3) := by decide +kernel
theorem dX0_beside_34 : decode cX0_beside 34 = .ok (.goto (-24), 3) := by decide +kernel
theorem dX0_beside_37 : decode cX0_beside 37 = .ok (.iload_n 1, 1) := by decide +kernel
theorem dX0_beside_38 : decode cX0_beside 38 = .ok (.iconst 1, 1) := by decide +kernel
theorem dX0_beside_39 : decode cX0_beside 39 = .ok (.if_icmp .le 159, 3) := by decide +kernel
theorem dX0_beside_42 : decode cX0_beside 42 = .ok (.iconst 0, 1) := by decide +kernel
theorem dX0_beside_43 : decode cX0_beside 43 = .ok (.istore 4, 2) := by decide +kernel
theorem dX0_beside_45 : decode cX0_beside 45 = .ok (.iload 4, 2) := by decide +kernel
theorem dX0_beside_47 : decode cX0_beside 47 = .ok (.iconst 2, 1) := by decide +kernel
theorem dX0_beside_48 : decode cX0_beside 48 = .ok (.iadd, 1) := by decide +kernel
theorem dX0_beside_49 : decode cX0_beside 49 = .ok (.iload_n 1, 1) := by decide +kernel
theorem dX0_beside_50 : decode cX0_beside 50 = .ok (.if_icmp .ge 29, 3) := by decide +kernel
theorem dX0_beside_53 : decode cX0_beside 53 = .ok (.aload_n 0, 1) := by decide +kernel
theorem dX0_beside_54 : decode cX0_beside 54 = .ok (.getfield 20, 3) := by decide +kernel
theorem dX0_beside_57 : decode cX0_beside 57 = .ok (.iload 4, 2) := by decide +kernel
theorem dX0_beside_59 : decode cX0_beside 59 = .ok (.laload, 1) := by decide +kernel
theorem dX0_beside_60 : decode cX0_beside 60 = .ok (.aload_n 0, 1) := by decide +kernel
theorem dX0_beside_61 : decode cX0_beside 61 = .ok (.getfield 20, 3) := by decide +kernel
theorem dX0_beside_64 : decode cX0_beside 64 = .ok (.iload 4, 2) := by decide +kernel
theorem dX0_beside_66 : decode cX0_beside 66 = .ok (.iconst 2, 1) := by decide +kernel
theorem dX0_beside_67 : decode cX0_beside 67 = .ok (.iadd, 1) := by decide +kernel
theorem dX0_beside_68 : decode cX0_beside 68 = .ok (.laload, 1) := by decide +kernel
theorem dX0_beside_69 : decode cX0_beside 69 = .ok (.lcmp, 1) := by decide +kernel
theorem dX0_beside_70 : decode cX0_beside 70 = .ok (.ifCond .le 9, 3) := by decide +kernel
theorem dX0_beside_73 : decode cX0_beside 73 = .ok (.iinc 4 1, 3) := by decide +kernel
theorem dX0_beside_76 : decode cX0_beside 76 = .ok (.goto (-31), 3) := by decide +kernel
theorem dX0_beside_79 : decode cX0_beside 79 = .ok (.aload_n 0, 1) := by decide +kernel
theorem dX0_beside_80 : decode cX0_beside 80 = .ok (.getfield 20, 3) := by decide +kernel
theorem dX0_beside_83 : decode cX0_beside 83 = .ok (.iload 4, 2) := by decide +kernel
theorem dX0_beside_85 : decode cX0_beside 85 = .ok (.laload, 1) := by decide +kernel
theorem dX0_beside_86 : decode cX0_beside 86 = .ok (.aload_n 0, 1) := by decide +kernel
theorem dX0_beside_87 : decode cX0_beside 87 = .ok (.getfield 20, 3) := by decide +kernel
theorem dX0_beside_90 : decode cX0_beside 90 = .ok (.iload 4, 2) := by decide +kernel
theorem dX0_beside_92 : decode cX0_beside 92 = .ok (.iconst 1, 1) := by decide +kernel
theorem dX0_beside_93 : decode cX0_beside 93 = .ok (.iadd, 1) := by decide +kernel
theorem dX0_beside_94 : decode cX0_beside 94 = .ok (.laload, 1) := by decide +kernel
theorem dX0_beside_95 : decode cX0_beside 95 = .ok (.ladd, 1) := by decide +kernel
theorem dX0_beside_96 : decode cX0_beside 96 = .ok (.lstore 5, 2) := by decide +kernel
theorem dX0_beside_98 : decode cX0_beside 98 = .ok (.lload_n 2, 1) := by decide +kernel
theorem dX0_beside_99 : decode cX0_beside 99 = .ok (.lload 5, 2) := by decide +kernel
theorem dX0_beside_101 : decode cX0_beside 101 = .ok (.ladd, 1) := by decide +kernel
theorem dX0_beside_102 : decode cX0_beside 102 = .ok (.lstore_n 2, 1) := by decide +kernel
theorem dX0_beside_103 : decode cX0_beside 103 = .ok (.iinc 1 (-1), 3) := by decide +kernel
theorem dX0_beside_106 : decode cX0_beside 106 = .ok (.iload 4, 2) := by decide +kernel
theorem dX0_beside_108 : decode cX0_beside 108 = .ok (.iconst 1, 1) := by decide +kernel
theorem dX0_beside_109 : decode cX0_beside 109 = .ok (.iadd, 1) := by decide +kernel
theorem dX0_beside_110 : decode cX0_beside 110 = .ok (.istore 7, 2) := by decide +kernel
theorem dX0_beside_112 : decode cX0_beside 112 = .ok (.iload 7, 2) := by decide +kernel
theorem dX0_beside_114 : decode cX0_beside 114 = .ok (.iload_n 1, 1) := by decide +kernel
theorem dX0_beside_115 : decode cX0_beside 115 = .ok (.if_icmp .ge 25, 3) := by decide +kernel
theorem dX0_beside_118 : decode cX0_beside 118 = .ok (.aload_n 0, 1) := by decide +kernel
theorem dX0_beside_119 : decode cX0_beside 119 = .ok (.getfield 20, 3) := by decide +kernel
theorem dX0_beside_122 : decode cX0_beside 122 = .ok (.iload 7, 2) := by decide +kernel
theorem dX0_beside_124 : decode cX0_beside 124 = .ok (.aload_n 0, 1) := by decide +kernel
theorem dX0_beside_125 : decode cX0_beside 125 = .ok (.getfield 20, 3) := by decide +kernel
theorem dX0_beside_128 : decode cX0_beside 128 = .ok (.iload 7, 2) := by decide +kernel
theorem dX0_beside_130 : decode cX0_beside 130 = .ok (.iconst 1, 1) := by decide +kernel
theorem dX0_beside_131 : decode cX0_beside 131 = .ok (.iadd, 1) := by decide +kernel
theorem dX0_beside_132 : decode cX0_beside 132 = .ok (.laload, 1) := by decide +kernel
theorem dX0_beside_133 : decode cX0_beside 133 = .ok (.lastore, 1) := by decide +kernel
theorem dX0_beside_134 : decode cX0_beside 134 = .ok (.iinc 7 1, 3) := by decide +kernel
theorem dX0_beside_137 : decode cX0_beside 137 = .ok (.goto (-25), 3) := by decide +kernel
theorem dX0_beside_140 : decode cX0_beside 140 = .ok (.iload 4, 2) := by decide +kernel
theorem dX0_beside_142 : decode cX0_beside 142 = .ok (.istore 7, 2) := by decide +kernel
theorem dX0_beside_144 : decode cX0_beside 144 = .ok (.iload 7, 2) := by decide +kernel
theorem dX0_beside_146 : decode cX0_beside 146 = .ok (.ifCond .le 40, 3) := by decide +kernel
theorem dX0_beside_149 : decode cX0_beside 149 = .ok (.aload_n 0, 1) := by decide +kernel
theorem dX0_beside_150 : decode cX0_beside 150 = .ok (.getfield 20, 3) := by decide +kernel
theorem dX0_beside_153 : decode cX0_beside 153 = .ok (.iload 7, 2) := by decide +kernel
theorem dX0_beside_155 : decode cX0_beside 155 = .ok (.iconst 1, 1) := by decide +kernel
theorem dX0_beside_156 : decode cX0_beside 156 = .ok (.isub, 1) := by decide +kernel
theorem dX0_beside_157 : decode cX0_beside 157 = .ok (.laload, 1) := by decide +kernel
theorem dX0_beside_158 : decode cX0_beside 158 = .ok (.lload 5, 2) := by decide +kernel
theorem dX0_beside_160 : decode cX0_beside 160 = .ok (.lcmp, 1) := by decide +kernel
theorem dX0_beside_161 : decode cX0_beside 161 = .ok (.ifCond .ge 25, 3) := by decide +kernel
theorem dX0_beside_164 : decode cX0_beside 164 = .ok (.aload_n 0, 1) := by decide +kernel
theorem dX0_beside_165 : decode cX0_beside 165 = .ok (.getfield 20, 3) := by decide +kernel
theorem dX0_beside_168 : decode cX0_beside 168 = .ok (.iload 7, 2) := by decide +kernel
theorem dX0_beside_170 : decode cX0_beside 170 = .ok (.aload_n 0, 1) := by decide +kernel
theorem dX0_beside_171 : decode cX0_beside 171 = .ok (.getfield 20, 3) := by decide +kernel
theorem dX0_beside_174 : decode cX0_beside 174 = .ok (.iload 7, 2) := by decide +kernel
theorem dX0_beside_176 : decode cX0_beside 176 = .ok (.iconst 1, 1) := by decide +kernel
theorem dX0_beside_177 : decode cX0_beside 177 = .ok (.isub, 1) := by decide +kernel
theorem dX0_beside_178 : decode cX0_beside 178 = .ok (.laload, 1) := by decide +kernel
theorem dX0_beside_179 : decode cX0_beside 179 = .ok (.lastore, 1) := by decide +kernel
theorem dX0_beside_180 : decode cX0_beside 180 = .ok (.iinc 7 (-1), 3) := by decide +kernel
theorem dX0_beside_183 : decode cX0_beside 183 = .ok (.goto (-39), 3) := by decide +kernel
theorem dX0_beside_186 : decode cX0_beside 186 = .ok (.aload_n 0, 1) := by decide +kernel
theorem dX0_beside_187 : decode cX0_beside 187 = .ok (.getfield 20, 3) := by decide +kernel
theorem dX0_beside_190 : decode cX0_beside 190 = .ok (.iload 7, 2) := by decide +kernel
theorem dX0_beside_192 : decode cX0_beside 192 = .ok (.lload 5, 2) := by decide +kernel
theorem dX0_beside_194 : decode cX0_beside 194 = .ok (.lastore, 1) := by decide +kernel
theorem dX0_beside_195 : decode cX0_beside 195 = .ok (.goto (-158), 3) := by decide +kernel
theorem dX0_beside_198 : decode cX0_beside 198 = .ok (.lload_n 2, 1) := by decide +kernel
theorem dX0_beside_199 : decode cX0_beside 199 = .ok (.lreturn, 1) := by decide +kernel
abbrev cX0_heaps : ByteArray := prog_1_method_8_code
def yX0_heaps : MethodName := ⟨RX0, "heaps", "()I"⟩
theorem dX0_heaps_0 : decode cX0_heaps 0 = .ok (.aload_n 0, 1) := by decide +kernel
theorem dX0_heaps_1 : decode cX0_heaps 1 = .ok (.getfield 24, 3) := by decide +kernel
theorem dX0_heaps_4 : decode cX0_heaps 4 = .ok (.ireturn, 1) := by decide +kernel
theorem q3 : (Jvm.Cond.initialized "MergeDesk") ∈ lw_all := lw_g (lw_at lw_m0 1 rfl) rfl
theorem q7 : (Jvm.Cond.instantiable "MergeDesk" (4 : Nat)) ∈ lw_all := lw_g (lw_at lw_m0 5 rfl) rfl
theorem q9 : (Jvm.Cond.instanceMethod ({ cls := "MergeDesk", name := "<init>", desc := "()V" } : Jvm.MethodName)) ∈ lw_all := lw_g (lw_at lw_m0 7 rfl) rfl
theorem q10 : (Jvm.Cond.code ({ cls := "MergeDesk", name := "<init>", desc := "()V" } : Jvm.MethodName) prog_1_method_1_code (1 : Nat) (Option.none : Option Jvm.ClassFile.FieldType)) ∈ lw_all := lw_g (lw_at lw_m0 8 rfl) rfl
theorem q11 : (Jvm.Cond.methodLink "MergeDesk" (1 : Nat) ({ cls := "java/lang/Object", name := "<init>", desc := "()V" } : Jvm.MethodName)) ∈ lw_all := lw_g (lw_at lw_m0 9 rfl) rfl
theorem q14 : (Jvm.Cond.classLink "MergeDesk" (13 : Nat) "MergeDesk$Least") ∈ lw_all := lw_g (lw_at lw_m0 12 rfl) rfl
theorem q16 : (Jvm.Cond.methodLinkNest "MergeDesk" (15 : Nat) ({ cls := "MergeDesk$Least", name := "<init>", desc := "()V" } : Jvm.MethodName) "MergeDesk") ∈ lw_tbl := lw_at lw_m0 14 rfl
theorem q29 : (Jvm.Cond.fieldLink "MergeDesk" (9 : Nat) "MergeDesk" "stones" "[I") ∈ lw_all := lw_g (lw_at lw_m0 27 rfl) rfl
theorem q30 : (Jvm.Cond.fieldLink "MergeDesk" (16 : Nat) "MergeDesk" "least" "LMergeDesk$Least;") ∈ lw_all := lw_g (lw_at lw_m0 28 rfl) rfl
theorem q31 : (Jvm.Cond.fieldLink "MergeDesk" (20 : Nat) "MergeDesk" "row" "[J") ∈ lw_all := lw_g (lw_at lw_m0 29 rfl) rfl
theorem q32 : (Jvm.Cond.fieldLink "MergeDesk" (24 : Nat) "MergeDesk" "heaps" "I") ∈ lw_all := lw_g (lw_at lw_m0 30 rfl) rfl
theorem q33 : (Jvm.Cond.laysFinal "MergeDesk" "MergeDesk" "stones" "[I") ∈ lw_all := lw_g (lw_at lw_m0 31 rfl) rfl
theorem q34 : (Jvm.Cond.soleField "MergeDesk" "stones") ∈ lw_all := lw_g (lw_at lw_m0 32 rfl) rfl
theorem q35 : (Jvm.Cond.laysFinal "MergeDesk" "MergeDesk" "least" "LMergeDesk$Least;") ∈ lw_all := lw_g (lw_at lw_m0 33 rfl) rfl
theorem q36 : (Jvm.Cond.soleField "MergeDesk" "least") ∈ lw_all := lw_g (lw_at lw_m0 34 rfl) rfl
theorem q37 : (Jvm.Cond.laysFinal "MergeDesk" "MergeDesk" "row" "[J") ∈ lw_all := lw_g (lw_at lw_m0 35 rfl) rfl
theorem q38 : (Jvm.Cond.soleField "MergeDesk" "row") ∈ lw_all := lw_g (lw_at lw_m0 36 rfl) rfl
theorem q39 : (Jvm.Cond.lays "MergeDesk" "MergeDesk" "heaps" "I") ∈ lw_all := lw_g (lw_at lw_m0 37 rfl) rfl
theorem q40 : (Jvm.Cond.soleField "MergeDesk" "heaps") ∈ lw_all := lw_g (lw_at lw_m0 38 rfl) rfl
theorem q41 : (Jvm.Cond.superclass "MergeDesk" "java/lang/Object") ∈ lw_all := lw_g (lw_at lw_m0 39 rfl) rfl
theorem q43 : (Jvm.Cond.instanceMethod ({ cls := "MergeDesk", name := "put", desc := "(I)Z" } : Jvm.MethodName)) ∈ lw_all := lw_g (lw_at lw_m0 41 rfl) rfl
theorem q44 : (Jvm.Cond.selects "MergeDesk" ({ cls := "MergeDesk", name := "put", desc := "(I)Z" } : Jvm.MethodName) ({ cls := "MergeDesk", name := "put", desc := "(I)Z" } : Jvm.MethodName)) ∈ lw_all := lw_g (lw_at lw_m0 42 rfl) rfl
theorem q45 : (Jvm.Cond.code ({ cls := "MergeDesk", name := "put", desc := "(I)Z" } : Jvm.MethodName) prog_1_method_2_code (2 : Nat) (Option.some Jvm.ClassFile.FieldType.boolean)) ∈ lw_all := lw_g (lw_at lw_m0 43 rfl) rfl
theorem q46 : (Jvm.Cond.constant "MergeDesk" (28 : Nat) (65535 : Int32)) ∈ lw_all := lw_g (lw_at lw_m0 44 rfl) rfl
theorem q48 : (Jvm.Cond.instanceMethod ({ cls := "MergeDesk", name := "drop", desc := "()Z" } : Jvm.MethodName)) ∈ lw_all := lw_g (lw_at lw_m0 46 rfl) rfl
theorem q49 : (Jvm.Cond.selects "MergeDesk" ({ cls := "MergeDesk", name := "drop", desc := "()Z" } : Jvm.MethodName) ({ cls := "MergeDesk", name := "drop", desc := "()Z" } : Jvm.MethodName)) ∈ lw_all := lw_g (lw_at lw_m0 47 rfl) rfl
theorem q50 : (Jvm.Cond.code ({ cls := "MergeDesk", name := "drop", desc := "()Z" } : Jvm.MethodName) prog_1_method_3_code (1 : Nat) (Option.some Jvm.ClassFile.FieldType.boolean)) ∈ lw_all := lw_g (lw_at lw_m0 48 rfl) rfl
theorem q52 : (Jvm.Cond.instanceMethod ({ cls := "MergeDesk", name := "any", desc := "()J" } : Jvm.MethodName)) ∈ lw_all := lw_g (lw_at lw_m0 50 rfl) rfl
theorem q53 : (Jvm.Cond.selects "MergeDesk" ({ cls := "MergeDesk", name := "any", desc := "()J" } : Jvm.MethodName) ({ cls := "MergeDesk", name := "any", desc := "()J" } : Jvm.MethodName)) ∈ lw_all := lw_g (lw_at lw_m0 51 rfl) rfl
theorem q54 : (Jvm.Cond.code ({ cls := "MergeDesk", name := "any", desc := "()J" } : Jvm.MethodName) prog_1_method_5_code (1 : Nat) (Option.some Jvm.ClassFile.FieldType.long)) ∈ lw_all := lw_g (lw_at lw_m0 52 rfl) rfl
theorem q55 : (Jvm.Cond.methodLink "MergeDesk" (40 : Nat) ({ cls := "MergeDesk", name := "joined", desc := "(I)J" } : Jvm.MethodName)) ∈ lw_all := lw_g (lw_at lw_m0 53 rfl) rfl
theorem q56 : (Jvm.Cond.privateMethod ({ cls := "MergeDesk", name := "joined", desc := "(I)J" } : Jvm.MethodName)) ∈ lw_tbl := lw_at lw_m0 54 rfl
theorem q57 : (Jvm.Cond.instanceMethod ({ cls := "MergeDesk", name := "joined", desc := "(I)J" } : Jvm.MethodName)) ∈ lw_all := lw_g (lw_at lw_m0 55 rfl) rfl
theorem q58 : (Jvm.Cond.code ({ cls := "MergeDesk", name := "joined", desc := "(I)J" } : Jvm.MethodName) prog_1_method_4_code (8 : Nat) (Option.some Jvm.ClassFile.FieldType.long)) ∈ lw_all := lw_g (lw_at lw_m0 56 rfl) rfl
theorem q59 : (Jvm.Cond.methodLink "MergeDesk" (29 : Nat) ({ cls := "MergeDesk$Least", name := "clear", desc := "()V" } : Jvm.MethodName)) ∈ lw_all := lw_g (lw_at lw_m0 57 rfl) rfl
theorem q63 : (Jvm.Cond.methodLink "MergeDesk" (32 : Nat) ({ cls := "MergeDesk$Least", name := "put", desc := "(J)V" } : Jvm.MethodName)) ∈ lw_all := lw_g (lw_at lw_m0 61 rfl) rfl
theorem q67 : (Jvm.Cond.methodLink "MergeDesk" (36 : Nat) ({ cls := "MergeDesk$Least", name := "take", desc := "()J" } : Jvm.MethodName)) ∈ lw_all := lw_g (lw_at lw_m0 65 rfl) rfl
theorem q72 : (Jvm.Cond.instanceMethod ({ cls := "MergeDesk", name := "three", desc := "()J" } : Jvm.MethodName)) ∈ lw_all := lw_g (lw_at lw_m0 70 rfl) rfl
theorem q73 : (Jvm.Cond.selects "MergeDesk" ({ cls := "MergeDesk", name := "three", desc := "()J" } : Jvm.MethodName) ({ cls := "MergeDesk", name := "three", desc := "()J" } : Jvm.MethodName)) ∈ lw_all := lw_g (lw_at lw_m0 71 rfl) rfl
theorem q74 : (Jvm.Cond.code ({ cls := "MergeDesk", name := "three", desc := "()J" } : Jvm.MethodName) prog_1_method_6_code (1 : Nat) (Option.some Jvm.ClassFile.FieldType.long)) ∈ lw_all := lw_g (lw_at lw_m0 72 rfl) rfl
theorem q76 : (Jvm.Cond.instanceMethod ({ cls := "MergeDesk", name := "beside", desc := "()J" } : Jvm.MethodName)) ∈ lw_all := lw_g (lw_at lw_m0 74 rfl) rfl
theorem q77 : (Jvm.Cond.selects "MergeDesk" ({ cls := "MergeDesk", name := "beside", desc := "()J" } : Jvm.MethodName) ({ cls := "MergeDesk", name := "beside", desc := "()J" } : Jvm.MethodName)) ∈ lw_all := lw_g (lw_at lw_m0 75 rfl) rfl
theorem q78 : (Jvm.Cond.code ({ cls := "MergeDesk", name := "beside", desc := "()J" } : Jvm.MethodName) prog_1_method_7_code (8 : Nat) (Option.some Jvm.ClassFile.FieldType.long)) ∈ lw_all := lw_g (lw_at lw_m0 76 rfl) rfl
theorem q80 : (Jvm.Cond.instanceMethod ({ cls := "MergeDesk", name := "heaps", desc := "()I" } : Jvm.MethodName)) ∈ lw_all := lw_g (lw_at lw_m0 78 rfl) rfl
theorem q81 : (Jvm.Cond.selects "MergeDesk" ({ cls := "MergeDesk", name := "heaps", desc := "()I" } : Jvm.MethodName) ({ cls := "MergeDesk", name := "heaps", desc := "()I" } : Jvm.MethodName)) ∈ lw_all := lw_g (lw_at lw_m0 79 rfl) rfl
theorem q82 : (Jvm.Cond.code ({ cls := "MergeDesk", name := "heaps", desc := "()I" } : Jvm.MethodName) prog_1_method_8_code (1 : Nat) (Option.some Jvm.ClassFile.FieldType.int)) ∈ lw_all := lw_g (lw_at lw_m0 80 rfl) rfl
theorem in_X0 : ∀ w ∈ wsX00, w ∈ lw_all := lw_in wsX00 [33, 35, 37, 39] (by decide +kernel) (by decide +kernel)
end
section
/-! MergeDeskModel -/
set_option maxRecDepth 100000
def RX2 : String := "MergeDeskModel"
def TX2 : u_T := fun k => match k with
  | 0 => ("MergeDeskModel", "w", "[I", true)
  | 1 => ("MergeDeskModel", "n", "I", false)
  | 2 => ("MergeDeskModel", "best", "[J", true)
  | _ => ("MergeDeskModel", "row", "[J", true)
def tyX2 : Nat → FieldType := fun k => match k with
  | 0 => .array .int
  | 1 => .int
  | 2 => .array .long
  | _ => .array .long
abbrev wsX20 : List Cond := u_ws RX2 TX2 4
theorem nmX2 : ∀ a, a < 4 → ∀ b, b < 4 → a ≠ b → (TX2 a).2.1 ≠ (TX2 b).2.1 := by decide +kernel
theorem tyX2_ok : ∀ k, k < 4 → parseFieldDescriptor (TX2 k).2.2.1 = some (tyX2 k) := by decide +kernel
abbrev cX2_init : ByteArray := prog_4_method_1_code
def yX2_init : MethodName := ⟨RX2, "<init>", "()V"⟩
theorem dX2_init_0 : decode cX2_init 0 = .ok (.aload_n 0, 1) := by decide +kernel
theorem dX2_init_1 : decode cX2_init 1 = .ok (.invokespecial 1, 3) := by decide +kernel
theorem dX2_init_4 : decode cX2_init 4 = .ok (.aload_n 0, 1) := by decide +kernel
theorem dX2_init_5 : decode cX2_init 5 = .ok (.bipush 10, 2) := by decide +kernel
theorem dX2_init_7 : decode cX2_init 7 = .ok (.newarray .int, 2) := by decide +kernel
theorem dX2_init_9 : decode cX2_init 9 = .ok (.putfield 7, 3) := by decide +kernel
theorem dX2_init_12 : decode cX2_init 12 = .ok (.aload_n 0, 1) := by decide +kernel
theorem dX2_init_13 : decode cX2_init 13 = .ok (.sipush 1024, 3) := by decide +kernel
theorem dX2_init_16 : decode cX2_init 16 = .ok (.newarray .long, 2) := by decide +kernel
theorem dX2_init_18 : decode cX2_init 18 = .ok (.putfield 13, 3) := by decide +kernel
theorem dX2_init_21 : decode cX2_init 21 = .ok (.aload_n 0, 1) := by decide +kernel
theorem dX2_init_22 : decode cX2_init 22 = .ok (.bipush 110, 2) := by decide +kernel
theorem dX2_init_24 : decode cX2_init 24 = .ok (.newarray .long, 2) := by decide +kernel
theorem dX2_init_26 : decode cX2_init 26 = .ok (.putfield 17, 3) := by decide +kernel
theorem dX2_init_29 : decode cX2_init 29 = .ok (.return_, 1) := by decide +kernel
abbrev cX2_put : ByteArray := prog_4_method_2_code
def yX2_put : MethodName := ⟨RX2, "put", "(I)Z"⟩
theorem dX2_put_0 : decode cX2_put 0 = .ok (.aload_n 0, 1) := by decide +kernel
theorem dX2_put_1 : decode cX2_put 1 = .ok (.getfield 20, 3) := by decide +kernel
theorem dX2_put_4 : decode cX2_put 4 = .ok (.bipush 8, 2) := by decide +kernel
theorem dX2_put_6 : decode cX2_put 6 = .ok (.if_icmp .ne 5, 3) := by decide +kernel
theorem dX2_put_9 : decode cX2_put 9 = .ok (.iconst 0, 1) := by decide +kernel
theorem dX2_put_10 : decode cX2_put 10 = .ok (.ireturn, 1) := by decide +kernel
theorem dX2_put_11 : decode cX2_put 11 = .ok (.aload_n 0, 1) := by decide +kernel
theorem dX2_put_12 : decode cX2_put 12 = .ok (.getfield 7, 3) := by decide +kernel
theorem dX2_put_15 : decode cX2_put 15 = .ok (.aload_n 0, 1) := by decide +kernel
theorem dX2_put_16 : decode cX2_put 16 = .ok (.getfield 20, 3) := by decide +kernel
theorem dX2_put_19 : decode cX2_put 19 = .ok (.iload_n 1, 1) := by decide +kernel
theorem dX2_put_20 : decode cX2_put 20 = .ok (.ldc 24, 2) := by decide +kernel
theorem dX2_put_22 : decode cX2_put 22 = .ok (.iand, 1) := by decide +kernel
theorem dX2_put_23 : decode cX2_put 23 = .ok (.iastore, 1) := by decide +kernel
theorem dX2_put_24 : decode cX2_put 24 = .ok (.aload_n 0, 1) := by decide +kernel
theorem dX2_put_25 : decode cX2_put 25 = .ok (.aload_n 0, 1) := by decide +kernel
theorem dX2_put_26 : decode cX2_put 26 = .ok (.getfield 20, 3) := by decide +kernel
theorem dX2_put_29 : decode cX2_put 29 = .ok (.iconst 1, 1) := by decide +kernel
theorem dX2_put_30 : decode cX2_put 30 = .ok (.iadd, 1) := by decide +kernel
theorem dX2_put_31 : decode cX2_put 31 = .ok (.putfield 20, 3) := by decide +kernel
theorem dX2_put_34 : decode cX2_put 34 = .ok (.iconst 1, 1) := by decide +kernel
theorem dX2_put_35 : decode cX2_put 35 = .ok (.ireturn, 1) := by decide +kernel
abbrev cX2_drop : ByteArray := prog_4_method_3_code
def yX2_drop : MethodName := ⟨RX2, "drop", "()Z"⟩
theorem dX2_drop_0 : decode cX2_drop 0 = .ok (.aload_n 0, 1) := by decide +kernel
theorem dX2_drop_1 : decode cX2_drop 1 = .ok (.getfield 20, 3) := by decide +kernel
theorem dX2_drop_4 : decode cX2_drop 4 = .ok (.ifCond .ne 5, 3) := by decide +kernel
theorem dX2_drop_7 : decode cX2_drop 7 = .ok (.iconst 0, 1) := by decide +kernel
theorem dX2_drop_8 : decode cX2_drop 8 = .ok (.ireturn, 1) := by decide +kernel
theorem dX2_drop_9 : decode cX2_drop 9 = .ok (.aload_n 0, 1) := by decide +kernel
theorem dX2_drop_10 : decode cX2_drop 10 = .ok (.aload_n 0, 1) := by decide +kernel
theorem dX2_drop_11 : decode cX2_drop 11 = .ok (.getfield 20, 3) := by decide +kernel
theorem dX2_drop_14 : decode cX2_drop 14 = .ok (.iconst 1, 1) := by decide +kernel
theorem dX2_drop_15 : decode cX2_drop 15 = .ok (.isub, 1) := by decide +kernel
theorem dX2_drop_16 : decode cX2_drop 16 = .ok (.putfield 20, 3) := by decide +kernel
theorem dX2_drop_19 : decode cX2_drop 19 = .ok (.iconst 1, 1) := by decide +kernel
theorem dX2_drop_20 : decode cX2_drop 20 = .ok (.ireturn, 1) := by decide +kernel
abbrev cX2_any : ByteArray := prog_4_method_5_code
def yX2_any : MethodName := ⟨RX2, "any", "()J"⟩
theorem dX2_any_0 : decode cX2_any 0 = .ok (.iconst 1, 1) := by decide +kernel
theorem dX2_any_1 : decode cX2_any 1 = .ok (.istore_n 1, 1) := by decide +kernel
theorem dX2_any_2 : decode cX2_any 2 = .ok (.iload_n 1, 1) := by decide +kernel
theorem dX2_any_3 : decode cX2_any 3 = .ok (.iconst 1, 1) := by decide +kernel
theorem dX2_any_4 : decode cX2_any 4 = .ok (.aload_n 0, 1) := by decide +kernel
theorem dX2_any_5 : decode cX2_any 5 = .ok (.getfield 20, 3) := by decide +kernel
theorem dX2_any_8 : decode cX2_any 8 = .ok (.ishl, 1) := by decide +kernel
theorem dX2_any_9 : decode cX2_any 9 = .ok (.if_icmp .ge 104, 3) := by decide +kernel
theorem dX2_any_12 : decode cX2_any 12 = .ok (.iload_n 1, 1) := by decide +kernel
theorem dX2_any_13 : decode cX2_any 13 = .ok (.iload_n 1, 1) := by decide +kernel
theorem dX2_any_14 : decode cX2_any 14 = .ok (.iconst 1, 1) := by decide +kernel
theorem dX2_any_15 : decode cX2_any 15 = .ok (.isub, 1) := by decide +kernel
theorem dX2_any_16 : decode cX2_any 16 = .ok (.iand, 1) := by decide +kernel
theorem dX2_any_17 : decode cX2_any 17 = .ok (.ifCond .ne 13, 3) := by decide +kernel
theorem dX2_any_20 : decode cX2_any 20 = .ok (.aload_n 0, 1) := by decide +kernel
theorem dX2_any_21 : decode cX2_any 21 = .ok (.getfield 13, 3) := by decide +kernel
theorem dX2_any_24 : decode cX2_any 24 = .ok (.iload_n 1, 1) := by decide +kernel
theorem dX2_any_25 : decode cX2_any 25 = .ok (.lconst 0, 1) := by decide +kernel
theorem dX2_any_26 : decode cX2_any 26 = .ok (.lastore, 1) := by decide +kernel
theorem dX2_any_27 : decode cX2_any 27 = .ok (.goto 80, 3) := by decide +kernel
theorem dX2_any_30 : decode cX2_any 30 = .ok (.ldc2_w 25, 3) := by decide +kernel
theorem dX2_any_33 : decode cX2_any 33 = .ok (.lstore_n 2, 1) := by decide +kernel
theorem dX2_any_34 : decode cX2_any 34 = .ok (.iload_n 1, 1) := by decide +kernel
theorem dX2_any_35 : decode cX2_any 35 = .ok (.iconst 1, 1) := by decide +kernel
theorem dX2_any_36 : decode cX2_any 36 = .ok (.isub, 1) := by decide +kernel
theorem dX2_any_37 : decode cX2_any 37 = .ok (.iload_n 1, 1) := by decide +kernel
theorem dX2_any_38 : decode cX2_any 38 = .ok (.iand, 1) := by decide +kernel
theorem dX2_any_39 : decode cX2_any 39 = .ok (.istore 4, 2) := by decide +kernel
theorem dX2_any_41 : decode cX2_any 41 = .ok (.iload 4, 2) := by decide +kernel
theorem dX2_any_43 : decode cX2_any 43 = .ok (.ifCond .le 51, 3) := by decide +kernel
theorem dX2_any_46 : decode cX2_any 46 = .ok (.aload_n 0, 1) := by decide +kernel
theorem dX2_any_47 : decode cX2_any 47 = .ok (.getfield 13, 3) := by decide +kernel
theorem dX2_any_50 : decode cX2_any 50 = .ok (.iload 4, 2) := by decide +kernel
theorem dX2_any_52 : decode cX2_any 52 = .ok (.laload, 1) := by decide +kernel
theorem dX2_any_53 : decode cX2_any 53 = .ok (.aload_n 0, 1) := by decide +kernel
theorem dX2_any_54 : decode cX2_any 54 = .ok (.getfield 13, 3) := by decide +kernel
theorem dX2_any_57 : decode cX2_any 57 = .ok (.iload_n 1, 1) := by decide +kernel
theorem dX2_any_58 : decode cX2_any 58 = .ok (.iload 4, 2) := by decide +kernel
theorem dX2_any_60 : decode cX2_any 60 = .ok (.iconst (-1), 1) := by decide +kernel
theorem dX2_any_61 : decode cX2_any 61 = .ok (.ixor, 1) := by decide +kernel
theorem dX2_any_62 : decode cX2_any 62 = .ok (.iand, 1) := by decide +kernel
theorem dX2_any_63 : decode cX2_any 63 = .ok (.laload, 1) := by decide +kernel
theorem dX2_any_64 : decode cX2_any 64 = .ok (.ladd, 1) := by decide +kernel
theorem dX2_any_65 : decode cX2_any 65 = .ok (.lstore 5, 2) := by decide +kernel
theorem dX2_any_67 : decode cX2_any 67 = .ok (.lload_n 2, 1) := by decide +kernel
theorem dX2_any_68 : decode cX2_any 68 = .ok (.lconst 0, 1) := by decide +kernel
theorem dX2_any_69 : decode cX2_any 69 = .ok (.lcmp, 1) := by decide +kernel
theorem dX2_any_70 : decode cX2_any 70 = .ok (.ifCond .lt 10, 3) := by decide +kernel
theorem dX2_any_73 : decode cX2_any 73 = .ok (.lload 5, 2) := by decide +kernel
theorem dX2_any_75 : decode cX2_any 75 = .ok (.lload_n 2, 1) := by decide +kernel
theorem dX2_any_76 : decode cX2_any 76 = .ok (.lcmp, 1) := by decide +kernel
theorem dX2_any_77 : decode cX2_any 77 = .ok (.ifCond .ge 6, 3) := by decide +kernel
theorem dX2_any_80 : decode cX2_any 80 = .ok (.lload 5, 2) := by decide +kernel
theorem dX2_any_82 : decode cX2_any 82 = .ok (.lstore_n 2, 1) := by decide +kernel
theorem dX2_any_83 : decode cX2_any 83 = .ok (.iload 4, 2) := by decide +kernel
theorem dX2_any_85 : decode cX2_any 85 = .ok (.iconst 1, 1) := by decide +kernel
theorem dX2_any_86 : decode cX2_any 86 = .ok (.isub, 1) := by decide +kernel
theorem dX2_any_87 : decode cX2_any 87 = .ok (.iload_n 1, 1) := by decide +kernel
theorem dX2_any_88 : decode cX2_any 88 = .ok (.iand, 1) := by decide +kernel
theorem dX2_any_89 : decode cX2_any 89 = .ok (.istore 4, 2) := by decide +kernel
theorem dX2_any_91 : decode cX2_any 91 = .ok (.goto (-50), 3) := by decide +kernel
theorem dX2_any_94 : decode cX2_any 94 = .ok (.aload_n 0, 1) := by decide +kernel
theorem dX2_any_95 : decode cX2_any 95 = .ok (.getfield 13, 3) := by decide +kernel
theorem dX2_any_98 : decode cX2_any 98 = .ok (.iload_n 1, 1) := by decide +kernel
theorem dX2_any_99 : decode cX2_any 99 = .ok (.lload_n 2, 1) := by decide +kernel
theorem dX2_any_100 : decode cX2_any 100 = .ok (.aload_n 0, 1) := by decide +kernel
theorem dX2_any_101 : decode cX2_any 101 = .ok (.iload_n 1, 1) := by decide +kernel
theorem dX2_any_102 : decode cX2_any 102 = .ok (.invokevirtual 27, 3) := by decide +kernel
theorem dX2_any_105 : decode cX2_any 105 = .ok (.ladd, 1) := by decide +kernel
theorem dX2_any_106 : decode cX2_any 106 = .ok (.lastore, 1) := by decide +kernel
theorem dX2_any_107 : decode cX2_any 107 = .ok (.iinc 1 1, 3) := by decide +kernel
theorem dX2_any_110 : decode cX2_any 110 = .ok (.goto (-108), 3) := by decide +kernel
theorem dX2_any_113 : decode cX2_any 113 = .ok (.aload_n 0, 1) := by decide +kernel
theorem dX2_any_114 : decode cX2_any 114 = .ok (.getfield 20, 3) := by decide +kernel
theorem dX2_any_117 : decode cX2_any 117 = .ok (.ifCond .ne 7, 3) := by decide +kernel
theorem dX2_any_120 : decode cX2_any 120 = .ok (.lconst 0, 1) := by decide +kernel
theorem dX2_any_121 : decode cX2_any 121 = .ok (.goto 16, 3) := by decide +kernel
theorem dX2_any_124 : decode cX2_any 124 = .ok (.aload_n 0, 1) := by decide +kernel
theorem dX2_any_125 : decode cX2_any 125 = .ok (.getfield 13, 3) := by decide +kernel
theorem dX2_any_128 : decode cX2_any 128 = .ok (.iconst 1, 1) := by decide +kernel
theorem dX2_any_129 : decode cX2_any 129 = .ok (.aload_n 0, 1) := by decide +kernel
theorem dX2_any_130 : decode cX2_any 130 = .ok (.getfield 20, 3) := by decide +kernel
theorem dX2_any_133 : decode cX2_any 133 = .ok (.ishl, 1) := by decide +kernel
theorem dX2_any_134 : decode cX2_any 134 = .ok (.iconst 1, 1) := by decide +kernel
theorem dX2_any_135 : decode cX2_any 135 = .ok (.isub, 1) := by decide +kernel
theorem dX2_any_136 : decode cX2_any 136 = .ok (.laload, 1) := by decide +kernel
theorem dX2_any_137 : decode cX2_any 137 = .ok (.lreturn, 1) := by decide +kernel
abbrev cX2_sum : ByteArray := prog_4_method_4_code
def yX2_sum : MethodName := ⟨RX2, "sum", "(I)J"⟩
theorem dX2_sum_0 : decode cX2_sum 0 = .ok (.lconst 0, 1) := by decide +kernel
theorem dX2_sum_1 : decode cX2_sum 1 = .ok (.lstore_n 2, 1) := by decide +kernel
theorem dX2_sum_2 : decode cX2_sum 2 = .ok (.iconst 0, 1) := by decide +kernel
theorem dX2_sum_3 : decode cX2_sum 3 = .ok (.istore 4, 2) := by decide +kernel
theorem dX2_sum_5 : decode cX2_sum 5 = .ok (.iload 4, 2) := by decide +kernel
theorem dX2_sum_7 : decode cX2_sum 7 = .ok (.aload_n 0, 1) := by decide +kernel
theorem dX2_sum_8 : decode cX2_sum 8 = .ok (.getfield 20, 3) := by decide +kernel
theorem dX2_sum_11 : decode cX2_sum 11 = .ok (.if_icmp .ge 29, 3) := by decide +kernel
theorem dX2_sum_14 : decode cX2_sum 14 = .ok (.iload_n 1, 1) := by decide +kernel
theorem dX2_sum_15 : decode cX2_sum 15 = .ok (.iload 4, 2) := by decide +kernel
theorem dX2_sum_17 : decode cX2_sum 17 = .ok (.ishr, 1) := by decide +kernel
theorem dX2_sum_18 : decode cX2_sum 18 = .ok (.iconst 1, 1) := by decide +kernel
theorem dX2_sum_19 : decode cX2_sum 19 = .ok (.iand, 1) := by decide +kernel
theorem dX2_sum_20 : decode cX2_sum 20 = .ok (.ifCond .eq 14, 3) := by decide +kernel
theorem dX2_sum_23 : decode cX2_sum 23 = .ok (.lload_n 2, 1) := by decide +kernel
theorem dX2_sum_24 : decode cX2_sum 24 = .ok (.aload_n 0, 1) := by decide +kernel
theorem dX2_sum_25 : decode cX2_sum 25 = .ok (.getfield 7, 3) := by decide +kernel
theorem dX2_sum_28 : decode cX2_sum 28 = .ok (.iload 4, 2) := by decide +kernel
theorem dX2_sum_30 : decode cX2_sum 30 = .ok (.iaload, 1) := by decide +kernel
theorem dX2_sum_31 : decode cX2_sum 31 = .ok (.i2l, 1) := by decide +kernel
theorem dX2_sum_32 : decode cX2_sum 32 = .ok (.ladd, 1) := by decide +kernel
theorem dX2_sum_33 : decode cX2_sum 33 = .ok (.lstore_n 2, 1) := by decide +kernel
theorem dX2_sum_34 : decode cX2_sum 34 = .ok (.iinc 4 1, 3) := by decide +kernel
theorem dX2_sum_37 : decode cX2_sum 37 = .ok (.goto (-32), 3) := by decide +kernel
theorem dX2_sum_40 : decode cX2_sum 40 = .ok (.lload_n 2, 1) := by decide +kernel
theorem dX2_sum_41 : decode cX2_sum 41 = .ok (.lreturn, 1) := by decide +kernel
abbrev cX2_beside : ByteArray := prog_4_method_6_code
def yX2_beside : MethodName := ⟨RX2, "beside", "()J"⟩
theorem dX2_beside_0 : decode cX2_beside 0 = .ok (.iconst 1, 1) := by decide +kernel
theorem dX2_beside_1 : decode cX2_beside 1 = .ok (.istore_n 1, 1) := by decide +kernel
theorem dX2_beside_2 : decode cX2_beside 2 = .ok (.iload_n 1, 1) := by decide +kernel
theorem dX2_beside_3 : decode cX2_beside 3 = .ok (.aload_n 0, 1) := by decide +kernel
theorem dX2_beside_4 : decode cX2_beside 4 = .ok (.getfield 20, 3) := by decide +kernel
theorem dX2_beside_7 : decode cX2_beside 7 = .ok (.if_icmp .gt 152, 3) := by decide +kernel
theorem dX2_beside_10 : decode cX2_beside 10 = .ok (.iconst 0, 1) := by decide +kernel
theorem dX2_beside_11 : decode cX2_beside 11 = .ok (.istore_n 2, 1) := by decide +kernel
theorem dX2_beside_12 : decode cX2_beside 12 = .ok (.iload_n 2, 1) := by decide +kernel
theorem dX2_beside_13 : decode cX2_beside 13 = .ok (.iload_n 1, 1) := by decide +kernel
theorem dX2_beside_14 : decode cX2_beside 14 = .ok (.iadd, 1) := by decide +kernel
theorem dX2_beside_15 : decode cX2_beside 15 = .ok (.aload_n 0, 1) := by decide +kernel
theorem dX2_beside_16 : decode cX2_beside 16 = .ok (.getfield 20, 3) := by decide +kernel
theorem dX2_beside_19 : decode cX2_beside 19 = .ok (.if_icmp .gt 134, 3) := by decide +kernel
theorem dX2_beside_22 : decode cX2_beside 22 = .ok (.lconst 0, 1) := by decide +kernel
theorem dX2_beside_23 : decode cX2_beside 23 = .ok (.lstore_n 3, 1) := by decide +kernel
theorem dX2_beside_24 : decode cX2_beside 24 = .ok (.ldc2_w 25, 3) := by decide +kernel
theorem dX2_beside_27 : decode cX2_beside 27 = .ok (.lstore 5, 2) := by decide +kernel
theorem dX2_beside_29 : decode cX2_beside 29 = .ok (.iload_n 2, 1) := by decide +kernel
theorem dX2_beside_30 : decode cX2_beside 30 = .ok (.istore 7, 2) := by decide +kernel
theorem dX2_beside_32 : decode cX2_beside 32 = .ok (.iload 7, 2) := by decide +kernel
theorem dX2_beside_34 : decode cX2_beside 34 = .ok (.iload_n 2, 1) := by decide +kernel
theorem dX2_beside_35 : decode cX2_beside 35 = .ok (.iload_n 1, 1) := by decide +kernel
theorem dX2_beside_36 : decode cX2_beside 36 = .ok (.iadd, 1) := by decide +kernel
theorem dX2_beside_37 : decode cX2_beside 37 = .ok (.if_icmp .ge 20, 3) := by decide +kernel
theorem dX2_beside_40 : decode cX2_beside 40 = .ok (.lload_n 3, 1) := by decide +kernel
theorem dX2_beside_41 : decode cX2_beside 41 = .ok (.aload_n 0, 1) := by decide +kernel
theorem dX2_beside_42 : decode cX2_beside 42 = .ok (.getfield 7, 3) := by decide +kernel
theorem dX2_beside_45 : decode cX2_beside 45 = .ok (.iload 7, 2) := by decide +kernel
theorem dX2_beside_47 : decode cX2_beside 47 = .ok (.iaload, 1) := by decide +kernel
theorem dX2_beside_48 : decode cX2_beside 48 = .ok (.i2l, 1) := by decide +kernel
theorem dX2_beside_49 : decode cX2_beside 49 = .ok (.ladd, 1) := by decide +kernel
theorem dX2_beside_50 : decode cX2_beside 50 = .ok (.lstore_n 3, 1) := by decide +kernel
theorem dX2_beside_51 : decode cX2_beside 51 = .ok (.iinc 7 1, 3) := by decide +kernel
theorem dX2_beside_54 : decode cX2_beside 54 = .ok (.goto (-22), 3) := by decide +kernel
theorem dX2_beside_57 : decode cX2_beside 57 = .ok (.iconst 1, 1) := by decide +kernel
theorem dX2_beside_58 : decode cX2_beside 58 = .ok (.istore 7, 2) := by decide +kernel
theorem dX2_beside_60 : decode cX2_beside 60 = .ok (.iload 7, 2) := by decide +kernel
theorem dX2_beside_62 : decode cX2_beside 62 = .ok (.iload_n 1, 1) := by decide +kernel
theorem dX2_beside_63 : decode cX2_beside 63 = .ok (.if_icmp .ge 60, 3) := by decide +kernel
theorem dX2_beside_66 : decode cX2_beside 66 = .ok (.aload_n 0, 1) := by decide +kernel
theorem dX2_beside_67 : decode cX2_beside 67 = .ok (.getfield 17, 3) := by decide +kernel
theorem dX2_beside_70 : decode cX2_beside 70 = .ok (.bipush 11, 2) := by decide +kernel
theorem dX2_beside_72 : decode cX2_beside 72 = .ok (.iload_n 2, 1) := by decide +kernel
theorem dX2_beside_73 : decode cX2_beside 73 = .ok (.imul, 1) := by decide +kernel
theorem dX2_beside_74 : decode cX2_beside 74 = .ok (.iload 7, 2) := by decide +kernel
theorem dX2_beside_76 : decode cX2_beside 76 = .ok (.iadd, 1) := by decide +kernel
theorem dX2_beside_77 : decode cX2_beside 77 = .ok (.laload, 1) := by decide +kernel
theorem dX2_beside_78 : decode cX2_beside 78 = .ok (.aload_n 0, 1) := by decide +kernel
theorem dX2_beside_79 : decode cX2_beside 79 = .ok (.getfield 17, 3) := by decide +kernel
theorem dX2_beside_82 : decode cX2_beside 82 = .ok (.bipush 11, 2) := by decide +kernel
theorem dX2_beside_84 : decode cX2_beside 84 = .ok (.iload_n 2, 1) := by decide +kernel
theorem dX2_beside_85 : decode cX2_beside 85 = .ok (.iload 7, 2) := by decide +kernel
theorem dX2_beside_87 : decode cX2_beside 87 = .ok (.iadd, 1) := by decide +kernel
theorem dX2_beside_88 : decode cX2_beside 88 = .ok (.imul, 1) := by decide +kernel
theorem dX2_beside_89 : decode cX2_beside 89 = .ok (.iload_n 1, 1) := by decide +kernel
theorem dX2_beside_90 : decode cX2_beside 90 = .ok (.iadd, 1) := by decide +kernel
theorem dX2_beside_91 : decode cX2_beside 91 = .ok (.iload 7, 2) := by decide +kernel
theorem dX2_beside_93 : decode cX2_beside 93 = .ok (.isub, 1) := by decide +kernel
theorem dX2_beside_94 : decode cX2_beside 94 = .ok (.laload, 1) := by decide +kernel
theorem dX2_beside_95 : decode cX2_beside 95 = .ok (.ladd, 1) := by decide +kernel
theorem dX2_beside_96 : decode cX2_beside 96 = .ok (.lstore 8, 2) := by decide +kernel
theorem dX2_beside_98 : decode cX2_beside 98 = .ok (.lload 5, 2) := by decide +kernel
theorem dX2_beside_100 : decode cX2_beside 100 = .ok (.lconst 0, 1) := by decide +kernel
theorem dX2_beside_101 : decode cX2_beside 101 = .ok (.lcmp, 1) := by decide +kernel
theorem dX2_beside_102 : decode cX2_beside 102 = .ok (.ifCond .lt 11, 3) := by decide +kernel
theorem dX2_beside_105 : decode cX2_beside 105 = .ok (.lload 8, 2) := by decide +kernel
theorem dX2_beside_107 : decode cX2_beside 107 = .ok (.lload 5, 2) := by decide +kernel
theorem dX2_beside_109 : decode cX2_beside 109 = .ok (.lcmp, 1) := by decide +kernel
theorem dX2_beside_110 : decode cX2_beside 110 = .ok (.ifCond .ge 7, 3) := by decide +kernel
theorem dX2_beside_113 : decode cX2_beside 113 = .ok (.lload 8, 2) := by decide +kernel
theorem dX2_beside_115 : decode cX2_beside 115 = .ok (.lstore 5, 2) := by decide +kernel
theorem dX2_beside_117 : decode cX2_beside 117 = .ok (.iinc 7 1, 3) := by decide +kernel
theorem dX2_beside_120 : decode cX2_beside 120 = .ok (.goto (-60), 3) := by decide +kernel
theorem dX2_beside_123 : decode cX2_beside 123 = .ok (.aload_n 0, 1) := by decide +kernel
theorem dX2_beside_124 : decode cX2_beside 124 = .ok (.getfield 17, 3) := by decide +kernel
theorem dX2_beside_127 : decode cX2_beside 127 = .ok (.bipush 11, 2) := by decide +kernel
theorem dX2_beside_129 : decode cX2_beside 129 = .ok (.iload_n 2, 1) := by decide +kernel
theorem dX2_beside_130 : decode cX2_beside 130 = .ok (.imul, 1) := by decide +kernel
theorem dX2_beside_131 : decode cX2_beside 131 = .ok (.iload_n 1, 1) := by decide +kernel
theorem dX2_beside_132 : decode cX2_beside 132 = .ok (.iadd, 1) := by decide +kernel
theorem dX2_beside_133 : decode cX2_beside 133 = .ok (.iload_n 1, 1) := by decide +kernel
theorem dX2_beside_134 : decode cX2_beside 134 = .ok (.iconst 1, 1) := by decide +kernel
theorem dX2_beside_135 : decode cX2_beside 135 = .ok (.if_icmp .ne 7, 3) := by decide +kernel
theorem dX2_beside_138 : decode cX2_beside 138 = .ok (.lconst 0, 1) := by decide +kernel
theorem dX2_beside_139 : decode cX2_beside 139 = .ok (.goto 7, 3) := by decide +kernel
theorem dX2_beside_142 : decode cX2_beside 142 = .ok (.lload 5, 2) := by decide +kernel
theorem dX2_beside_144 : decode cX2_beside 144 = .ok (.lload_n 3, 1) := by decide +kernel
theorem dX2_beside_145 : decode cX2_beside 145 = .ok (.ladd, 1) := by decide +kernel
theorem dX2_beside_146 : decode cX2_beside 146 = .ok (.lastore, 1) := by decide +kernel
theorem dX2_beside_147 : decode cX2_beside 147 = .ok (.iinc 2 1, 3) := by decide +kernel
theorem dX2_beside_150 : decode cX2_beside 150 = .ok (.goto (-138), 3) := by decide +kernel
theorem dX2_beside_153 : decode cX2_beside 153 = .ok (.iinc 1 1, 3) := by decide +kernel
theorem dX2_beside_156 : decode cX2_beside 156 = .ok (.goto (-154), 3) := by decide +kernel
theorem dX2_beside_159 : decode cX2_beside 159 = .ok (.aload_n 0, 1) := by decide +kernel
theorem dX2_beside_160 : decode cX2_beside 160 = .ok (.getfield 20, 3) := by decide +kernel
theorem dX2_beside_163 : decode cX2_beside 163 = .ok (.ifCond .ne 7, 3) := by decide +kernel
theorem dX2_beside_166 : decode cX2_beside 166 = .ok (.lconst 0, 1) := by decide +kernel
theorem dX2_beside_167 : decode cX2_beside 167 = .ok (.goto 12, 3) := by decide +kernel
theorem dX2_beside_170 : decode cX2_beside 170 = .ok (.aload_n 0, 1) := by decide +kernel
theorem dX2_beside_171 : decode cX2_beside 171 = .ok (.getfield 17, 3) := by decide +kernel
theorem dX2_beside_174 : decode cX2_beside 174 = .ok (.aload_n 0, 1) := by decide +kernel
theorem dX2_beside_175 : decode cX2_beside 175 = .ok (.getfield 20, 3) := by decide +kernel
theorem dX2_beside_178 : decode cX2_beside 178 = .ok (.laload, 1) := by decide +kernel
theorem dX2_beside_179 : decode cX2_beside 179 = .ok (.lreturn, 1) := by decide +kernel
abbrev cX2_three : ByteArray := prog_4_method_7_code
def yX2_three : MethodName := ⟨RX2, "three", "()J"⟩
theorem dX2_three_0 : decode cX2_three 0 = .ok (.iconst 1, 1) := by decide +kernel
theorem dX2_three_1 : decode cX2_three 1 = .ok (.istore_n 1, 1) := by decide +kernel
theorem dX2_three_2 : decode cX2_three 2 = .ok (.iload_n 1, 1) := by decide +kernel
theorem dX2_three_3 : decode cX2_three 3 = .ok (.iconst 1, 1) := by decide +kernel
theorem dX2_three_4 : decode cX2_three 4 = .ok (.aload_n 0, 1) := by decide +kernel
theorem dX2_three_5 : decode cX2_three 5 = .ok (.getfield 20, 3) := by decide +kernel
theorem dX2_three_8 : decode cX2_three 8 = .ok (.ishl, 1) := by decide +kernel
theorem dX2_three_9 : decode cX2_three 9 = .ok (.if_icmp .ge 174, 3) := by decide +kernel
theorem dX2_three_12 : decode cX2_three 12 = .ok (.iload_n 1, 1) := by decide +kernel
theorem dX2_three_13 : decode cX2_three 13 = .ok (.iload_n 1, 1) := by decide +kernel
theorem dX2_three_14 : decode cX2_three 14 = .ok (.iconst 1, 1) := by decide +kernel
theorem dX2_three_15 : decode cX2_three 15 = .ok (.isub, 1) := by decide +kernel
theorem dX2_three_16 : decode cX2_three 16 = .ok (.iand, 1) := by decide +kernel
theorem dX2_three_17 : decode cX2_three 17 = .ok (.ifCond .ne 13, 3) := by decide +kernel
theorem dX2_three_20 : decode cX2_three 20 = .ok (.aload_n 0, 1) := by decide +kernel
theorem dX2_three_21 : decode cX2_three 21 = .ok (.getfield 13, 3) := by decide +kernel
theorem dX2_three_24 : decode cX2_three 24 = .ok (.iload_n 1, 1) := by decide +kernel
theorem dX2_three_25 : decode cX2_three 25 = .ok (.lconst 0, 1) := by decide +kernel
theorem dX2_three_26 : decode cX2_three 26 = .ok (.lastore, 1) := by decide +kernel
theorem dX2_three_27 : decode cX2_three 27 = .ok (.goto 150, 3) := by decide +kernel
theorem dX2_three_30 : decode cX2_three 30 = .ok (.ldc2_w 25, 3) := by decide +kernel
theorem dX2_three_33 : decode cX2_three 33 = .ok (.lstore_n 2, 1) := by decide +kernel
theorem dX2_three_34 : decode cX2_three 34 = .ok (.iload_n 1, 1) := by decide +kernel
theorem dX2_three_35 : decode cX2_three 35 = .ok (.iconst 1, 1) := by decide +kernel
theorem dX2_three_36 : decode cX2_three 36 = .ok (.isub, 1) := by decide +kernel
theorem dX2_three_37 : decode cX2_three 37 = .ok (.iload_n 1, 1) := by decide +kernel
theorem dX2_three_38 : decode cX2_three 38 = .ok (.iand, 1) := by decide +kernel
theorem dX2_three_39 : decode cX2_three 39 = .ok (.istore 4, 2) := by decide +kernel
theorem dX2_three_41 : decode cX2_three 41 = .ok (.iload 4, 2) := by decide +kernel
theorem dX2_three_43 : decode cX2_three 43 = .ok (.ifCond .le 121, 3) := by decide +kernel
theorem dX2_three_46 : decode cX2_three 46 = .ok (.iload_n 1, 1) := by decide +kernel
theorem dX2_three_47 : decode cX2_three 47 = .ok (.iload 4, 2) := by decide +kernel
theorem dX2_three_49 : decode cX2_three 49 = .ok (.iconst (-1), 1) := by decide +kernel
theorem dX2_three_50 : decode cX2_three 50 = .ok (.ixor, 1) := by decide +kernel
theorem dX2_three_51 : decode cX2_three 51 = .ok (.iand, 1) := by decide +kernel
theorem dX2_three_52 : decode cX2_three 52 = .ok (.istore 5, 2) := by decide +kernel
theorem dX2_three_54 : decode cX2_three 54 = .ok (.aload_n 0, 1) := by decide +kernel
theorem dX2_three_55 : decode cX2_three 55 = .ok (.getfield 13, 3) := by decide +kernel
theorem dX2_three_58 : decode cX2_three 58 = .ok (.iload 4, 2) := by decide +kernel
theorem dX2_three_60 : decode cX2_three 60 = .ok (.laload, 1) := by decide +kernel
theorem dX2_three_61 : decode cX2_three 61 = .ok (.aload_n 0, 1) := by decide +kernel
theorem dX2_three_62 : decode cX2_three 62 = .ok (.getfield 13, 3) := by decide +kernel
theorem dX2_three_65 : decode cX2_three 65 = .ok (.iload 5, 2) := by decide +kernel
theorem dX2_three_67 : decode cX2_three 67 = .ok (.laload, 1) := by decide +kernel
theorem dX2_three_68 : decode cX2_three 68 = .ok (.ladd, 1) := by decide +kernel
theorem dX2_three_69 : decode cX2_three 69 = .ok (.lstore 6, 2) := by decide +kernel
theorem dX2_three_71 : decode cX2_three 71 = .ok (.lload_n 2, 1) := by decide +kernel
theorem dX2_three_72 : decode cX2_three 72 = .ok (.lconst 0, 1) := by decide +kernel
theorem dX2_three_73 : decode cX2_three 73 = .ok (.lcmp, 1) := by decide +kernel
theorem dX2_three_74 : decode cX2_three 74 = .ok (.ifCond .lt 10, 3) := by decide +kernel
theorem dX2_three_77 : decode cX2_three 77 = .ok (.lload 6, 2) := by decide +kernel
theorem dX2_three_79 : decode cX2_three 79 = .ok (.lload_n 2, 1) := by decide +kernel
theorem dX2_three_80 : decode cX2_three 80 = .ok (.lcmp, 1) := by decide +kernel
theorem dX2_three_81 : decode cX2_three 81 = .ok (.ifCond .ge 6, 3) := by decide +kernel
theorem dX2_three_84 : decode cX2_three 84 = .ok (.lload 6, 2) := by decide +kernel
theorem dX2_three_86 : decode cX2_three 86 = .ok (.lstore_n 2, 1) := by decide +kernel
theorem dX2_three_87 : decode cX2_three 87 = .ok (.iload 5, 2) := by decide +kernel
theorem dX2_three_89 : decode cX2_three 89 = .ok (.iconst 1, 1) := by decide +kernel
theorem dX2_three_90 : decode cX2_three 90 = .ok (.isub, 1) := by decide +kernel
theorem dX2_three_91 : decode cX2_three 91 = .ok (.iload 5, 2) := by decide +kernel
theorem dX2_three_93 : decode cX2_three 93 = .ok (.iand, 1) := by decide +kernel
theorem dX2_three_94 : decode cX2_three 94 = .ok (.istore 8, 2) := by decide +kernel
theorem dX2_three_96 : decode cX2_three 96 = .ok (.iload 8, 2) := by decide +kernel
theorem dX2_three_98 : decode cX2_three 98 = .ok (.ifCond .le 55, 3) := by decide +kernel
theorem dX2_three_101 : decode cX2_three 101 = .ok (.aload_n 0, 1) := by decide +kernel
theorem dX2_three_102 : decode cX2_three 102 = .ok (.getfield 13, 3) := by decide +kernel
theorem dX2_three_105 : decode cX2_three 105 = .ok (.iload 4, 2) := by decide +kernel
theorem dX2_three_107 : decode cX2_three 107 = .ok (.laload, 1) := by decide +kernel
theorem dX2_three_108 : decode cX2_three 108 = .ok (.aload_n 0, 1) := by decide +kernel
theorem dX2_three_109 : decode cX2_three 109 = .ok (.getfield 13, 3) := by decide +kernel
theorem dX2_three_112 : decode cX2_three 112 = .ok (.iload 8, 2) := by decide +kernel
theorem dX2_three_114 : decode cX2_three 114 = .ok (.laload, 1) := by decide +kernel
theorem dX2_three_115 : decode cX2_three 115 = .ok (.ladd, 1) := by decide +kernel
theorem dX2_three_116 : decode cX2_three 116 = .ok (.aload_n 0, 1) := by decide +kernel
theorem dX2_three_117 : decode cX2_three 117 = .ok (.getfield 13, 3) := by decide +kernel
theorem dX2_three_120 : decode cX2_three 120 = .ok (.iload 5, 2) := by decide +kernel
theorem dX2_three_122 : decode cX2_three 122 = .ok (.iload 8, 2) := by decide +kernel
theorem dX2_three_124 : decode cX2_three 124 = .ok (.iconst (-1), 1) := by decide +kernel
theorem dX2_three_125 : decode cX2_three 125 = .ok (.ixor, 1) := by decide +kernel
theorem dX2_three_126 : decode cX2_three 126 = .ok (.iand, 1) := by decide +kernel
theorem dX2_three_127 : decode cX2_three 127 = .ok (.laload, 1) := by decide +kernel
theorem dX2_three_128 : decode cX2_three 128 = .ok (.ladd, 1) := by decide +kernel
theorem dX2_three_129 : decode cX2_three 129 = .ok (.lstore 6, 2) := by decide +kernel
theorem dX2_three_131 : decode cX2_three 131 = .ok (.lload 6, 2) := by decide +kernel
theorem dX2_three_133 : decode cX2_three 133 = .ok (.lload_n 2, 1) := by decide +kernel
theorem dX2_three_134 : decode cX2_three 134 = .ok (.lcmp, 1) := by decide +kernel
theorem dX2_three_135 : decode cX2_three 135 = .ok (.ifCond .ge 6, 3) := by decide +kernel
theorem dX2_three_138 : decode cX2_three 138 = .ok (.lload 6, 2) := by decide +kernel
theorem dX2_three_140 : decode cX2_three 140 = .ok (.lstore_n 2, 1) := by decide +kernel
theorem dX2_three_141 : decode cX2_three 141 = .ok (.iload 8, 2) := by decide +kernel
theorem dX2_three_143 : decode cX2_three 143 = .ok (.iconst 1, 1) := by decide +kernel
theorem dX2_three_144 : decode cX2_three 144 = .ok (.isub, 1) := by decide +kernel
theorem dX2_three_145 : decode cX2_three 145 = .ok (.iload 5, 2) := by decide +kernel
theorem dX2_three_147 : decode cX2_three 147 = .ok (.iand, 1) := by decide +kernel
theorem dX2_three_148 : decode cX2_three 148 = .ok (.istore 8, 2) := by decide +kernel
theorem dX2_three_150 : decode cX2_three 150 = .ok (.goto (-54), 3) := by decide +kernel
theorem dX2_three_153 : decode cX2_three 153 = .ok (.iload 4, 2) := by decide +kernel
theorem dX2_three_155 : decode cX2_three 155 = .ok (.iconst 1, 1) := by decide +kernel
theorem dX2_three_156 : decode cX2_three 156 = .ok (.isub, 1) := by decide +kernel
theorem dX2_three_157 : decode cX2_three 157 = .ok (.iload_n 1, 1) := by decide +kernel
theorem dX2_three_158 : decode cX2_three 158 = .ok (.iand, 1) := by decide +kernel
theorem dX2_three_159 : decode cX2_three 159 = .ok (.istore 4, 2) := by decide +kernel
theorem dX2_three_161 : decode cX2_three 161 = .ok (.goto (-120), 3) := by decide +kernel
theorem dX2_three_164 : decode cX2_three 164 = .ok (.aload_n 0, 1) := by decide +kernel
theorem dX2_three_165 : decode cX2_three 165 = .ok (.getfield 13, 3) := by decide +kernel
theorem dX2_three_168 : decode cX2_three 168 = .ok (.iload_n 1, 1) := by decide +kernel
theorem dX2_three_169 : decode cX2_three 169 = .ok (.lload_n 2, 1) := by decide +kernel
theorem dX2_three_170 : decode cX2_three 170 = .ok (.aload_n 0, 1) := by decide +kernel
theorem dX2_three_171 : decode cX2_three 171 = .ok (.iload_n 1, 1) := by decide +kernel
theorem dX2_three_172 : decode cX2_three 172 = .ok (.invokevirtual 27, 3) := by decide +kernel
theorem dX2_three_175 : decode cX2_three 175 = .ok (.ladd, 1) := by decide +kernel
theorem dX2_three_176 : decode cX2_three 176 = .ok (.lastore, 1) := by decide +kernel
theorem dX2_three_177 : decode cX2_three 177 = .ok (.iinc 1 1, 3) := by decide +kernel
theorem dX2_three_180 : decode cX2_three 180 = .ok (.goto (-178), 3) := by decide +kernel
theorem dX2_three_183 : decode cX2_three 183 = .ok (.aload_n 0, 1) := by decide +kernel
theorem dX2_three_184 : decode cX2_three 184 = .ok (.getfield 20, 3) := by decide +kernel
theorem dX2_three_187 : decode cX2_three 187 = .ok (.ifCond .ne 7, 3) := by decide +kernel
theorem dX2_three_190 : decode cX2_three 190 = .ok (.lconst 0, 1) := by decide +kernel
theorem dX2_three_191 : decode cX2_three 191 = .ok (.goto 16, 3) := by decide +kernel
theorem dX2_three_194 : decode cX2_three 194 = .ok (.aload_n 0, 1) := by decide +kernel
theorem dX2_three_195 : decode cX2_three 195 = .ok (.getfield 13, 3) := by decide +kernel
theorem dX2_three_198 : decode cX2_three 198 = .ok (.iconst 1, 1) := by decide +kernel
theorem dX2_three_199 : decode cX2_three 199 = .ok (.aload_n 0, 1) := by decide +kernel
theorem dX2_three_200 : decode cX2_three 200 = .ok (.getfield 20, 3) := by decide +kernel
theorem dX2_three_203 : decode cX2_three 203 = .ok (.ishl, 1) := by decide +kernel
theorem dX2_three_204 : decode cX2_three 204 = .ok (.iconst 1, 1) := by decide +kernel
theorem dX2_three_205 : decode cX2_three 205 = .ok (.isub, 1) := by decide +kernel
theorem dX2_three_206 : decode cX2_three 206 = .ok (.laload, 1) := by decide +kernel
theorem dX2_three_207 : decode cX2_three 207 = .ok (.lreturn, 1) := by decide +kernel
abbrev cX2_heaps : ByteArray := prog_4_method_8_code
def yX2_heaps : MethodName := ⟨RX2, "heaps", "()I"⟩
theorem dX2_heaps_0 : decode cX2_heaps 0 = .ok (.aload_n 0, 1) := by decide +kernel
theorem dX2_heaps_1 : decode cX2_heaps 1 = .ok (.getfield 20, 3) := by decide +kernel
theorem dX2_heaps_4 : decode cX2_heaps 4 = .ok (.ireturn, 1) := by decide +kernel
theorem q5 : (Jvm.Cond.initialized "MergeDeskModel") ∈ lw_all := lw_g (lw_at lw_m0 3 rfl) rfl
theorem q84 : (Jvm.Cond.instantiable "MergeDeskModel" (4 : Nat)) ∈ lw_all := lw_g (lw_at lw_m0 82 rfl) rfl
theorem q86 : (Jvm.Cond.instanceMethod ({ cls := "MergeDeskModel", name := "<init>", desc := "()V" } : Jvm.MethodName)) ∈ lw_all := lw_g (lw_at lw_m0 84 rfl) rfl
theorem q87 : (Jvm.Cond.code ({ cls := "MergeDeskModel", name := "<init>", desc := "()V" } : Jvm.MethodName) prog_4_method_1_code (1 : Nat) (Option.none : Option Jvm.ClassFile.FieldType)) ∈ lw_all := lw_g (lw_at lw_m0 85 rfl) rfl
theorem q88 : (Jvm.Cond.methodLink "MergeDeskModel" (1 : Nat) ({ cls := "java/lang/Object", name := "<init>", desc := "()V" } : Jvm.MethodName)) ∈ lw_all := lw_g (lw_at lw_m0 86 rfl) rfl
theorem q89 : (Jvm.Cond.fieldLink "MergeDeskModel" (7 : Nat) "MergeDeskModel" "w" "[I") ∈ lw_all := lw_g (lw_at lw_m0 87 rfl) rfl
theorem q90 : (Jvm.Cond.fieldLink "MergeDeskModel" (20 : Nat) "MergeDeskModel" "n" "I") ∈ lw_all := lw_g (lw_at lw_m0 88 rfl) rfl
theorem q91 : (Jvm.Cond.fieldLink "MergeDeskModel" (13 : Nat) "MergeDeskModel" "best" "[J") ∈ lw_all := lw_g (lw_at lw_m0 89 rfl) rfl
theorem q92 : (Jvm.Cond.fieldLink "MergeDeskModel" (17 : Nat) "MergeDeskModel" "row" "[J") ∈ lw_all := lw_g (lw_at lw_m0 90 rfl) rfl
theorem q93 : (Jvm.Cond.laysFinal "MergeDeskModel" "MergeDeskModel" "w" "[I") ∈ lw_all := lw_g (lw_at lw_m0 91 rfl) rfl
theorem q94 : (Jvm.Cond.soleField "MergeDeskModel" "w") ∈ lw_all := lw_g (lw_at lw_m0 92 rfl) rfl
theorem q95 : (Jvm.Cond.lays "MergeDeskModel" "MergeDeskModel" "n" "I") ∈ lw_all := lw_g (lw_at lw_m0 93 rfl) rfl
theorem q96 : (Jvm.Cond.soleField "MergeDeskModel" "n") ∈ lw_all := lw_g (lw_at lw_m0 94 rfl) rfl
theorem q97 : (Jvm.Cond.laysFinal "MergeDeskModel" "MergeDeskModel" "best" "[J") ∈ lw_all := lw_g (lw_at lw_m0 95 rfl) rfl
theorem q98 : (Jvm.Cond.soleField "MergeDeskModel" "best") ∈ lw_all := lw_g (lw_at lw_m0 96 rfl) rfl
theorem q99 : (Jvm.Cond.laysFinal "MergeDeskModel" "MergeDeskModel" "row" "[J") ∈ lw_all := lw_g (lw_at lw_m0 97 rfl) rfl
theorem q100 : (Jvm.Cond.soleField "MergeDeskModel" "row") ∈ lw_all := lw_g (lw_at lw_m0 98 rfl) rfl
theorem q101 : (Jvm.Cond.superclass "MergeDeskModel" "java/lang/Object") ∈ lw_all := lw_g (lw_at lw_m0 99 rfl) rfl
theorem q103 : (Jvm.Cond.instanceMethod ({ cls := "MergeDeskModel", name := "put", desc := "(I)Z" } : Jvm.MethodName)) ∈ lw_all := lw_g (lw_at lw_m0 101 rfl) rfl
theorem q104 : (Jvm.Cond.selects "MergeDeskModel" ({ cls := "MergeDeskModel", name := "put", desc := "(I)Z" } : Jvm.MethodName) ({ cls := "MergeDeskModel", name := "put", desc := "(I)Z" } : Jvm.MethodName)) ∈ lw_all := lw_g (lw_at lw_m0 102 rfl) rfl
theorem q105 : (Jvm.Cond.code ({ cls := "MergeDeskModel", name := "put", desc := "(I)Z" } : Jvm.MethodName) prog_4_method_2_code (2 : Nat) (Option.some Jvm.ClassFile.FieldType.boolean)) ∈ lw_all := lw_g (lw_at lw_m0 103 rfl) rfl
theorem q106 : (Jvm.Cond.constant "MergeDeskModel" (24 : Nat) (65535 : Int32)) ∈ lw_all := lw_g (lw_at lw_m0 104 rfl) rfl
theorem q108 : (Jvm.Cond.instanceMethod ({ cls := "MergeDeskModel", name := "drop", desc := "()Z" } : Jvm.MethodName)) ∈ lw_all := lw_g (lw_at lw_m0 106 rfl) rfl
theorem q109 : (Jvm.Cond.selects "MergeDeskModel" ({ cls := "MergeDeskModel", name := "drop", desc := "()Z" } : Jvm.MethodName) ({ cls := "MergeDeskModel", name := "drop", desc := "()Z" } : Jvm.MethodName)) ∈ lw_all := lw_g (lw_at lw_m0 107 rfl) rfl
theorem q110 : (Jvm.Cond.code ({ cls := "MergeDeskModel", name := "drop", desc := "()Z" } : Jvm.MethodName) prog_4_method_3_code (1 : Nat) (Option.some Jvm.ClassFile.FieldType.boolean)) ∈ lw_all := lw_g (lw_at lw_m0 108 rfl) rfl
theorem q112 : (Jvm.Cond.instanceMethod ({ cls := "MergeDeskModel", name := "any", desc := "()J" } : Jvm.MethodName)) ∈ lw_all := lw_g (lw_at lw_m0 110 rfl) rfl
theorem q113 : (Jvm.Cond.selects "MergeDeskModel" ({ cls := "MergeDeskModel", name := "any", desc := "()J" } : Jvm.MethodName) ({ cls := "MergeDeskModel", name := "any", desc := "()J" } : Jvm.MethodName)) ∈ lw_all := lw_g (lw_at lw_m0 111 rfl) rfl
theorem q114 : (Jvm.Cond.code ({ cls := "MergeDeskModel", name := "any", desc := "()J" } : Jvm.MethodName) prog_4_method_5_code (7 : Nat) (Option.some Jvm.ClassFile.FieldType.long)) ∈ lw_all := lw_g (lw_at lw_m0 112 rfl) rfl
theorem q115 : (Jvm.Cond.constantLong "MergeDeskModel" (25 : Nat) (-1 : Int64)) ∈ lw_all := lw_g (lw_at lw_m0 113 rfl) rfl
theorem q116 : (Jvm.Cond.methodLink "MergeDeskModel" (27 : Nat) ({ cls := "MergeDeskModel", name := "sum", desc := "(I)J" } : Jvm.MethodName)) ∈ lw_all := lw_g (lw_at lw_m0 114 rfl) rfl
theorem q117 : (Jvm.Cond.privateMethod ({ cls := "MergeDeskModel", name := "sum", desc := "(I)J" } : Jvm.MethodName)) ∈ lw_tbl := lw_at lw_m0 115 rfl
theorem q118 : (Jvm.Cond.instanceMethod ({ cls := "MergeDeskModel", name := "sum", desc := "(I)J" } : Jvm.MethodName)) ∈ lw_all := lw_g (lw_at lw_m0 116 rfl) rfl
theorem q119 : (Jvm.Cond.code ({ cls := "MergeDeskModel", name := "sum", desc := "(I)J" } : Jvm.MethodName) prog_4_method_4_code (5 : Nat) (Option.some Jvm.ClassFile.FieldType.long)) ∈ lw_all := lw_g (lw_at lw_m0 117 rfl) rfl
theorem q121 : (Jvm.Cond.instanceMethod ({ cls := "MergeDeskModel", name := "beside", desc := "()J" } : Jvm.MethodName)) ∈ lw_all := lw_g (lw_at lw_m0 119 rfl) rfl
theorem q122 : (Jvm.Cond.selects "MergeDeskModel" ({ cls := "MergeDeskModel", name := "beside", desc := "()J" } : Jvm.MethodName) ({ cls := "MergeDeskModel", name := "beside", desc := "()J" } : Jvm.MethodName)) ∈ lw_all := lw_g (lw_at lw_m0 120 rfl) rfl
theorem q123 : (Jvm.Cond.code ({ cls := "MergeDeskModel", name := "beside", desc := "()J" } : Jvm.MethodName) prog_4_method_6_code (10 : Nat) (Option.some Jvm.ClassFile.FieldType.long)) ∈ lw_all := lw_g (lw_at lw_m0 121 rfl) rfl
theorem q125 : (Jvm.Cond.instanceMethod ({ cls := "MergeDeskModel", name := "three", desc := "()J" } : Jvm.MethodName)) ∈ lw_all := lw_g (lw_at lw_m0 123 rfl) rfl
theorem q126 : (Jvm.Cond.selects "MergeDeskModel" ({ cls := "MergeDeskModel", name := "three", desc := "()J" } : Jvm.MethodName) ({ cls := "MergeDeskModel", name := "three", desc := "()J" } : Jvm.MethodName)) ∈ lw_all := lw_g (lw_at lw_m0 124 rfl) rfl
theorem q127 : (Jvm.Cond.code ({ cls := "MergeDeskModel", name := "three", desc := "()J" } : Jvm.MethodName) prog_4_method_7_code (9 : Nat) (Option.some Jvm.ClassFile.FieldType.long)) ∈ lw_all := lw_g (lw_at lw_m0 125 rfl) rfl
theorem q129 : (Jvm.Cond.instanceMethod ({ cls := "MergeDeskModel", name := "heaps", desc := "()I" } : Jvm.MethodName)) ∈ lw_all := lw_g (lw_at lw_m0 127 rfl) rfl
theorem q130 : (Jvm.Cond.selects "MergeDeskModel" ({ cls := "MergeDeskModel", name := "heaps", desc := "()I" } : Jvm.MethodName) ({ cls := "MergeDeskModel", name := "heaps", desc := "()I" } : Jvm.MethodName)) ∈ lw_all := lw_g (lw_at lw_m0 128 rfl) rfl
theorem q131 : (Jvm.Cond.code ({ cls := "MergeDeskModel", name := "heaps", desc := "()I" } : Jvm.MethodName) prog_4_method_8_code (1 : Nat) (Option.some Jvm.ClassFile.FieldType.int)) ∈ lw_all := lw_g (lw_at lw_m0 129 rfl) rfl
theorem in_X2 : ∀ w ∈ wsX20, w ∈ lw_all := lw_in wsX20 [93, 95, 97, 99] (by decide +kernel) (by decide +kernel)
end
section
/-! the law's own entry -/
set_option maxRecDepth 100000
abbrev cL_law : ByteArray := code
theorem dL_law_0 : decode cL_law 0 = .ok (.new 7, 3) := by decide +kernel
theorem dL_law_3 : decode cL_law 3 = .ok (.dup, 1) := by decide +kernel
theorem dL_law_4 : decode cL_law 4 = .ok (.invokespecial 9, 3) := by decide +kernel
theorem dL_law_7 : decode cL_law 7 = .ok (.astore_n 1, 1) := by decide +kernel
theorem dL_law_8 : decode cL_law 8 = .ok (.new 10, 3) := by decide +kernel
theorem dL_law_11 : decode cL_law 11 = .ok (.dup, 1) := by decide +kernel
theorem dL_law_12 : decode cL_law 12 = .ok (.invokespecial 12, 3) := by decide +kernel
theorem dL_law_15 : decode cL_law 15 = .ok (.astore_n 2, 1) := by decide +kernel
theorem dL_law_16 : decode cL_law 16 = .ok (.iconst 0, 1) := by decide +kernel
theorem dL_law_17 : decode cL_law 17 = .ok (.istore_n 3, 1) := by decide +kernel
theorem dL_law_18 : decode cL_law 18 = .ok (.iload_n 3, 1) := by decide +kernel
theorem dL_law_19 : decode cL_law 19 = .ok (.aload_n 0, 1) := by decide +kernel
theorem dL_law_20 : decode cL_law 20 = .ok (.arraylength, 1) := by decide +kernel
theorem dL_law_21 : decode cL_law 21 = .ok (.iconst 2, 1) := by decide +kernel
theorem dL_law_22 : decode cL_law 22 = .ok (.isub, 1) := by decide +kernel
theorem dL_law_23 : decode cL_law 23 = .ok (.if_icmp .gt 146, 3) := by decide +kernel
theorem dL_law_26 : decode cL_law 26 = .ok (.aload_n 0, 1) := by decide +kernel
theorem dL_law_27 : decode cL_law 27 = .ok (.iload_n 3, 1) := by decide +kernel
theorem dL_law_28 : decode cL_law 28 = .ok (.iaload, 1) := by decide +kernel
theorem dL_law_29 : decode cL_law 29 = .ok (.bipush 7, 2) := by decide +kernel
theorem dL_law_31 : decode cL_law 31 = .ok (.iand, 1) := by decide +kernel
theorem dL_law_32 : decode cL_law 32 = .ok (.tableswitch 131 0 5 #[40, 63, 76, 90, 104, 118], 40) := by decide +kernel
theorem dL_law_72 : decode cL_law 72 = .ok (.aload_n 1, 1) := by decide +kernel
theorem dL_law_73 : decode cL_law 73 = .ok (.aload_n 0, 1) := by decide +kernel
theorem dL_law_74 : decode cL_law 74 = .ok (.iload_n 3, 1) := by decide +kernel
theorem dL_law_75 : decode cL_law 75 = .ok (.iconst 1, 1) := by decide +kernel
theorem dL_law_76 : decode cL_law 76 = .ok (.iadd, 1) := by decide +kernel
theorem dL_law_77 : decode cL_law 77 = .ok (.iaload, 1) := by decide +kernel
theorem dL_law_78 : decode cL_law 78 = .ok (.invokevirtual 13, 3) := by decide +kernel
theorem dL_law_81 : decode cL_law 81 = .ok (.aload_n 2, 1) := by decide +kernel
theorem dL_law_82 : decode cL_law 82 = .ok (.aload_n 0, 1) := by decide +kernel
theorem dL_law_83 : decode cL_law 83 = .ok (.iload_n 3, 1) := by decide +kernel
theorem dL_law_84 : decode cL_law 84 = .ok (.iconst 1, 1) := by decide +kernel
theorem dL_law_85 : decode cL_law 85 = .ok (.iadd, 1) := by decide +kernel
theorem dL_law_86 : decode cL_law 86 = .ok (.iaload, 1) := by decide +kernel
theorem dL_law_87 : decode cL_law 87 = .ok (.invokevirtual 17, 3) := by decide +kernel
theorem dL_law_90 : decode cL_law 90 = .ok (.if_icmp .eq 73, 3) := by decide +kernel
theorem dL_law_93 : decode cL_law 93 = .ok (.iconst 0, 1) := by decide +kernel
theorem dL_law_94 : decode cL_law 94 = .ok (.ireturn, 1) := by decide +kernel
theorem dL_law_95 : decode cL_law 95 = .ok (.aload_n 1, 1) := by decide +kernel
theorem dL_law_96 : decode cL_law 96 = .ok (.invokevirtual 18, 3) := by decide +kernel
theorem dL_law_99 : decode cL_law 99 = .ok (.aload_n 2, 1) := by decide +kernel
theorem dL_law_100 : decode cL_law 100 = .ok (.invokevirtual 22, 3) := by decide +kernel
theorem dL_law_103 : decode cL_law 103 = .ok (.if_icmp .eq 60, 3) := by decide +kernel
theorem dL_law_106 : decode cL_law 106 = .ok (.iconst 0, 1) := by decide +kernel
theorem dL_law_107 : decode cL_law 107 = .ok (.ireturn, 1) := by decide +kernel
theorem dL_law_108 : decode cL_law 108 = .ok (.aload_n 1, 1) := by decide +kernel
theorem dL_law_109 : decode cL_law 109 = .ok (.invokevirtual 23, 3) := by decide +kernel
theorem dL_law_112 : decode cL_law 112 = .ok (.aload_n 2, 1) := by decide +kernel
theorem dL_law_113 : decode cL_law 113 = .ok (.invokevirtual 27, 3) := by decide +kernel
theorem dL_law_116 : decode cL_law 116 = .ok (.lcmp, 1) := by decide +kernel
theorem dL_law_117 : decode cL_law 117 = .ok (.ifCond .eq 46, 3) := by decide +kernel
theorem dL_law_120 : decode cL_law 120 = .ok (.iconst 0, 1) := by decide +kernel
theorem dL_law_121 : decode cL_law 121 = .ok (.ireturn, 1) := by decide +kernel
theorem dL_law_122 : decode cL_law 122 = .ok (.aload_n 1, 1) := by decide +kernel
theorem dL_law_123 : decode cL_law 123 = .ok (.invokevirtual 28, 3) := by decide +kernel
theorem dL_law_126 : decode cL_law 126 = .ok (.aload_n 2, 1) := by decide +kernel
theorem dL_law_127 : decode cL_law 127 = .ok (.invokevirtual 31, 3) := by decide +kernel
theorem dL_law_130 : decode cL_law 130 = .ok (.lcmp, 1) := by decide +kernel
theorem dL_law_131 : decode cL_law 131 = .ok (.ifCond .eq 32, 3) := by decide +kernel
theorem dL_law_134 : decode cL_law 134 = .ok (.iconst 0, 1) := by decide +kernel
theorem dL_law_135 : decode cL_law 135 = .ok (.ireturn, 1) := by decide +kernel
theorem dL_law_136 : decode cL_law 136 = .ok (.aload_n 1, 1) := by decide +kernel
theorem dL_law_137 : decode cL_law 137 = .ok (.invokevirtual 32, 3) := by decide +kernel
theorem dL_law_140 : decode cL_law 140 = .ok (.aload_n 2, 1) := by decide +kernel
theorem dL_law_141 : decode cL_law 141 = .ok (.invokevirtual 35, 3) := by decide +kernel
theorem dL_law_144 : decode cL_law 144 = .ok (.lcmp, 1) := by decide +kernel
theorem dL_law_145 : decode cL_law 145 = .ok (.ifCond .eq 18, 3) := by decide +kernel
theorem dL_law_148 : decode cL_law 148 = .ok (.iconst 0, 1) := by decide +kernel
theorem dL_law_149 : decode cL_law 149 = .ok (.ireturn, 1) := by decide +kernel
theorem dL_law_150 : decode cL_law 150 = .ok (.aload_n 1, 1) := by decide +kernel
theorem dL_law_151 : decode cL_law 151 = .ok (.invokevirtual 36, 3) := by decide +kernel
theorem dL_law_154 : decode cL_law 154 = .ok (.aload_n 2, 1) := by decide +kernel
theorem dL_law_155 : decode cL_law 155 = .ok (.invokevirtual 40, 3) := by decide +kernel
theorem dL_law_158 : decode cL_law 158 = .ok (.if_icmp .eq 5, 3) := by decide +kernel
theorem dL_law_161 : decode cL_law 161 = .ok (.iconst 0, 1) := by decide +kernel
theorem dL_law_162 : decode cL_law 162 = .ok (.ireturn, 1) := by decide +kernel
theorem dL_law_163 : decode cL_law 163 = .ok (.iinc 3 2, 3) := by decide +kernel
theorem dL_law_166 : decode cL_law 166 = .ok (.goto (-148), 3) := by decide +kernel
theorem dL_law_169 : decode cL_law 169 = .ok (.iconst 1, 1) := by decide +kernel
theorem dL_law_170 : decode cL_law 170 = .ok (.ireturn, 1) := by decide +kernel
end
section
abbrev vwCl : List vw_C := [(RX0, TX0, 4), (RX1, TX1, 2), (RX2, TX2, 4)]
/-- arrays by their natural numbers -/
def lA (g : Nat → Nat) : Nat → Int64 := fun i => lN (g i)
def iA (g : Nat → Nat) : Nat → Int32 := fun i => nI (g i)
def nu (g : Nat → Nat) (k v : Nat) : Nat → Nat := fun j => if j = k then v else g j
theorem nu_s (g : Nat → Nat) (k v : Nat) : nu g k v k = v := by simp [nu]
theorem nu_n {g : Nat → Nat} {k v j : Nat} (h : j ≠ k) : nu g k v j = g j := by simp [nu, h]
theorem lA_at {g : Nat → Nat} {k : Nat} (h : k < 2 ^ 31) : lA g (nI k).toNatClampNeg = lN (g k) := by rw [nI_clamp h]; rfl
theorem iA_at {g : Nat → Nat} {k : Nat} (h : k < 2 ^ 31) : iA g (nI k).toNatClampNeg = nI (g k) := by rw [nI_clamp h]; rfl
theorem lA_up {g : Nat → Nat} {k v : Nat} (h : k < 2 ^ 31) : vp_updL (lA g) (nI k).toNatClampNeg (lN v) = lA (nu g k v) := by
  rw [nI_clamp h]
  funext j
  by_cases q : j = k
  · simp [vp_updL, lA, nu, q]
  · simp [vp_updL, lA, nu, q]
theorem iA_up {g : Nat → Nat} {k v : Nat} (h : k < 2 ^ 31) : upd (iA g) (nI k).toNatClampNeg (nI v) = iA (nu g k v) := by
  rw [nI_clamp h]
  funext j
  by_cases q : j = k
  · simp [upd, iA, nu, q]
  · simp [upd, iA, nu, q]
theorem ci_le {a b : Nat} (h : nI a ≤ nI b) (ha : a < 2 ^ 31) (hb : b < 2 ^ 31) : a ≤ b := (nI_leI ha hb).mp h
theorem ci_nle {a b : Nat} (h : ¬ nI a ≤ nI b) (ha : a < 2 ^ 31) (hb : b < 2 ^ 31) : b < a := by
  rcases Nat.lt_or_ge b a with q | q
  · exact q
  · exact absurd ((nI_leI ha hb).mpr q) h
theorem ci_lt {a b : Nat} (h : nI a < nI b) (ha : a < 2 ^ 31) (hb : b < 2 ^ 31) : a < b := (nI_ltI ha hb).mp h
theorem ci_nlt {a b : Nat} (h : ¬ nI a < nI b) (ha : a < 2 ^ 31) (hb : b < 2 ^ 31) : b ≤ a := by
  rcases Nat.lt_or_ge a b with q | q
  · exact absurd ((nI_ltI ha hb).mpr q) h
  · exact q
theorem ci_eq {a b : Nat} (h : nI a = nI b) (ha : a < 2 ^ 31) (hb : b < 2 ^ 31) : a = b := (nI_eq ha hb).mp h
theorem ci_ne {a b : Nat} (h : ¬ nI a = nI b) (ha : a < 2 ^ 31) (hb : b < 2 ^ 31) : a ≠ b := fun q => h (by rw [q])
theorem cl_le {a b : Nat} (h : lg_cmp (lN a) (lN b) ≤ 0) (ha : a < 2 ^ 62) (hb : b < 2 ^ 62) : a ≤ b := (pk_lLE (by omega) (by omega)).mp ((lg_cmp_le _ _).mp h)
theorem cl_nle {a b : Nat} (h : ¬ lg_cmp (lN a) (lN b) ≤ 0) (ha : a < 2 ^ 62) (hb : b < 2 ^ 62) : b < a := by
  rcases Nat.lt_or_ge b a with q | q
  · exact q
  · exact absurd ((lg_cmp_le _ _).mpr ((pk_lLE (by omega) (by omega)).mpr q)) h
theorem cl_lt {a b : Nat} (h : lg_cmp (lN a) (lN b) < 0) (ha : a < 2 ^ 62) (hb : b < 2 ^ 62) : a < b := (pk_lLT (by omega) (by omega)).mp ((lg_cmp_lt _ _).mp h)
theorem cl_nlt {a b : Nat} (h : ¬ lg_cmp (lN a) (lN b) < 0) (ha : a < 2 ^ 62) (hb : b < 2 ^ 62) : b ≤ a := by
  rcases Nat.lt_or_ge a b with q | q
  · exact absurd ((lg_cmp_lt _ _).mpr ((pk_lLT (by omega) (by omega)).mpr q)) h
  · exact q
theorem cl_ge {a b : Nat} (h : 0 ≤ lg_cmp (lN a) (lN b)) (ha : a < 2 ^ 62) (hb : b < 2 ^ 62) : b ≤ a := (pk_lLE (by omega) (by omega)).mp ((lg_cmp_ge _ _).mp h)
theorem cl_nge {a b : Nat} (h : ¬ 0 ≤ lg_cmp (lN a) (lN b)) (ha : a < 2 ^ 62) (hb : b < 2 ^ 62) : a < b := by
  rcases Nat.lt_or_ge a b with q | q
  · exact q
  · exact absurd ((lg_cmp_ge _ _).mpr ((pk_lLE (by omega) (by omega)).mpr q)) h
theorem cl_m1 (a : Nat) (ha : a < 2 ^ 62) : ¬ lg_cmp (lN a) (lN 0) < 0 := fun h => by
  have := cl_lt h ha (by omega)
  omega
theorem cl_m1' : lg_cmp (-1) (lN 0) < 0 := by decide
theorem inc_1 (a : Nat) : nI a + Int32.ofInt 1 = nI (a + 1) := nI_1 a
theorem inc_2 (a : Nat) : nI a + Int32.ofInt 2 = nI (a + 2) := nI_add a 2
theorem inc_m {a : Nat} (h : 0 < a) : nI a + Int32.ofInt (-1) = nI (a - 1) := sb_m1 h
theorem in_nI {n N : Nat} (h : n < N) (hN : N < 2 ^ 31) : vp_in (nI n) N := vp_in_nI h hN
section WROWS
variable {p : Program} {l : Launch} {e : Env} {R : Room} {s : State} {m : MethodId} {args : Array Value} {below : List Frame} {meth : Method} {c : Code} {H : Heap} {locs : List Loc} {cells slots : Nat} {Q : State → Prop} {pc : Nat} {ls : Array Slot} {rest : List Value}
theorem w_i {x y : Int32} (h : x = y) (k : W p l e R s m args below meth c H locs cells slots Q (F0 m pc ls (.int y :: rest))) : W p l e R s m args below meth c H locs cells slots Q (F0 m pc ls (.int x :: rest)) := by
  rw [h]; exact k
theorem w_l {x y : Int64} (h : x = y) (k : W p l e R s m args below meth c H locs cells slots Q (F0 m pc ls (.long y :: rest))) : W p l e R s m args below meth c H locs cells slots Q (F0 m pc ls (.long x :: rest)) := by
  rw [h]; exact k
end WROWS
theorem s_l : ∀ n, n < 32 → ((nI n &&& 31).toBitVec.smod 32).toNat = n := by decide +kernel
theorem nx_and (a b : Nat) : nI a &&& nI b = nI (a &&& b) := by
  apply Int32.toBitVec_inj.1
  show BitVec.ofNat 32 a &&& BitVec.ofNat 32 b = BitVec.ofNat 32 (a &&& b)
  apply BitVec.eq_of_getLsbD_eq
  intro i hi
  simp [hi]
theorem nx_xor (a b : Nat) : nI a ^^^ nI b = nI (a ^^^ b) := by
  apply Int32.toBitVec_inj.1
  show BitVec.ofNat 32 a ^^^ BitVec.ofNat 32 b = BitVec.ofNat 32 (a ^^^ b)
  apply BitVec.eq_of_getLsbD_eq
  intro i hi
  simp [hi]
/-- s without p -/
theorem nx_not {s p : Nat} (hs : s < 2 ^ 32) (hp : p &&& s = p) : nI s &&& (nI p ^^^ (-1)) = nI (s - p) := by
  have h1 : (-1 : Int32) = nI (2 ^ 32 - 1) := by decide
  have h2 : s &&& (p ^^^ (2 ^ 32 - 1)) = s ^^^ p := by
    apply Nat.eq_of_testBit_eq
    intro i
    have h3 := congrArg (fun x => x.testBit i) hp
    simp only [Nat.testBit_and] at h3
    simp only [Nat.testBit_and, Nat.testBit_xor, Nat.testBit_two_pow_sub_one]
    by_cases hi : i < 32
    · cases hs1 : s.testBit i <;> cases hp1 : p.testBit i <;> simp [hs1, hp1, hi] at h3 ⊢
    · have hs2 : s.testBit i = false := Nat.testBit_lt_two_pow (Nat.lt_of_lt_of_le hs (Nat.pow_le_pow_right (by omega) (by omega)))
      cases hp1 : p.testBit i <;> simp [hs2, hp1] at h3 ⊢
  have h4 : p &&& (s ^^^ p) = 0 := by
    apply Nat.eq_of_testBit_eq
    intro i
    have h3 := congrArg (fun x => x.testBit i) hp
    simp only [Nat.testBit_and] at h3
    simp only [Nat.testBit_and, Nat.testBit_xor, Nat.zero_testBit]
    cases hs1 : s.testBit i <;> cases hp1 : p.testBit i <;> simp [hs1, hp1] at h3 ⊢
  have h5 : p ||| (s ^^^ p) = s := by
    apply Nat.eq_of_testBit_eq
    intro i
    have h3 := congrArg (fun x => x.testBit i) hp
    simp only [Nat.testBit_and] at h3
    simp only [Nat.testBit_or, Nat.testBit_xor]
    cases hs1 : s.testBit i <;> cases hp1 : p.testBit i <;> simp [hs1, hp1] at h3 ⊢
  rw [h1, nx_xor, nx_and, h2]
  have h6 := mk_or h4
  rw [h5] at h6
  congr 1
  omega
theorem mk_sub {s p : Nat} (hp : p &&& s = p) : p &&& (s - p) = 0 ∧ p ||| (s - p) = s ∧ (s - p) &&& s = s - p ∧ p ≤ s := by
  have h4 : p &&& (s ^^^ p) = 0 := by
    apply Nat.eq_of_testBit_eq
    intro i
    have h3 := congrArg (fun x => x.testBit i) hp
    simp only [Nat.testBit_and] at h3
    simp only [Nat.testBit_and, Nat.testBit_xor, Nat.zero_testBit]
    cases hs1 : s.testBit i <;> cases hp1 : p.testBit i <;> simp [hs1, hp1] at h3 ⊢
  have h5 : p ||| (s ^^^ p) = s := by
    apply Nat.eq_of_testBit_eq
    intro i
    have h3 := congrArg (fun x => x.testBit i) hp
    simp only [Nat.testBit_and] at h3
    simp only [Nat.testBit_or, Nat.testBit_xor]
    cases hs1 : s.testBit i <;> cases hp1 : p.testBit i <;> simp [hs1, hp1] at h3 ⊢
  have h7 : (s ^^^ p) &&& s = s ^^^ p := by
    apply Nat.eq_of_testBit_eq
    intro i
    have h3 := congrArg (fun x => x.testBit i) hp
    simp only [Nat.testBit_and] at h3
    simp only [Nat.testBit_and, Nat.testBit_xor]
    cases hs1 : s.testBit i <;> cases hp1 : p.testBit i <;> simp [hs1, hp1] at h3 ⊢
  have h6 := mk_or h4
  rw [h5] at h6
  have h8 : s - p = s ^^^ p := by omega
  rw [h8]
  exact ⟨h4, h5, h7, by omega⟩
/-- parts of s, from what lies apart -/
theorem mk_part {p q s : Nat} (hd : p &&& q = 0) (ho : p ||| q = s) : p &&& s = p ∧ q = s - p := by
  have h1 := mk_or hd
  refine ⟨?_, by omega⟩
  apply Nat.eq_of_testBit_eq
  intro i
  rw [← ho]
  simp only [Nat.testBit_and, Nat.testBit_or]
  cases p.testBit i <;> simp
/-- the next lower part of s -/
theorem mk_next : ∀ (s p q : Nat), p &&& s = p → q &&& s = q → q < p → q ≤ (p - 1) &&& s := by
  intro s
  induction s using Nat.strongRecOn with
  | ind s ih =>
    intro p q hp hq hlt
    rcases Nat.eq_zero_or_pos s with rfl | h0
    · rw [Nat.and_zero] at hp; omega
    · have hp2 : p / 2 &&& s / 2 = p / 2 := by rw [← Nat.and_div_two, hp]
      have hq2 : q / 2 &&& s / 2 = q / 2 := by rw [← Nat.and_div_two, hq]
      have hm : ((p - 1) &&& s) / 2 = (p - 1) / 2 &&& s / 2 := Nat.and_div_two
      have hqm : q % 2 = 1 → s % 2 = 1 := fun h => by
        rw [← hq] at h
        exact (Nat.and_mod_two_eq_one.mp h).2
      rcases Nat.mod_two_eq_zero_or_one p with h1 | h1
      · have h3 : (p - 1) / 2 = p / 2 - 1 := by omega
        rw [h3] at hm
        have h4 := ih (s / 2) (by omega) (p / 2) (q / 2) hp2 hq2 (by omega)
        rw [← hm] at h4
        rcases Nat.mod_two_eq_zero_or_one q with h5 | h5
        · omega
        · have h6 : ((p - 1) &&& s) % 2 = 1 := Nat.and_mod_two_eq_one.mpr ⟨by omega, hqm h5⟩
          omega
      · have h3 : (p - 1) / 2 = p / 2 := by omega
        rw [h3, hp2] at hm
        omega
theorem mk_and_sub (a s : Nat) : (a &&& s) &&& s = a &&& s := by rw [Nat.and_assoc, Nat.and_self]
end
section
/-! THE HEAP, plain -/
def hp_ok (g : Nat → Nat) (n : Nat) : Prop := ∀ i, 0 < i → i < n → g ((i - 1) / 2) ≤ g i
def mk_flt (f : Nat → Bool) (g : Nat → Nat) : Nat → List Nat
  | 0 => []
  | n + 1 => if f n then g n :: mk_flt f g n else mk_flt f g n
theorem mk_flt_congr {f f' : Nat → Bool} {g g' : Nat → Nat} : ∀ {n : Nat}, (∀ i, i < n → f i = f' i) → (∀ i, i < n → f i = true → g i = g' i) → mk_flt f g n = mk_flt f' g' n := by
  intro n
  induction n with
  | zero => intro _ _; rfl
  | succ n ih =>
    intro h1 h2
    have h3 := ih (fun i hi => h1 i (by omega)) (fun i hi => h2 i (by omega))
    simp only [mk_flt]
    rw [h3, ← h1 n (by omega)]
    cases hf : f n
    · rfl
    · simp only [if_true]; rw [h2 n (by omega) hf]
theorem mk_flt_all (g : Nat → Nat) : ∀ n, mk_flt (fun _ => true) g n = mk_all g n := by
  intro n
  induction n with
  | zero => rfl
  | succ n ih => simp [mk_flt, mk_all, ih]
theorem mk_flt_out {f : Nat → Bool} {g : Nat → Nat} {i : Nat} : ∀ {n : Nat}, i < n → f i = true → (mk_flt f g n).Perm (g i :: mk_flt (fun j => f j && decide (j ≠ i)) g n) := by
  intro n
  induction n with
  | zero => intro h; omega
  | succ n ih =>
    intro h hf
    by_cases e : i = n
    · subst e
      have h3 : mk_flt (fun j => f j && decide (j ≠ i)) g i = mk_flt f g i := mk_flt_congr (fun j hj => by simp [show j ≠ i by omega]) (fun j _ _ => rfl)
      simp only [mk_flt]
      rw [if_pos hf, if_neg (by simp), h3]
    · have h3 := ih (by omega) hf
      have e2 : n ≠ i := fun q => e q.symm
      simp only [mk_flt]
      by_cases hfn : f n = true
      · rw [if_pos hfn, if_pos (by simp [hfn, e2])]
        exact (h3.cons (g n)).trans (List.Perm.swap _ _ _)
      · rw [if_neg hfn, if_neg (by simp [hfn])]
        exact h3
theorem mk_all_out {g : Nat → Nat} {i n : Nat} (h : i < n) : (mk_all g n).Perm (g i :: mk_flt (fun j => decide (j ≠ i)) g n) := by
  rw [← mk_flt_all]
  refine (mk_flt_out (f := fun _ => true) h rfl).trans ?_
  simp
theorem mk_all_congr {g g' : Nat → Nat} {n : Nat} (h : ∀ i, i < n → g i = g' i) : mk_all g n = mk_all g' n := by
  rw [← mk_flt_all, ← mk_flt_all]
  exact mk_flt_congr (fun _ _ => rfl) (fun i hi _ => h i hi)
theorem mk_all_nu {g : Nat → Nat} {i v n : Nat} (h : i < n) : (mk_all (nu g i v) n).Perm (v :: mk_flt (fun j => decide (j ≠ i)) g n) := by
  refine (mk_all_out h).trans ?_
  rw [nu_s]
  refine List.Perm.cons _ ?_
  rw [mk_flt_congr (f' := fun j => decide (j ≠ i)) (g' := g) (fun _ _ => rfl) (fun j _ hj => nu_n (by simpa using hj))]
theorem mk_all_swap {g : Nat → Nat} {i j v n : Nat} (hi : i < n) (hj : j < n) (hij : i ≠ j) : (mk_all (nu (nu g i (g j)) j v) n).Perm (mk_all (nu g i v) n) := by
  refine (mk_all_nu hj).trans ?_
  refine ((mk_flt_out (f := fun x => decide (x ≠ j)) hi (by simpa using hij)).cons v).trans ?_
  rw [nu_s]
  refine List.Perm.trans ?_ (mk_all_nu hi).symm
  refine List.Perm.cons _ ?_
  refine List.Perm.trans ?_ (mk_flt_out (f := fun x => decide (x ≠ i)) hj (by simpa using (Ne.symm hij))).symm
  refine List.Perm.cons _ ?_
  rw [mk_flt_congr (f' := fun x => decide (x ≠ i) && decide (x ≠ j)) (g' := g) (fun x _ => Bool.and_comm _ _) (fun x _ hx => nu_n (by simp at hx; exact hx.2))]
theorem mk_all_mem {g : Nat → Nat} : ∀ {n : Nat} {x : Nat}, x ∈ mk_all g n → ∃ i, i < n ∧ x = g i := by
  intro n
  induction n with
  | zero => intro x h; cases h
  | succ n ih =>
    intro x h
    rcases List.mem_cons.mp h with rfl | h
    · exact ⟨n, Nat.lt_succ_self n, rfl⟩
    · obtain ⟨i, h1, h2⟩ := ih h
      exact ⟨i, by omega, h2⟩
theorem mk_all_in {g : Nat → Nat} : ∀ {n i : Nat}, i < n → g i ∈ mk_all g n := by
  intro n i h
  exact (mk_all_out h).mem_iff.mpr List.mem_cons_self
theorem mk_le_sum : ∀ {l : List Nat} {x : Nat}, x ∈ l → x ≤ l.sum := by
  intro l
  induction l with
  | nil => intro x h; cases h
  | cons y l ih =>
    intro x h
    rw [List.sum_cons]
    rcases List.mem_cons.mp h with rfl | h
    · omega
    · have := ih h; omega
theorem hp_root {g : Nat → Nat} {n : Nat} (h : hp_ok g n) : ∀ i, i < n → g 0 ≤ g i := by
  intro i
  induction i using Nat.strongRecOn with
  | ind i ih =>
    intro hi
    rcases Nat.eq_zero_or_pos i with rfl | h0
    · exact Nat.le_refl _
    · exact Nat.le_trans (ih ((i - 1) / 2) (by omega) (by omega)) (h i h0 hi)
/-- going up: the hole j, k the last place; c = nu g j v -/
def hp_I (g : Nat → Nat) (k v j : Nat) : Prop := j ≤ k ∧ (∀ i, 0 < i → i ≤ k → i ≠ j → nu g j v ((i - 1) / 2) ≤ nu g j v i) ∧ (∀ i, 0 < i → i ≤ k → (i - 1) / 2 = j → 0 < j → nu g j v ((j - 1) / 2) ≤ nu g j v i)
theorem hp_I0 {g : Nat → Nat} {k v : Nat} (h : hp_ok g k) : hp_I g k v k := by
  refine ⟨Nat.le_refl _, fun i h0 h1 h2 => ?_, fun i h0 h1 h2 h3 => by omega⟩
  rw [nu_n h2, nu_n (show (i - 1) / 2 ≠ k by omega)]
  exact h i h0 (by omega)
theorem hp_Istep {g : Nat → Nat} {k v j : Nat} (h : hp_I g k v j) (hj : 0 < j) (hv : v < g ((j - 1) / 2)) : hp_I (nu g j (g ((j - 1) / 2))) k v ((j - 1) / 2) := by
  obtain ⟨hjk, hA, hB⟩ := h
  have hpj : (j - 1) / 2 ≠ j := by omega
  have val : ∀ i, nu (nu g j (g ((j - 1) / 2))) ((j - 1) / 2) v i = if i = (j - 1) / 2 then v else if i = j then g ((j - 1) / 2) else g i := fun i => rfl
  have old : ∀ i, nu g j v i = if i = j then v else g i := fun i => rfl
  refine ⟨by omega, fun i h0 h1 h2 => ?_, fun i h0 h1 h2 h3 => ?_⟩
  · rw [val, val]
    have a := hA i h0 h1
    have b := hB i h0 h1
    rw [old, old] at a b
    have hii : (i - 1) / 2 ≠ i := by omega
    by_cases e1 : i = j
    · subst e1
      simp only [if_true, h2, if_false]; omega
    · by_cases e2 : (i - 1) / 2 = j
      · have b2 := b e2 hj
        simp only [hpj, if_false, e1] at b2
        simp only [e2, h2, e1, if_false, if_true, Ne.symm hpj]
        exact b2
      · by_cases e3 : (i - 1) / 2 = (j - 1) / 2
        · have a2 := a e1
          simp only [e2, e1, if_false] at a2
          rw [e3] at a2
          simp only [e3, if_true, h2, if_false, e1]; omega
        · have a2 := a e1
          simp only [e2, e1, if_false] at a2
          simp only [e3, e2, h2, e1, if_false]; exact a2
  · rw [val, val]
    have hpp : ((j - 1) / 2 - 1) / 2 ≠ (j - 1) / 2 := by omega
    have hpp2 : ((j - 1) / 2 - 1) / 2 ≠ j := by omega
    have ap := hA ((j - 1) / 2) h3 (by omega) hpj
    rw [old, old] at ap
    simp only [hpp2, hpj, if_false] at ap
    have hne : i ≠ (j - 1) / 2 := by omega
    simp only [hpp, hpp2, if_false, hne]
    by_cases e1 : i = j
    · simp only [e1, if_true]; exact ap
    · have a2 := hA i h0 h1 e1
      rw [old, old, h2] at a2
      simp only [hpj, e1, if_false] at a2 ⊢
      omega
theorem hp_Iend {g : Nat → Nat} {k v j : Nat} (h : hp_I g k v j) (hj : j = 0 ∨ g ((j - 1) / 2) ≤ v) : hp_ok (nu g j v) (k + 1) := by
  obtain ⟨hjk, hA, hB⟩ := h
  intro i h0 h1
  by_cases e : i = j
  · subst e
    rcases hj with q | q
    · omega
    · rw [nu_s, nu_n (show (i - 1) / 2 ≠ i by omega)]; exact q
  · exact hA i h0 (by omega) e
/-- going down: m places are left, the hole j -/
def hp_J (g : Nat → Nat) (m v j : Nat) : Prop := (∀ i, 0 < i → i < m → (i - 1) / 2 ≠ j → nu g j v ((i - 1) / 2) ≤ nu g j v i) ∧ (∀ i, 0 < i → i < m → (i - 1) / 2 = j → 0 < j → nu g j v ((j - 1) / 2) ≤ nu g j v i)
theorem hp_J0 {g : Nat → Nat} {m v : Nat} (h : hp_ok g (m + 1)) : hp_J g m v 0 := by
  refine ⟨fun i h0 h1 h2 => ?_, fun i h0 h1 h2 h3 => by omega⟩
  rw [nu_n (show i ≠ 0 by omega), nu_n h2]
  exact h i h0 (by omega)
theorem hp_Jstep {g : Nat → Nat} {m v j cc : Nat} (h : hp_J g m v j) (hc : cc = 2 * j + 1 ∨ cc = 2 * j + 2) (hcm : cc < m) (hmin : ∀ i, i < m → (i = 2 * j + 1 ∨ i = 2 * j + 2) → g cc ≤ g i) (hv : g cc < v) : hp_J (nu g j (g cc)) m v cc := by
  obtain ⟨hA, hB⟩ := h
  have val : ∀ i, nu (nu g j (g cc)) cc v i = if i = cc then v else if i = j then g cc else g i := fun i => rfl
  have old : ∀ i, nu g j v i = if i = j then v else g i := fun i => rfl
  have hcj : cc ≠ j := by omega
  have hpc : (cc - 1) / 2 = j := by omega
  refine ⟨fun i h0 h1 h2 => ?_, fun i h0 h1 h2 h3 => ?_⟩
  · rw [val, val]
    simp only [h2, if_false]
    by_cases e1 : i = cc
    · simp only [e1, if_true, hpc]; omega
    · by_cases e2 : (i - 1) / 2 = j
      · have hij : i ≠ j := by omega
        simp only [e2, if_true, e1, hij, if_false]
        exact hmin i h1 (by omega)
      · have a := hA i h0 h1 e2
        rw [old, old] at a
        simp only [e2, if_false] at a ⊢
        by_cases e3 : i = j
        · subst e3
          have b := hB cc (by omega) hcm hpc h0
          rw [old, old] at b
          simp only [show (i - 1) / 2 ≠ i by omega, hcj, if_false] at b
          simp only [e1, if_false, if_true]; exact b
        · simp only [e3, if_false, e1] at a ⊢; exact a
  · rw [val, val, hpc]
    have e1 : i ≠ cc := by omega
    have e2 : i ≠ j := by omega
    have a := hA i h0 h1 (by omega)
    rw [old, old, h2] at a
    simp only [hcj, e2, if_false] at a
    simp only [Ne.symm hcj, if_true, e1, e2, if_false]; exact a
theorem hp_Jend {g : Nat → Nat} {m v j : Nat} (h : hp_J g m v j) (hend : ∀ i, i < m → (i = 2 * j + 1 ∨ i = 2 * j + 2) → v ≤ g i) : hp_ok (nu g j v) m := by
  obtain ⟨hA, hB⟩ := h
  intro i h0 h1
  by_cases e : (i - 1) / 2 = j
  · rw [e, nu_s, nu_n (show i ≠ j by omega)]
    exact hend i h1 (by omega)
  · exact hA i h0 h1 e
end
section
/-! THE TABLE OVER MASKS, entry by entry -/
def mk_U (r n : Nat) (w b : Nat → Nat) (S : Nat) : Prop :=
  (∀ s, 0 < s → s < S → s &&& (s - 1) = 0 → b s = 0) ∧
  (∀ p q, 0 < p → 0 < q → p &&& q = 0 → p ||| q < S → b (p ||| q) ≤ b p + b q + mk_sm w n (p ||| q)) ∧
  (r = 3 → ∀ p q t, 0 < p → 0 < q → 0 < t → p &&& q = 0 → (p ||| q) &&& t = 0 → p ||| q ||| t < S → b (p ||| q ||| t) ≤ b p + b q + b t + mk_sm w n (p ||| q ||| t)) ∧
  (∀ s, 0 < s → s < S → s &&& (s - 1) ≠ 0 → (∃ p q, 0 < p ∧ 0 < q ∧ p &&& q = 0 ∧ p ||| q = s ∧ b s = b p + b q + mk_sm w n s) ∨ (r = 3 ∧ ∃ p q t, 0 < p ∧ 0 < q ∧ 0 < t ∧ p &&& q = 0 ∧ (p ||| q) &&& t = 0 ∧ p ||| q ||| t = s ∧ b s = b p + b q + b t + mk_sm w n s)) ∧
  (∀ s, 0 < s → s < S → b s + 524288 ≤ s * 524288)
theorem mk_U1 (r n : Nat) (w b : Nat → Nat) : mk_U r n w b 1 := by
  refine ⟨fun s h1 h2 => by omega, fun p q h1 h2 h3 h4 => ?_, fun _ p q t h1 h2 h3 h4 h5 h6 => ?_, fun s h1 h2 => by omega, fun s h1 h2 => by omega⟩
  · have := mk_or h3; omega
  · have := mk_or h4; have := mk_or h5; omega
theorem mk_sm_leB {w : Nat → Nat} {B n : Nat} (hw : ∀ i, i < n → w i ≤ B) (s : Nat) : mk_sm w n s ≤ n * B := by
  induction n with
  | zero => exact Nat.zero_le _
  | succ n ih =>
    have h1 := ih (fun i hi => hw i (by omega))
    have h2 := hw n (by omega)
    have h3 : (n + 1) * B = n * B + B := Nat.succ_mul n B
    have h4 : (if s.testBit n then w n else 0) ≤ B := by split <;> omega
    show mk_sm w n s + (if s.testBit n then w n else 0) ≤ (n + 1) * B
    omega
theorem mk_sm_le {w : Nat → Nat} {n : Nat} (hn : n ≤ 8) (hw : ∀ i, i < n → w i < 65536) (s : Nat) : mk_sm w n s ≤ 524288 := by
  have h1 := mk_sm_leB (B := 65535) (fun i hi => Nat.le_of_lt_succ (hw i hi)) s
  have h2 : n * 65535 ≤ 8 * 65535 := Nat.mul_le_mul_right 65535 hn
  exact Nat.le_trans h1 (Nat.le_trans h2 (by decide))
/-- a part of one bit -/
theorem mk_U_one {r n : Nat} {w b : Nat → Nat} {S : Nat} (h : mk_U r n w b S) (hS : 0 < S) (h1 : S &&& (S - 1) = 0) : mk_U r n w (nu b S 0) (S + 1) := by
  obtain ⟨a1, a2, a3, a4, a5⟩ := h
  refine ⟨fun s h0 hs hb => ?_, fun p q hp hq hd hl => ?_, fun hr p q t hp hq ht hd hd2 hl => ?_, fun s h0 hs hb => ?_, fun s h0 hs => ?_⟩
  · by_cases e : s = S
    · rw [e, nu_s]
    · rw [nu_n e]; exact a1 s h0 (by omega) hb
  · have e := mk_or hd
    by_cases e2 : p ||| q = S
    · rw [e2, nu_s]; omega
    · rw [nu_n e2, nu_n (show p ≠ S by omega), nu_n (show q ≠ S by omega)]
      exact a2 p q hp hq hd (by omega)
  · have e := mk_or hd
    have e' := mk_or hd2
    by_cases e2 : p ||| q ||| t = S
    · rw [e2, nu_s]; omega
    · rw [nu_n e2, nu_n (show p ≠ S by omega), nu_n (show q ≠ S by omega), nu_n (show t ≠ S by omega)]
      exact a3 hr p q t hp hq ht hd hd2 (by omega)
  · have hne : s ≠ S := fun q => hb (by rw [q]; exact h1)
    rcases a4 s h0 (by omega) hb with ⟨p, q, b1, b2, b3, b4, b5⟩ | ⟨hr, p, q, t, b1, b2, b3, b4, b5, b6, b7⟩
    · have e := mk_or b3
      refine Or.inl ⟨p, q, b1, b2, b3, b4, ?_⟩
      rw [nu_n hne, nu_n (show p ≠ S by omega), nu_n (show q ≠ S by omega)]; exact b5
    · have e := mk_or b4
      have e' := mk_or b5
      refine Or.inr ⟨hr, p, q, t, b1, b2, b3, b4, b5, b6, ?_⟩
      rw [nu_n hne, nu_n (show p ≠ S by omega), nu_n (show q ≠ S by omega), nu_n (show t ≠ S by omega)]; exact b7
  · by_cases e : s = S
    · rw [e, nu_s]; omega
    · rw [nu_n e]; exact a5 s h0 (by omega)
theorem mk_U_more {r n : Nat} {w b : Nat → Nat} {S x : Nat} (hw : mk_sm w n S ≤ 524288) (h : mk_U r n w b S) (hS : 0 < S) (h1 : S &&& (S - 1) ≠ 0)
    (c2 : ∀ p q, 0 < p → 0 < q → p &&& q = 0 → p ||| q = S → x ≤ b p + b q)
    (c3 : r = 3 → ∀ p q t, 0 < p → 0 < q → 0 < t → p &&& q = 0 → (p ||| q) &&& t = 0 → p ||| q ||| t = S → x ≤ b p + b q + b t)
    (c4 : (∃ p q, 0 < p ∧ 0 < q ∧ p &&& q = 0 ∧ p ||| q = S ∧ x = b p + b q) ∨ (r = 3 ∧ ∃ p q t, 0 < p ∧ 0 < q ∧ 0 < t ∧ p &&& q = 0 ∧ (p ||| q) &&& t = 0 ∧ p ||| q ||| t = S ∧ x = b p + b q + b t)) : mk_U r n w (nu b S (x + mk_sm w n S)) (S + 1) := by
  obtain ⟨a1, a2, a3, a4, a5⟩ := h
  refine ⟨fun s h0 hs hb => ?_, fun p q hp hq hd hl => ?_, fun hr p q t hp hq ht hd hd2 hl => ?_, fun s h0 hs hb => ?_, fun s h0 hs => ?_⟩
  · have e : s ≠ S := fun q => h1 (by rw [← q]; exact hb)
    rw [nu_n e]; exact a1 s h0 (by omega) hb
  · have e := mk_or hd
    by_cases e2 : p ||| q = S
    · have := c2 p q hp hq hd e2
      rw [e2, nu_s, nu_n (show p ≠ S by omega), nu_n (show q ≠ S by omega)]; omega
    · rw [nu_n e2, nu_n (show p ≠ S by omega), nu_n (show q ≠ S by omega)]
      exact a2 p q hp hq hd (by omega)
  · have e := mk_or hd
    have e' := mk_or hd2
    by_cases e2 : p ||| q ||| t = S
    · have := c3 hr p q t hp hq ht hd hd2 e2
      rw [e2, nu_s, nu_n (show p ≠ S by omega), nu_n (show q ≠ S by omega), nu_n (show t ≠ S by omega)]; omega
    · rw [nu_n e2, nu_n (show p ≠ S by omega), nu_n (show q ≠ S by omega), nu_n (show t ≠ S by omega)]
      exact a3 hr p q t hp hq ht hd hd2 (by omega)
  · by_cases hne : s = S
    · subst hne
      rcases c4 with ⟨p, q, b1, b2, b3, b4, b5⟩ | ⟨hr, p, q, t, b1, b2, b3, b4, b5, b6, b7⟩
      · have e := mk_or b3
        refine Or.inl ⟨p, q, b1, b2, b3, b4, ?_⟩
        rw [nu_s, nu_n (show p ≠ s by omega), nu_n (show q ≠ s by omega), b5]
      · have e := mk_or b4
        have e' := mk_or b5
        refine Or.inr ⟨hr, p, q, t, b1, b2, b3, b4, b5, b6, ?_⟩
        rw [nu_s, nu_n (show p ≠ s by omega), nu_n (show q ≠ s by omega), nu_n (show t ≠ s by omega), b7]
    · rcases a4 s h0 (by omega) hb with ⟨p, q, b1, b2, b3, b4, b5⟩ | ⟨hr, p, q, t, b1, b2, b3, b4, b5, b6, b7⟩
      · have e := mk_or b3
        refine Or.inl ⟨p, q, b1, b2, b3, b4, ?_⟩
        rw [nu_n hne, nu_n (show p ≠ S by omega), nu_n (show q ≠ S by omega)]; exact b5
      · have e := mk_or b4
        have e' := mk_or b5
        refine Or.inr ⟨hr, p, q, t, b1, b2, b3, b4, b5, b6, ?_⟩
        rw [nu_n hne, nu_n (show p ≠ S by omega), nu_n (show q ≠ S by omega), nu_n (show t ≠ S by omega)]; exact b7
  · by_cases hne : s = S
    · subst hne
      rw [nu_s]
      rcases c4 with ⟨p, q, b1, b2, b3, b4, b5⟩ | ⟨hr, p, q, t, b1, b2, b3, b4, b5, b6, b7⟩
      · have e := mk_or b3
        have h2 := a5 p b1 (by omega)
        have h3 := a5 q b2 (by omega)
        omega
      · have e := mk_or b4
        have e' := mk_or b5
        have h2 := a5 p b1 (by omega)
        have h3 := a5 q b2 (by omega)
        have h4 := a5 t b3 (by omega)
        omega
    · rw [nu_n hne]; exact a5 s h0 (by omega)
theorem mk_U_T {r n : Nat} {w b : Nat → Nat} (h : mk_U r n w b (2 ^ n)) : mk_T r n w (nu b 0 0) := by
  obtain ⟨a1, a2, a3, a4, a5⟩ := h
  refine ⟨nu_s _ _ _, fun s h0 hs hb => ?_, fun p q hp hq hd hl => ?_, fun hr p q t hp hq ht hd hd2 hl => ?_, fun s h0 hs hb => ?_⟩
  · rw [nu_n (show s ≠ 0 by omega)]; exact a1 s h0 hs hb
  · have e := mk_or hd
    rw [nu_n (show p ||| q ≠ 0 by omega), nu_n (show p ≠ 0 by omega), nu_n (show q ≠ 0 by omega)]
    exact a2 p q hp hq hd hl
  · have e := mk_or hd
    have e' := mk_or hd2
    rw [nu_n (show p ||| q ||| t ≠ 0 by omega), nu_n (show p ≠ 0 by omega), nu_n (show q ≠ 0 by omega), nu_n (show t ≠ 0 by omega)]
    exact a3 hr p q t hp hq ht hd hd2 hl
  · rcases a4 s h0 hs hb with ⟨p, q, b1, b2, b3, b4, b5⟩ | ⟨hr, p, q, t, b1, b2, b3, b4, b5, b6, b7⟩
    · refine Or.inl ⟨p, q, b1, b2, b3, b4, ?_⟩
      rw [nu_n (show s ≠ 0 by omega), nu_n (show p ≠ 0 by omega), nu_n (show q ≠ 0 by omega)]; exact b5
    · refine Or.inr ⟨hr, p, q, t, b1, b2, b3, b4, b5, b6, ?_⟩
      rw [nu_n (show s ≠ 0 by omega), nu_n (show p ≠ 0 by omega), nu_n (show q ≠ 0 by omega), nu_n (show t ≠ 0 by omega)]; exact b7
/-- the splits of s in two that have been seen, down to p: M is the least of them -/
def mk_seen (g : Nat → Nat) (s p M : Nat) : Prop := (∀ q, q &&& s = q → p < q → q < s → M ≤ g q + g (s - q)) ∧ ∃ q, q &&& s = q ∧ 0 < q ∧ q < s ∧ M = g q + g (s - q)
theorem mk_seen_first {g : Nat → Nat} {s p : Nat} (hp : p &&& s = p) (h0 : 0 < p) (hps : p < s) (hall : ∀ q, q &&& s = q → q < s → q ≤ p) : mk_seen g s ((p - 1) &&& s) (g p + g (s - p)) := by
  refine ⟨fun q hq h1 h2 => ?_, p, hp, h0, hps, rfl⟩
  have h3 := hall q hq h2
  rcases (by omega : q = p ∨ q < p) with e | e
  · rw [e]; exact Nat.le_refl _
  · have := mk_next s p q hp hq e; omega
theorem mk_seen_keep {g : Nat → Nat} {s p M : Nat} (hp : p &&& s = p) (h : mk_seen g s p M) (hM : M ≤ g p + g (s - p)) : mk_seen g s ((p - 1) &&& s) M := by
  refine ⟨fun q hq h1 h2 => ?_, h.2⟩
  rcases (by omega : q = p ∨ q < p ∨ p < q) with e | e | e
  · rw [e]; exact hM
  · have := mk_next s p q hp hq e; omega
  · exact h.1 q hq e h2
theorem mk_seen_new {g : Nat → Nat} {s p M : Nat} (hp : p &&& s = p) (h0 : 0 < p) (hps : p < s) (h : mk_seen g s p M) (hM : g p + g (s - p) ≤ M) : mk_seen g s ((p - 1) &&& s) (g p + g (s - p)) := by
  refine ⟨fun q hq h1 h2 => ?_, p, hp, h0, hps, rfl⟩
  rcases (by omega : q = p ∨ q < p ∨ p < q) with e | e | e
  · rw [e]; exact Nat.le_refl _
  · have := mk_next s p q hp hq e; omega
  · have := h.1 q hq e h2; omega
theorem mk_and_le (a s : Nat) : a &&& s ≤ a := Nat.and_le_left
theorem mk_any_end {n : Nat} {w b : Nat → Nat} {S M : Nat} (hw : mk_sm w n S ≤ 524288) (h : mk_U 2 n w b S) (hS : 0 < S) (h1 : S &&& (S - 1) ≠ 0) (hm : mk_seen b S 0 M) : mk_U 2 n w (nu b S (M + mk_sm w n S)) (S + 1) := by
  refine mk_U_more hw h hS h1 (fun p q hp hq hd ho => ?_) (fun hr => by omega) (Or.inl ?_)
  · obtain ⟨e1, e2⟩ := mk_part hd ho
    have e := mk_or hd
    have := hm.1 p e1 hp (by omega)
    rw [e2]; exact this
  · obtain ⟨q, e1, e2, e3, e4⟩ := hm.2
    obtain ⟨f1, f2, f3, f4⟩ := mk_sub e1
    exact ⟨q, S - q, e2, by omega, f1, f2, e4⟩
end
section
/-! SPLITS IN TWO AND THREE -/
def mk_ex3 (g : Nat → Nat) (s M : Nat) : Prop := (∃ q, q &&& s = q ∧ 0 < q ∧ q < s ∧ M = g q + g (s - q)) ∨ (∃ q t, q &&& s = q ∧ 0 < q ∧ q < s ∧ t &&& (s - q) = t ∧ 0 < t ∧ t < s - q ∧ M = g q + g t + g (s - q - t))
def mk_seen3 (g : Nat → Nat) (s p M : Nat) : Prop := (∀ q, q &&& s = q → p < q → q < s → M ≤ g q + g (s - q)) ∧ (∀ q, q &&& s = q → p < q → q < s → ∀ t, t &&& (s - q) = t → 0 < t → t < s - q → M ≤ g q + g t + g (s - q - t)) ∧ mk_ex3 g s M
def mk_seen4 (g : Nat → Nat) (s p t M : Nat) : Prop := (∀ q, q &&& s = q → p < q → q < s → M ≤ g q + g (s - q)) ∧ (∀ q, q &&& s = q → p < q → q < s → ∀ t, t &&& (s - q) = t → 0 < t → t < s - q → M ≤ g q + g t + g (s - q - t)) ∧ mk_ex3 g s M ∧ M ≤ g p + g (s - p) ∧ (∀ t', t' &&& (s - p) = t' → t < t' → t' < s - p → M ≤ g p + g t' + g (s - p - t'))
theorem mk_s4_first {g : Nat → Nat} {s p : Nat} (hp : p &&& s = p) (h0 : 0 < p) (hps : p < s) (hall : ∀ q, q &&& s = q → q < s → q ≤ p) : mk_seen4 g s p ((s - p - 1) &&& (s - p)) (g p + g (s - p)) := by
  refine ⟨fun q hq h1 h2 => ?_, fun q hq h1 h2 => ?_, Or.inl ⟨p, hp, h0, hps, rfl⟩, Nat.le_refl _, fun t ht h1 h2 => ?_⟩
  · have := hall q hq h2; omega
  · have := hall q hq h2; omega
  · have := mk_next (s - p) (s - p) t (Nat.and_self _) ht h2; omega
theorem mk_s4_keep {g : Nat → Nat} {s p M : Nat} (h : mk_seen3 g s p M) (hM : M ≤ g p + g (s - p)) : mk_seen4 g s p ((s - p - 1) &&& (s - p)) M := by
  refine ⟨h.1, h.2.1, h.2.2, hM, fun t ht h1 h2 => ?_⟩
  have := mk_next (s - p) (s - p) t (Nat.and_self _) ht h2; omega
theorem mk_s4_new {g : Nat → Nat} {s p M : Nat} (hp : p &&& s = p) (h0 : 0 < p) (hps : p < s) (h : mk_seen3 g s p M) (hM : g p + g (s - p) ≤ M) : mk_seen4 g s p ((s - p - 1) &&& (s - p)) (g p + g (s - p)) := by
  refine ⟨fun q hq h1 h2 => ?_, fun q hq h1 h2 t ht h3 h4 => ?_, Or.inl ⟨p, hp, h0, hps, rfl⟩, Nat.le_refl _, fun t ht h1 h2 => ?_⟩
  · have := h.1 q hq h1 h2; omega
  · have := h.2.1 q hq h1 h2 t ht h3 h4; omega
  · have := mk_next (s - p) (s - p) t (Nat.and_self _) ht h2; omega
theorem mk_s4_stay {g : Nat → Nat} {s p t M : Nat} (ht : t &&& (s - p) = t) (h : mk_seen4 g s p t M) (hM : M ≤ g p + g t + g (s - p - t)) : mk_seen4 g s p ((t - 1) &&& (s - p)) M := by
  refine ⟨h.1, h.2.1, h.2.2.1, h.2.2.2.1, fun t' ht' h1 h2 => ?_⟩
  rcases (by omega : t' = t ∨ t' < t ∨ t < t') with e | e | e
  · rw [e]; exact hM
  · have := mk_next (s - p) t t' ht ht' e; omega
  · exact h.2.2.2.2 t' ht' e h2
theorem mk_s4_less {g : Nat → Nat} {s p t M : Nat} (hp : p &&& s = p) (h0 : 0 < p) (hps : p < s) (ht : t &&& (s - p) = t) (ht0 : 0 < t) (hts : t < s - p) (h : mk_seen4 g s p t M) (hM : g p + g t + g (s - p - t) ≤ M) : mk_seen4 g s p ((t - 1) &&& (s - p)) (g p + g t + g (s - p - t)) := by
  refine ⟨fun q hq h1 h2 => ?_, fun q hq h1 h2 t' ht' h3 h4 => ?_, Or.inr ⟨p, t, hp, h0, hps, ht, ht0, hts, rfl⟩, ?_, fun t' ht' h1 h2 => ?_⟩
  · have := h.1 q hq h1 h2; omega
  · have := h.2.1 q hq h1 h2 t' ht' h3 h4; omega
  · have := h.2.2.2.1; omega
  · rcases (by omega : t' = t ∨ t' < t ∨ t < t') with e | e | e
    · rw [e]; exact Nat.le_refl _
    · have := mk_next (s - p) t t' ht ht' e; omega
    · have := h.2.2.2.2 t' ht' e h2; omega
theorem mk_s4_end {g : Nat → Nat} {s p M : Nat} (hp : p &&& s = p) (h : mk_seen4 g s p 0 M) : mk_seen3 g s ((p - 1) &&& s) M := by
  refine ⟨fun q hq h1 h2 => ?_, fun q hq h1 h2 t ht h3 h4 => ?_, h.2.2.1⟩
  · rcases (by omega : q = p ∨ q < p ∨ p < q) with e | e | e
    · rw [e]; exact h.2.2.2.1
    · have := mk_next s p q hp hq e; omega
    · exact h.1 q hq e h2
  · rcases (by omega : q = p ∨ q < p ∨ p < q) with e | e | e
    · subst e; exact h.2.2.2.2 t ht h3 h4
    · have := mk_next s p q hp hq e; omega
    · exact h.2.1 q hq e h2 t ht h3 h4
theorem mk_dj_sub {p r s : Nat} (h : p &&& s = 0) (hr : r &&& s = r) : p &&& r = 0 := by
  rw [← hr, Nat.and_comm r s, ← Nat.and_assoc, h, Nat.zero_and]
theorem mk_three_end {n : Nat} {w b : Nat → Nat} {S M : Nat} (hw : mk_sm w n S ≤ 524288) (h : mk_U 3 n w b S) (hS : 0 < S) (h1 : S &&& (S - 1) ≠ 0) (hm : mk_seen3 b S 0 M) : mk_U 3 n w (nu b S (M + mk_sm w n S)) (S + 1) := by
  refine mk_U_more hw h hS h1 (fun p q hp hq hd ho => ?_) (fun _ p q t hp hq ht hd hd2 ho => ?_) ?_
  · obtain ⟨e1, e2⟩ := mk_part hd ho
    have e := mk_or hd
    have := hm.1 p e1 hp (by omega)
    rw [e2]; exact this
  · have e := mk_or hd
    have e' := mk_or hd2
    have d1 : p &&& t = 0 := by
      have := hd2
      rw [Nat.and_or_distrib_right] at this
      exact (Nat.or_eq_zero_iff.mp this).1
    have d2 : q &&& t = 0 := by
      have := hd2
      rw [Nat.and_or_distrib_right] at this
      exact (Nat.or_eq_zero_iff.mp this).2
    have d3 : p &&& (q ||| t) = 0 := by rw [Nat.and_or_distrib_left, hd, d1]; rfl
    have ho2 : p ||| (q ||| t) = S := by rw [← Nat.or_assoc]; exact ho
    obtain ⟨e1, e2⟩ := mk_part d3 ho2
    obtain ⟨e3, e4⟩ := mk_part d2 e2
    have e5 := mk_or d2
    have := hm.2.1 p e1 hp (by omega) q e3 hq (by omega)
    rw [e4]; exact this
  · rcases hm.2.2 with ⟨q, e1, e2, e3, e4⟩ | ⟨q, t, e1, e2, e3, e4, e5, e6, e7⟩
    · obtain ⟨f1, f2, f3, f4⟩ := mk_sub e1
      exact Or.inl ⟨q, S - q, e2, by omega, f1, f2, e4⟩
    · obtain ⟨f1, f2, f3, f4⟩ := mk_sub e1
      obtain ⟨k1, k2, k3, k4⟩ := mk_sub e4
      refine Or.inr ⟨rfl, q, t, S - q - t, e2, e5, by omega, mk_dj_sub f1 e4, ?_, ?_, e7⟩
      · exact mk_or_dj (mk_dj_sub f1 k3) k1
      · rw [Nat.or_assoc, k2, f2]
end
section
/-! SEGMENTS, and the table over them -/
def sg (w : Nat → Nat) : Nat → Nat → List Nat
  | _, 0 => []
  | i, d + 1 => w i :: sg w (i + 1) d
theorem sg_len (w : Nat → Nat) : ∀ d i, (sg w i d).length = d := by
  intro d
  induction d with
  | zero => intro i; rfl
  | succ d ih => intro i; simp [sg, ih]
theorem sg_app (w : Nat → Nat) (b : Nat) : ∀ a i, sg w i (a + b) = sg w i a ++ sg w (i + a) b := by
  intro a
  induction a with
  | zero => intro i; simp [sg]
  | succ a ih =>
    intro i
    rw [show a + 1 + b = (a + b) + 1 by omega, sg, ih, sg, show i + 1 + a = i + (a + 1) by omega]; rfl
theorem sg_sum_succ (w : Nat → Nat) (i j : Nat) : (sg w i j).sum + w (i + j) = (sg w i (j + 1)).sum := by
  rw [sg_app w 1 j i, List.sum_append]
  simp [sg]
theorem sg_split {w : Nat → Nat} : ∀ {d i : Nat} {A B : List Nat}, sg w i d = A ++ B → A = sg w i A.length ∧ B = sg w (i + A.length) (d - A.length) ∧ A.length + B.length = d := by
  intro d i A B h
  have h1 := congrArg List.length h
  rw [sg_len, List.length_append] at h1
  have h2 : sg w i d = sg w i A.length ++ sg w (i + A.length) B.length := by rw [h1, sg_app]
  have h3 := List.append_inj (h.symm.trans h2) (by rw [sg_len])
  refine ⟨h3.1, ?_, h1.symm⟩
  rw [show d - A.length = B.length by omega]
  exact h3.2
theorem sg_sum_le {w : Nat → Nat} {n : Nat} (hw : ∀ i, i < n → w i < 65536) : ∀ d i, i + d ≤ n → (sg w i d).sum ≤ d * 65535 := by
  intro d
  induction d with
  | zero => intro i _; exact Nat.zero_le _
  | succ d ih =>
    intro i h
    have h1 := ih (i + 1) (by omega)
    have h2 := hw i (by omega)
    have h3 : (d + 1) * 65535 = d * 65535 + 65535 := Nat.succ_mul d 65535
    rw [sg, List.sum_cons, h3]
    have h4 : w i ≤ 65535 := Nat.le_of_lt_succ h2
    exact Nat.le_trans (Nat.add_le_add h4 h1) (Nat.le_of_eq (Nat.add_comm _ _))
def gw_D (w : List Nat) (c : Nat) : Prop := gw_best w c ∧ c + w.sum ≤ w.length * w.sum
def mb_I (n : Nat) (w g : Nat → Nat) (d i : Nat) : Prop := ∀ a t, 1 ≤ t → a + t ≤ n → (t < d ∨ (t = d ∧ a < i)) → gw_D (sg w a t) (g (11 * a + t))
theorem mb_bd {n : Nat} {w g : Nat → Nat} {d i : Nat} (hn : n ≤ 8) (hw : ∀ i, i < n → w i < 65536) (h : mb_I n w g d i) : ∀ a t, 1 ≤ t → a + t ≤ n → t < d → g (11 * a + t) < 2 ^ 30 := by
  intro a t h1 h2 h3
  have h4 := (h a t h1 h2 (Or.inl h3)).2
  rw [sg_len] at h4
  have h5 : (sg w a t).sum ≤ 524280 := Nat.le_trans (sg_sum_le hw t a h2) (Nat.le_trans (Nat.mul_le_mul_right 65535 (show t ≤ 8 by omega)) (by decide))
  have h7 : t * (sg w a t).sum ≤ 8 * (sg w a t).sum := Nat.mul_le_mul_right _ (by omega)
  generalize (sg w a t).sum = S at h4 h5 h7
  generalize t * S = X at h4 h7
  omega
theorem mb_0 (n : Nat) (w g : Nat → Nat) : mb_I n w g 1 0 := fun a t h1 h2 h3 => by omega
theorem mb_next {n : Nat} {w g : Nat → Nat} {d i : Nat} (h : mb_I n w g d i) (hi : n < i + d) : mb_I n w g (d + 1) 0 := by
  intro a t h1 h2 h3
  exact h a t h1 h2 (by omega)
theorem mb_put {n : Nat} {w g : Nat → Nat} {d i x : Nat} (h : mb_I n w g d i) (hn : n ≤ 8) (hd : 1 ≤ d) (hid : i + d ≤ n) (hx : gw_D (sg w i d) x) : mb_I n w (nu g (11 * i + d) x) d (i + 1) := by
  intro a t h1 h2 h3
  by_cases e : 11 * a + t = 11 * i + d
  · have e1 : a = i := by omega
    have e2 : t = d := by omega
    rw [e1, e2, nu_s]; exact hx
  · rw [nu_n e]
    exact h a t h1 h2 (by omega)
def mb_F (g : Nat → Nat) (i d m : Nat) : Nat := g (11 * i + m) + g (11 * (i + m) + d - m)
def mb_seen (g : Nat → Nat) (i d m M : Nat) : Prop := (∀ m', 1 ≤ m' → m' < m → M ≤ mb_F g i d m') ∧ ∃ m', 1 ≤ m' ∧ m' < m ∧ M = mb_F g i d m'
theorem mb_seen_1 (g : Nat → Nat) (i d : Nat) : mb_seen g i d 2 (mb_F g i d 1) := ⟨fun m' h1 h2 => by rw [show m' = 1 by omega]; exact Nat.le_refl _, 1, by omega, by omega, rfl⟩
theorem mb_seen_keep {g : Nat → Nat} {i d m M : Nat} (h : mb_seen g i d m M) (hM : M ≤ mb_F g i d m) : mb_seen g i d (m + 1) M := by
  obtain ⟨h1, m', h2, h3, h4⟩ := h
  refine ⟨fun q h5 h6 => ?_, m', h2, by omega, h4⟩
  rcases (by omega : q = m ∨ q < m) with e | e
  · rw [e]; exact hM
  · exact h1 q h5 e
theorem mb_seen_new {g : Nat → Nat} {i d m M : Nat} (h0 : 1 ≤ m) (h : mb_seen g i d m M) (hM : mb_F g i d m ≤ M) : mb_seen g i d (m + 1) (mb_F g i d m) := by
  refine ⟨fun q h5 h6 => ?_, m, h0, by omega, rfl⟩
  rcases (by omega : q = m ∨ q < m) with e | e
  · rw [e]; exact Nat.le_refl _
  · exact Nat.le_trans hM (h.1 q h5 e)
theorem mb_one (w : Nat → Nat) (i : Nat) : gw_D (sg w i 1) 0 := by
  refine ⟨gw_best_1 (w i), ?_⟩
  rw [sg_len]; omega
theorem mb_end {n : Nat} {w g : Nat → Nat} {d i M : Nat} (h : mb_I n w g d i) (hd : 2 ≤ d) (hid : i + d ≤ n) (hs : mb_seen g i d d M) : gw_D (sg w i d) (M + (sg w i d).sum) := by
  have part : ∀ m, 1 ≤ m → m < d → gw_D (sg w i m) (g (11 * i + m)) ∧ gw_D (sg w (i + m) (d - m)) (g (11 * (i + m) + d - m)) := by
    intro m h1 h2
    refine ⟨h i m h1 (by omega) (Or.inl h2), ?_⟩
    have := h (i + m) (d - m) (by omega) (by omega) (Or.inl (by omega))
    rwa [show 11 * (i + m) + (d - m) = 11 * (i + m) + d - m by omega] at this
  obtain ⟨h1, m, h2, h3, h4⟩ := hs
  constructor
  · refine gw_best_split (by rw [sg_len]; exact hd) (fun A B e hA hB => ?_) ?_
    · obtain ⟨e1, e2, e3⟩ := sg_split e
      have hAl : 0 < A.length := List.length_pos_iff.mpr hA
      have hBl : 0 < B.length := List.length_pos_iff.mpr hB
      obtain ⟨p1, p2⟩ := part A.length (by omega) (by omega)
      refine ⟨_, _, by rw [e1]; exact p1.1, by rw [e2]; exact p2.1, ?_⟩
      have := h1 A.length (by omega) (by omega)
      unfold mb_F at this
      omega
    · obtain ⟨p1, p2⟩ := part m h2 h3
      refine ⟨sg w i m, sg w (i + m) (d - m), _, _, ?_, p1.1, p2.1, ?_⟩
      · rw [← sg_app, show m + (d - m) = d by omega]
      · rw [h4, mb_F]; omega
  · obtain ⟨p1, p2⟩ := part m h2 h3
    have q1 := p1.2
    have q2 := p2.2
    have e : (sg w i d).sum = (sg w i m).sum + (sg w (i + m) (d - m)).sum := by rw [← List.sum_append, ← sg_app, show m + (d - m) = d by omega]
    rw [sg_len] at q1 q2 ⊢
    rw [h4, mb_F, e]
    generalize (sg w i m).sum = SA at q1 ⊢
    generalize (sg w (i + m) (d - m)).sum = SB at q2 ⊢
    obtain ⟨d', rfl⟩ : ∃ d', d = d' + 2 := ⟨d - 2, by omega⟩
    have r1 : m * SA ≤ (d' + 1) * SA := Nat.mul_le_mul_right _ (by omega)
    have r2 : (d' + 2 - m) * SB ≤ (d' + 1) * SB := Nat.mul_le_mul_right _ (by omega)
    generalize g (11 * (i + m) + (d' + 2) - m) = GB at q2 ⊢
    generalize g (11 * i + m) = GA at q1 ⊢
    have r3 : (d' + 2) * (SA + SB) = (d' + 1) * SA + (d' + 1) * SB + SA + SB := by
      rw [Nat.mul_add, Nat.add_mul d' 2 SA, Nat.add_mul d' 2 SB, Nat.add_mul d' 1 SA, Nat.add_mul d' 1 SB]; omega
    omega
end
section
set_option maxHeartbeats 4000000 in
set_option maxRecDepth 100000 in
theorem metX1_init (l : Launch) (dC : Nat → ClassId) (dI : Nat → Nat → Nat) (h2 sz : Nat) : Met l yX1_init (ws_ yX1_init cX1_init 1 none) ({ frames := 1, cells := 1, slots := 10, locals := 12 }) (va_Pc [.ref h2] (fun U => U.heap.size = sz ∧ va_P (dC, dI) vwCl [(h2, .inr (1, [.null, .int (nI (0))]))] U.heap ∧ va_K (dC, dI) vwCl [] U ∧ va_D (fun _ => True) [(h2, .inr (1, [.null, .int (nI (0))]))])) (va_Qv (fun u : Nat × ClassId => True) (fun u t => va_P (dC, dI) vwCl [(h2, .inr (1, [.ref u.1, .int (nI (0))])), (u.1, .inl (u.2, 10, .inr (.inl (lA (fun _ => 0)))))] t.heap ∧ va_K (dC, dI) vwCl [(u.2, .long)] t ∧ va_D (va_A [(h2, .inr (1, [.null, .int (nI (0))]))] sz) [(h2, .inr (1, [.ref u.1, .int (nI (0))])), (u.1, .inl (u.2, 10, .inr (.inl (lA (fun _ => 0)))))]) (va_A [(h2, .inr (1, [.null, .int (nI (0))]))] sz)) 1 10 (va_A [(h2, .inr (1, [.null, .int (nI (0))]))] sz) := by
  refine Met.ofW (cc := cX1_init) (maxL := 1) (ret := none) (by decide) rfl ?_
  intro p e s m args below meth c s₁ B hml hv
  obtain ⟨rfl, hsz, hP, hK, hD0⟩ := hv
  have hx := B.exec
  have hb := B.bytes
  have hr := B.returns
  have hts := atoms_spec (ws := ws_ yX1_init cX1_init 1 none) B.pre
  have hts : ∀ w ∈ lw_all, w.before _ s = true := fun w h => hts w (List.mem_cons_of_mem _ h)
  have hown : s.vm.findClass RX1 = some m.cls := findClass_of_methodNamed B.named
  have hlocks := B.notSynchronized
  have hin : meth.name = "<init>" := (name_of_methodNamed B.named B.method).1
  subst hsz
  have hD := hD0.self (sz := s.heap.size)
  generalize hAe : va_A [(h2, .inr (1, [.null, .int (nI (0))]))] s.heap.size = A at hD ⊢
  have hA : ∀ q : Nat, s.heap.size ≤ q → A q := fun q h => by rw [← hAe]; exact Or.inr h
  have hS : va_S A s.heap s.heap [] := va_S.rf
  have hP : va_P (dC, dI) vwCl [(h2, .inr (1, [.null, .int (nI (0))]))] s.heap := hP
  have hl := lv_entry ([.ref h2]) (n := 1) (Nat.le_of_ble_eq_true rfl)
  rw [lg_entry_eq]
  generalize (lg_sl ([.ref h2]) ++ List.replicate (1 - (lg_sl ([.ref h2])).length) Slot.unset).toArray = ls at hl ⊢
  have hl : lv_has ls 1 [(0, .ref h2)] := hl
  refine lv_aload_n hx hb dX1_init_0 rfl (lv_at hl 0 rfl) ?_
  refine W.objInit hx hb hown (hts _ q19) (hts _ q12) (hts _ q13) rfl (by rw [hml]; exact hl.1) rfl dX1_init_1 (Nat.le_of_ble_eq_true rfl) (Nat.le_of_ble_eq_true rfl) ?_
  refine W.eq (g2 := F0 m 4 ls []) rfl ?_
  refine lv_aload_n hx hb dX1_init_4 rfl (lv_at hl 0 rfl) ?_
  refine lv_bipush (v := nI 10) hx hb dX1_init_5 (by decide) ?_
  refine va_newa (atype := .long) hx hb (hts _ q28) (ty := .long) rfl hK hP hD hS hA (n := nI 10) (N' := 10) (a0 := (10, .inr (.inl (lA (fun _ => 0))))) (fun _ => rfl) (by decide) (by decide) (by decide) (Nat.le_of_ble_eq_true rfl) (Nat.le_of_ble_eq_true rfl) dX1_init_7 (fun h4 d4 H hK hP hD hS => ?_)
  have hK : va_K (dC, dI) vwCl [(d4, .long)] s := hK
  have hP : va_P (dC, dI) vwCl [(h2, .inr (1, [.null, .int (nI (0))])), (h4, .inl (d4, 10, .inr (.inl (lA (fun _ => 0)))))] H := hP
  have hD : va_D A [(h2, .inr (1, [.null, .int (nI (0))])), (h4, .inl (d4, 10, .inr (.inl (lA (fun _ => 0)))))] := hD
  refine W.widen (k := 1) (n := 10) (by omega) (by omega) ?_
  refine va_putF (D := (dC, dI)) (ci := 1) (v := .ref h4) (ty := .array .long) (C := RX1) (T := TX1) (N := 2) hx hb hts in_X1 tyX1 tyX1_ok nmX1 hown hK hP hD hS 0 rfl rfl 0 (by decide) (hts _ q20) (fun _ h9 => h9) rfl hin rfl (by decide +kernel) rfl rfl (Nat.le_of_ble_eq_true rfl) dX1_init_9 (fun H locs hP hD hS => ?_)
  have hP : va_P (dC, dI) vwCl [(h2, .inr (1, [.ref h4, .int (nI (0))])), (h4, .inl (d4, 10, .inr (.inl (lA (fun _ => 0)))))] H := hP
  have hD : va_D A [(h2, .inr (1, [.ref h4, .int (nI (0))])), (h4, .inl (d4, 10, .inr (.inl (lA (fun _ => 0)))))] := hD
  have hP9 := hP.sub (ws' := [(h2, .inr (1, [.ref h4, .int (nI (0))])), (h4, .inl (d4, 10, .inr (.inl (lA (fun _ => 0)))))]) [0, 1] rfl
  have hD9 := hD.sub (ws' := [(h2, .inr (1, [.ref h4, .int (nI (0))])), (h4, .inl (d4, 10, .inr (.inl (lA (fun _ => 0)))))]) [0, 1] (by decide) rfl
  have hK9 := hK.sub (tys' := [(d4, .long)]) [0] rfl
  exact W.vret hx hb hr (fun t ht hW => ⟨⟨(h4, d4), rfl, trivial, by rw [ht]; exact hP9, va_K.moved hW.alike hK9, hD9⟩, hS.F ht⟩) hS.2.2 dX1_init_12
set_option maxHeartbeats 4000000 in
set_option maxRecDepth 100000 in
theorem metX1_clear (l : Launch) (dC : Nat → ClassId) (dI : Nat → Nat → Nat) (h2 h4 : Nat) (d4 : ClassId) (sz k : Nat) (g : Nat → Nat) : Met l yX1_clear (ws_ yX1_clear cX1_clear 1 none) ({ frames := 0, cells := 0, slots := 0, locals := 0 }) (va_Pc [.ref h2] (fun U => U.heap.size = sz ∧ va_P (dC, dI) vwCl [(h2, .inr (1, [.ref h4, .int (nI (k))])), (h4, .inl (d4, 10, .inr (.inl (lA g))))] U.heap ∧ va_K (dC, dI) vwCl [(d4, .long)] U ∧ va_D (fun _ => True) [(h2, .inr (1, [.ref h4, .int (nI (k))])), (h4, .inl (d4, 10, .inr (.inl (lA g))))])) (va_Qv (fun _ : Unit => True) (fun _ t => va_P (dC, dI) vwCl [(h2, .inr (1, [.ref h4, .int (nI (0))])), (h4, .inl (d4, 10, .inr (.inl (lA g))))] t.heap ∧ va_K (dC, dI) vwCl [(d4, .long)] t ∧ va_D (va_A [(h2, .inr (1, [.ref h4, .int (nI (k))])), (h4, .inl (d4, 10, .inr (.inl (lA g))))] sz) [(h2, .inr (1, [.ref h4, .int (nI (0))])), (h4, .inl (d4, 10, .inr (.inl (lA g))))]) (va_A [(h2, .inr (1, [.ref h4, .int (nI (k))])), (h4, .inl (d4, 10, .inr (.inl (lA g))))] sz)) 0 0 (va_A [(h2, .inr (1, [.ref h4, .int (nI (k))])), (h4, .inl (d4, 10, .inr (.inl (lA g))))] sz) := by
  refine Met.ofW (cc := cX1_clear) (maxL := 1) (ret := none) (by decide) rfl ?_
  intro p e s m args below meth c s₁ B hml hv
  obtain ⟨rfl, hsz, hP, hK, hD0⟩ := hv
  have hx := B.exec
  have hb := B.bytes
  have hr := B.returns
  have hts := atoms_spec (ws := ws_ yX1_clear cX1_clear 1 none) B.pre
  have hts : ∀ w ∈ lw_all, w.before _ s = true := fun w h => hts w (List.mem_cons_of_mem _ h)
  have hown : s.vm.findClass RX1 = some m.cls := findClass_of_methodNamed B.named
  have hlocks := B.notSynchronized
  subst hsz
  have hD := hD0.self (sz := s.heap.size)
  generalize hAe : va_A [(h2, .inr (1, [.ref h4, .int (nI (k))])), (h4, .inl (d4, 10, .inr (.inl (lA g))))] s.heap.size = A at hD ⊢
  have hA : ∀ q : Nat, s.heap.size ≤ q → A q := fun q h => by rw [← hAe]; exact Or.inr h
  have hS : va_S A s.heap s.heap [] := va_S.rf
  have hP : va_P (dC, dI) vwCl [(h2, .inr (1, [.ref h4, .int (nI (k))])), (h4, .inl (d4, 10, .inr (.inl (lA g))))] s.heap := hP
  have hl := lv_entry ([.ref h2]) (n := 1) (Nat.le_of_ble_eq_true rfl)
  rw [lg_entry_eq]
  generalize (lg_sl ([.ref h2]) ++ List.replicate (1 - (lg_sl ([.ref h2])).length) Slot.unset).toArray = ls at hl ⊢
  have hl : lv_has ls 1 [(0, .ref h2)] := hl
  refine lv_aload_n hx hb dX1_clear_0 rfl (lv_at hl 0 rfl) ?_
  refine lv_iconst (v := nI 0) hx hb dX1_clear_1 (by decide) ?_
  refine va_put (D := (dC, dI)) (ci := 1) (v := .int (nI (0))) (ty := .int) (C := RX1) (T := TX1) (N := 2) hx hb hts in_X1 tyX1 tyX1_ok nmX1 hown hK hP hD hS 0 rfl rfl 1 (by decide) (hts _ q21) (fun _ h9 => h9) rfl (by decide +kernel) rfl rfl (Nat.le_of_ble_eq_true rfl) dX1_clear_2 (fun H locs hP hD hS => ?_)
  have hP : va_P (dC, dI) vwCl [(h2, .inr (1, [.ref h4, .int (nI (0))])), (h4, .inl (d4, 10, .inr (.inl (lA g))))] H := hP
  have hD : va_D A [(h2, .inr (1, [.ref h4, .int (nI (0))])), (h4, .inl (d4, 10, .inr (.inl (lA g))))] := hD
  have hP9 := hP.sub (ws' := [(h2, .inr (1, [.ref h4, .int (nI (0))])), (h4, .inl (d4, 10, .inr (.inl (lA g))))]) [0, 1] rfl
  have hD9 := hD.sub (ws' := [(h2, .inr (1, [.ref h4, .int (nI (0))])), (h4, .inl (d4, 10, .inr (.inl (lA g))))]) [0, 1] (by decide) rfl
  have hK9 := hK.sub (tys' := [(d4, .long)]) [0] rfl
  exact W.vret hx hb hr (fun t ht hW => ⟨⟨(), rfl, trivial, by rw [ht]; exact hP9, va_K.moved hW.alike hK9, hD9⟩, hS.F ht⟩) hS.2.2 dX1_clear_5
section PUT
variable {p : Program} {l : Launch} {e : Env} {R : Room} {s : State} {m : MethodId} {args : Array Value} {below : List Frame} {meth : Method} {c : Code} {Q : State → Prop} {cells slots : Nat} {dC : Nat → ClassId} {dI : Nat → Nat → Nat} {A : Nat → Prop} {H0 : Heap}
set_option maxHeartbeats 4000000 in
set_option maxRecDepth 100000 in
theorem lp_put (hx : p.tables.exec = Jvm.exec) (hb : c.code = cX1_put) (hown : s.vm.findClass RX1 = some m.cls) (hts : ∀ w ∈ lw_all, w.before args s = true) {h2 h4 k v : Nat} {d4 : ClassId} (hk : k < 10) (hv : v < 2 ^ 62) (g0 : Nat → Nat) (hK : va_K (dC, dI) vwCl [(d4, .long)] s)
    (kk : ∀ (g : Nat → Nat) (H : Heap) (locs : List Loc) (ls : Array Slot), hp_ok g (k + 1) → (mk_all g (k + 1)).Perm (v :: mk_all g0 k) → va_P (dC, dI) vwCl [(h2, .inr (1, [.ref h4, .int (nI (k + 1))])), (h4, .inl (d4, 10, .inr (.inl (lA g))))] H → va_D A [(h2, .inr (1, [.ref h4, .int (nI (k + 1))])), (h4, .inl (d4, 10, .inr (.inl (lA g))))] → va_S A H0 H locs → W p l e R s m args below meth c H locs cells slots Q (F0 m 63 ls [])) :
    ∀ (n j : Nat) (g : Nat → Nat), j < n → hp_I g k v j → (∀ i, i ≤ k → i ≠ j → g i < 2 ^ 62) → (mk_all (nu g j v) (k + 1)).Perm (v :: mk_all g0 k) → ∀ (H : Heap) (locs : List Loc) (ls : Array Slot), va_P (dC, dI) vwCl [(h2, .inr (1, [.ref h4, .int (nI (k + 1))])), (h4, .inl (d4, 10, .inr (.inl (lA g))))] H → va_D A [(h2, .inr (1, [.ref h4, .int (nI (k + 1))])), (h4, .inl (d4, 10, .inr (.inl (lA g))))] → va_S A H0 H locs → lv_has ls 4 [(3, .int (nI (j))), (0, .ref h2), (1, .long (lN (v)))] → W p l e R s m args below meth c H locs cells slots Q (F0 m 12 ls []) := by
  intro n
  induction n with
  | zero => intro j g h; omega
  | succ n ih =>
    intro j g hjn hI hg hpm H locs ls hP hD hS hl
    have hjk : j ≤ k := hI.1
    refine lv_iload_n hx hb dX1_put_12 rfl (lv_at hl 0 rfl) ?_
    refine lv_if_le (tgt := 56) hx hb dX1_put_13 (by decide) (fun c_13 => ?_) (fun c_13 => ?_)
    · have c_13 : j ≤ 0 := ci_le (a := j) (b := 0) c_13 (by omega) (by omega)
      refine lv_aload_n hx hb dX1_put_56 rfl (lv_at hl 1 rfl) ?_
      refine va_get (D := (dC, dI)) (ci := 1) (v := .ref h4) (C := RX1) (T := TX1) (N := 2) hx hb hts in_X1 hown hK hP 0 rfl rfl 0 (by decide) (hts _ q20) (fun _ h9 => h9) rfl dX1_put_57 ?_
      refine lv_iload_n hx hb dX1_put_60 rfl (lv_at hl 0 rfl) ?_
      refine lv_lload_n hx hb dX1_put_61 rfl (lv_at hl 2 rfl) ?_
      refine va_last hx hb hK hP hD hS 1 0 rfl rfl (in_nI (n := j) (by omega) (by omega)) dX1_put_62 (fun H locs hP hD hS => ?_)
      rw [lA_up (g := g) (k := j) (v := v) (by omega)] at hP hD
      have hP : va_P (dC, dI) vwCl [(h2, .inr (1, [.ref h4, .int (nI (k + 1))])), (h4, .inl (d4, 10, .inr (.inl (lA (nu g (j) (v))))))] H := hP
      have hD : va_D A [(h2, .inr (1, [.ref h4, .int (nI (k + 1))])), (h4, .inl (d4, 10, .inr (.inl (lA (nu g (j) (v))))))] := hD
      exact kk (nu g (j) (v)) _ _ ls (hp_Iend hI (by omega)) hpm hP hD hS
    · have c_13 : 0 < j := ci_nle (a := j) (b := 0) c_13 (by omega) (by omega)
      refine lv_aload_n hx hb dX1_put_16 rfl (lv_at hl 1 rfl) ?_
      refine va_get (D := (dC, dI)) (ci := 1) (v := .ref h4) (C := RX1) (T := TX1) (N := 2) hx hb hts in_X1 hown hK hP 0 rfl rfl 0 (by decide) (hts _ q20) (fun _ h9 => h9) rfl dX1_put_17 ?_
      refine lv_iload_n hx hb dX1_put_20 rfl (lv_at hl 0 rfl) ?_
      refine lv_iconst (v := nI 1) hx hb dX1_put_21 (by decide) ?_
      refine lv_isub hx hb dX1_put_22 ?_
      refine w_i (pk_sub (a := j) (b := 1) (by omega)) ?_
      refine lv_iconst (v := nI 2) hx hb dX1_put_23 (by decide) ?_
      refine lv_idiv hx hb dX1_put_24 (by decide) ?_
      refine w_i (pk_div (a := j - 1) (d := 2) (by omega) (by omega) (by omega)) ?_
      refine va_lald hx hb hK hP 1 0 rfl rfl (in_nI (n := (j - 1) / 2) (by omega) (by omega)) dX1_put_25 ?_
      refine w_l (lA_at (g := g) (k := (j - 1) / 2) (by omega)) ?_
      have b_25 : g ((j - 1) / 2) < 2 ^ 62 := hg _ (by omega) (by omega)
      refine lv_lload_n hx hb dX1_put_26 rfl (lv_at hl 2 rfl) ?_
      refine W.lcmp hx hb dX1_put_27 ?_
      refine lv_if_le (tgt := 56) hx hb dX1_put_28 (by decide) (fun c_28 => ?_) (fun c_28 => ?_)
      · have c_28 : g ((j - 1) / 2) ≤ v := cl_le c_28 (by omega) (by omega)
        refine lv_aload_n hx hb dX1_put_56 rfl (lv_at hl 1 rfl) ?_
        refine va_get (D := (dC, dI)) (ci := 1) (v := .ref h4) (C := RX1) (T := TX1) (N := 2) hx hb hts in_X1 hown hK hP 0 rfl rfl 0 (by decide) (hts _ q20) (fun _ h9 => h9) rfl dX1_put_57 ?_
        refine lv_iload_n hx hb dX1_put_60 rfl (lv_at hl 0 rfl) ?_
        refine lv_lload_n hx hb dX1_put_61 rfl (lv_at hl 2 rfl) ?_
        refine va_last hx hb hK hP hD hS 1 0 rfl rfl (in_nI (n := j) (by omega) (by omega)) dX1_put_62 (fun H locs hP hD hS => ?_)
        rw [lA_up (g := g) (k := j) (v := v) (by omega)] at hP hD
        have hP : va_P (dC, dI) vwCl [(h2, .inr (1, [.ref h4, .int (nI (k + 1))])), (h4, .inl (d4, 10, .inr (.inl (lA (nu g (j) (v))))))] H := hP
        have hD : va_D A [(h2, .inr (1, [.ref h4, .int (nI (k + 1))])), (h4, .inl (d4, 10, .inr (.inl (lA (nu g (j) (v))))))] := hD
        exact kk (nu g (j) (v)) _ _ ls (hp_Iend hI (by omega)) hpm hP hD hS
      · have c_28 : v < g ((j - 1) / 2) := cl_nle c_28 (by omega) (by omega)
        refine lv_aload_n hx hb dX1_put_31 rfl (lv_at hl 1 rfl) ?_
        refine va_get (D := (dC, dI)) (ci := 1) (v := .ref h4) (C := RX1) (T := TX1) (N := 2) hx hb hts in_X1 hown hK hP 0 rfl rfl 0 (by decide) (hts _ q20) (fun _ h9 => h9) rfl dX1_put_32 ?_
        refine lv_iload_n hx hb dX1_put_35 rfl (lv_at hl 0 rfl) ?_
        refine lv_aload_n hx hb dX1_put_36 rfl (lv_at hl 1 rfl) ?_
        refine va_get (D := (dC, dI)) (ci := 1) (v := .ref h4) (C := RX1) (T := TX1) (N := 2) hx hb hts in_X1 hown hK hP 0 rfl rfl 0 (by decide) (hts _ q20) (fun _ h9 => h9) rfl dX1_put_37 ?_
        refine lv_iload_n hx hb dX1_put_40 rfl (lv_at hl 0 rfl) ?_
        refine lv_iconst (v := nI 1) hx hb dX1_put_41 (by decide) ?_
        refine lv_isub hx hb dX1_put_42 ?_
        refine w_i (pk_sub (a := j) (b := 1) (by omega)) ?_
        refine lv_iconst (v := nI 2) hx hb dX1_put_43 (by decide) ?_
        refine lv_idiv hx hb dX1_put_44 (by decide) ?_
        refine w_i (pk_div (a := j - 1) (d := 2) (by omega) (by omega) (by omega)) ?_
        refine va_lald hx hb hK hP 1 0 rfl rfl (in_nI (n := (j - 1) / 2) (by omega) (by omega)) dX1_put_45 ?_
        refine w_l (lA_at (g := g) (k := (j - 1) / 2) (by omega)) ?_
        have b_45 : g ((j - 1) / 2) < 2 ^ 62 := hg _ (by omega) (by omega)
        refine va_last hx hb hK hP hD hS 1 0 rfl rfl (in_nI (n := j) (by omega) (by omega)) dX1_put_46 (fun H locs hP hD hS => ?_)
        rw [lA_up (g := g) (k := j) (v := g ((j - 1) / 2)) (by omega)] at hP hD
        have hP : va_P (dC, dI) vwCl [(h2, .inr (1, [.ref h4, .int (nI (k + 1))])), (h4, .inl (d4, 10, .inr (.inl (lA (nu g (j) (g ((j - 1) / 2)))))))] H := hP
        have hD : va_D A [(h2, .inr (1, [.ref h4, .int (nI (k + 1))])), (h4, .inl (d4, 10, .inr (.inl (lA (nu g (j) (g ((j - 1) / 2)))))))] := hD
        refine lv_iload_n hx hb dX1_put_47 rfl (lv_at hl 0 rfl) ?_
        refine lv_iconst (v := nI 1) hx hb dX1_put_48 (by decide) ?_
        refine lv_isub hx hb dX1_put_49 ?_
        refine w_i (pk_sub (a := j) (b := 1) (by omega)) ?_
        refine lv_iconst (v := nI 2) hx hb dX1_put_50 (by decide) ?_
        refine lv_idiv hx hb dX1_put_51 (by decide) ?_
        refine w_i (pk_div (a := j - 1) (d := 2) (by omega) (by omega) (by omega)) ?_
        refine lv_istore_n (lv' := [(3, .int (nI ((j - 1) / 2))), (0, .ref h2), (1, .long (lN (v)))]) hx hb dX1_put_52 rfl hl (by decide) rfl (fun ls hl => ?_)
        refine lv_goto (tgt := 12) hx hb dX1_put_53 (by decide) ?_
        exact ih ((j - 1) / 2) (nu g (j) (g ((j - 1) / 2))) (by omega) (hp_Istep hI (by omega) (by assumption)) (fun i h1 h2 => by
          by_cases q : i = j
          · rw [q, nu_s]; exact hg _ (by omega) (by omega)
          · rw [nu_n q]; exact hg i h1 q) ((mk_all_swap (by omega) (by omega) (by omega)).trans hpm) _ _ ls hP hD hS (lv_sub hl [0, 1, 2] rfl)
end PUT
set_option maxHeartbeats 4000000 in
set_option maxRecDepth 100000 in
theorem metX1_put (l : Launch) (dC : Nat → ClassId) (dI : Nat → Nat → Nat) (h2 h4 : Nat) (d4 : ClassId) (sz k v : Nat) (g : Nat → Nat) (hk : k < 10) (hv : v < 2 ^ 62) (hg : ∀ i, i < k → g i < 2 ^ 62) (hh : hp_ok g k) : Met l yX1_put (ws_ yX1_put cX1_put 4 none) ({ frames := 0, cells := 0, slots := 0, locals := 0 }) (va_Pc [.ref h2, .long (lN v)] (fun U => U.heap.size = sz ∧ va_P (dC, dI) vwCl [(h2, .inr (1, [.ref h4, .int (nI (k))])), (h4, .inl (d4, 10, .inr (.inl (lA g))))] U.heap ∧ va_K (dC, dI) vwCl [(d4, .long)] U ∧ va_D (fun _ => True) [(h2, .inr (1, [.ref h4, .int (nI (k))])), (h4, .inl (d4, 10, .inr (.inl (lA g))))])) (va_Qv (fun g' : Nat → Nat => hp_ok g' (k + 1) ∧ (mk_all g' (k + 1)).Perm (v :: mk_all g k)) (fun g' t => va_P (dC, dI) vwCl [(h2, .inr (1, [.ref h4, .int (nI (k + 1))])), (h4, .inl (d4, 10, .inr (.inl (lA g'))))] t.heap ∧ va_K (dC, dI) vwCl [(d4, .long)] t ∧ va_D (va_A [(h2, .inr (1, [.ref h4, .int (nI (k))])), (h4, .inl (d4, 10, .inr (.inl (lA g))))] sz) [(h2, .inr (1, [.ref h4, .int (nI (k + 1))])), (h4, .inl (d4, 10, .inr (.inl (lA g'))))]) (va_A [(h2, .inr (1, [.ref h4, .int (nI (k))])), (h4, .inl (d4, 10, .inr (.inl (lA g))))] sz)) 0 0 (va_A [(h2, .inr (1, [.ref h4, .int (nI (k))])), (h4, .inl (d4, 10, .inr (.inl (lA g))))] sz) := by
  refine Met.ofW (cc := cX1_put) (maxL := 4) (ret := none) (by decide) rfl ?_
  intro p e s m args below meth c s₁ B hml hv
  obtain ⟨rfl, hsz, hP, hK, hD0⟩ := hv
  have hx := B.exec
  have hb := B.bytes
  have hr := B.returns
  have hts := atoms_spec (ws := ws_ yX1_put cX1_put 4 none) B.pre
  have hts : ∀ w ∈ lw_all, w.before _ s = true := fun w h => hts w (List.mem_cons_of_mem _ h)
  have hown : s.vm.findClass RX1 = some m.cls := findClass_of_methodNamed B.named
  have hlocks := B.notSynchronized
  subst hsz
  have hD := hD0.self (sz := s.heap.size)
  generalize hAe : va_A [(h2, .inr (1, [.ref h4, .int (nI (k))])), (h4, .inl (d4, 10, .inr (.inl (lA g))))] s.heap.size = A at hD ⊢
  have hA : ∀ q : Nat, s.heap.size ≤ q → A q := fun q h => by rw [← hAe]; exact Or.inr h
  have hS : va_S A s.heap s.heap [] := va_S.rf
  have hP : va_P (dC, dI) vwCl [(h2, .inr (1, [.ref h4, .int (nI (k))])), (h4, .inl (d4, 10, .inr (.inl (lA g))))] s.heap := hP
  have hl := lv_entry ([.ref h2, .long (lN v)]) (n := 4) (Nat.le_of_ble_eq_true rfl)
  rw [lg_entry_eq]
  generalize (lg_sl ([.ref h2, .long (lN v)]) ++ List.replicate (4 - (lg_sl ([.ref h2, .long (lN v)])).length) Slot.unset).toArray = ls at hl ⊢
  have hl : lv_has ls 4 [(0, .ref h2), (1, .long (lN (v)))] := hl
  refine lv_aload_n hx hb dX1_put_0 rfl (lv_at hl 0 rfl) ?_
  refine lv_dup hx hb dX1_put_1 rfl ?_
  refine va_get (D := (dC, dI)) (ci := 1) (v := .int (nI (k))) (C := RX1) (T := TX1) (N := 2) hx hb hts in_X1 hown hK hP 0 rfl rfl 1 (by decide) (hts _ q21) (fun _ h9 => h9) rfl dX1_put_2 ?_
  refine lv_dup_x1 hx hb dX1_put_5 rfl rfl ?_
  refine lv_iconst (v := nI 1) hx hb dX1_put_6 (by decide) ?_
  refine lv_iadd hx hb dX1_put_7 ?_
  refine w_i (nI_add (k) (1)) ?_
  refine va_put (D := (dC, dI)) (ci := 1) (v := .int (nI (k + 1))) (ty := .int) (C := RX1) (T := TX1) (N := 2) hx hb hts in_X1 tyX1 tyX1_ok nmX1 hown hK hP hD hS 0 rfl rfl 1 (by decide) (hts _ q21) (fun _ h9 => h9) rfl (by decide +kernel) rfl rfl (Nat.le_of_ble_eq_true rfl) dX1_put_8 (fun H locs hP hD hS => ?_)
  have hP : va_P (dC, dI) vwCl [(h2, .inr (1, [.ref h4, .int (nI (k + 1))])), (h4, .inl (d4, 10, .inr (.inl (lA g))))] H := hP
  have hD : va_D A [(h2, .inr (1, [.ref h4, .int (nI (k + 1))])), (h4, .inl (d4, 10, .inr (.inl (lA g))))] := hD
  refine lv_istore_n (lv' := [(3, .int (nI (k))), (0, .ref h2), (1, .long (lN (v)))]) hx hb dX1_put_11 rfl hl (by decide) rfl (fun ls hl => ?_)
  refine lp_put hx hb hown hts hk hv g hK (fun g' H locs ls a1 a2 hP hD hS => ?_) (k + 1) k g (Nat.lt_succ_self k) (hp_I0 hh) (fun i h1 h2 => hg i (by omega)) ?_ _ _ ls hP hD hS (lv_sub hl [0, 1, 2] rfl)
  · have hP9 := hP.sub (ws' := [(h2, .inr (1, [.ref h4, .int (nI (k + 1))])), (h4, .inl (d4, 10, .inr (.inl (lA g'))))]) [0, 1] rfl
    have hD9 := hD.sub (ws' := [(h2, .inr (1, [.ref h4, .int (nI (k + 1))])), (h4, .inl (d4, 10, .inr (.inl (lA g'))))]) [0, 1] (by decide) rfl
    have hK9 := hK.sub (tys' := [(d4, .long)]) [0] rfl
    exact W.vret hx hb hr (fun t ht hW => ⟨⟨g', rfl, ⟨a1, a2⟩, by rw [ht]; exact hP9, va_K.moved hW.alike hK9, hD9⟩, hS.F ht⟩) hS.2.2 dX1_put_63
  · rw [mk_all, nu_s, mk_all_congr (g' := g) (fun i hi => nu_n (by omega))]
end
section
section TAKE
variable {p : Program} {l : Launch} {e : Env} {R : Room} {s : State} {m : MethodId} {args : Array Value} {below : List Frame} {meth : Method} {c : Code} {Q : State → Prop} {cells slots : Nat} {dC : Nat → ClassId} {dI : Nat → Nat → Nat} {A : Nat → Prop} {H0 : Heap}
set_option maxHeartbeats 4000000 in
set_option maxRecDepth 100000 in
theorem lp_take (hx : p.tables.exec = Jvm.exec) (hb : c.code = cX1_take) (hown : s.vm.findClass RX1 = some m.cls) (hts : ∀ w ∈ lw_all, w.before args s = true) {h2 h4 mm v x0 : Nat} {d4 : ClassId} (hm : mm < 10) (hv : v < 2 ^ 62) (LL : List Nat) (hK : va_K (dC, dI) vwCl [(d4, .long)] s)
    (kk : ∀ (g : Nat → Nat) (H : Heap) (locs : List Loc) (ls : Array Slot), hp_ok g mm → (0 < mm → (mk_all g mm).Perm LL) → va_P (dC, dI) vwCl [(h2, .inr (1, [.ref h4, .int (nI (mm))])), (h4, .inl (d4, 10, .inr (.inl (lA g))))] H → va_D A [(h2, .inr (1, [.ref h4, .int (nI (mm))])), (h4, .inl (d4, 10, .inr (.inl (lA g))))] → va_S A H0 H locs → lv_has ls 7 [(1, .long (lN (x0)))] → W p l e R s m args below meth c H locs cells slots Q (F0 m 126 ls [])) :
    ∀ (n j : Nat) (g : Nat → Nat), mm < j + n → j ≤ mm → (0 < mm → j < mm) → hp_J g mm v j → (∀ i, i < mm → g i < 2 ^ 62) → (0 < mm → (mk_all (nu g j v) mm).Perm LL) → ∀ (H : Heap) (locs : List Loc) (ls : Array Slot), va_P (dC, dI) vwCl [(h2, .inr (1, [.ref h4, .int (nI (mm))])), (h4, .inl (d4, 10, .inr (.inl (lA g))))] H → va_D A [(h2, .inr (1, [.ref h4, .int (nI (mm))])), (h4, .inl (d4, 10, .inr (.inl (lA g))))] → va_S A H0 H locs → lv_has ls 7 [(5, .int (nI (j))), (3, .long (lN (v))), (1, .long (lN (x0))), (0, .ref h2)] → W p l e R s m args below meth c H locs cells slots Q (F0 m 27 ls []) := by
  intro n
  induction n with
  | zero => intro j g h h1; omega
  | succ n ih =>
    intro j g hjn hjm hj0 hJ hg hpm H locs ls hP hD hS hl
    refine lv_iconst (v := nI 2) hx hb dX1_take_27 (by decide) ?_
    refine lv_iload hx hb dX1_take_28 (lv_at hl 0 rfl) ?_
    refine lv_imul hx hb dX1_take_30 ?_
    refine w_i (pk_mul (2) (j)) ?_
    refine lv_iconst (v := nI 1) hx hb dX1_take_31 (by decide) ?_
    refine lv_iadd hx hb dX1_take_32 ?_
    refine w_i (nI_add (2 * j) (1)) ?_
    refine lv_aload_n hx hb dX1_take_33 rfl (lv_at hl 3 rfl) ?_
    refine va_get (D := (dC, dI)) (ci := 1) (v := .int (nI (mm))) (C := RX1) (T := TX1) (N := 2) hx hb hts in_X1 hown hK hP 0 rfl rfl 1 (by decide) (hts _ q21) (fun _ h9 => h9) rfl dX1_take_34 ?_
    refine lv_icmp_ge (tgt := 118) hx hb dX1_take_37 (by decide) (fun c_37 => ?_) (fun c_37 => ?_)
    · have c_37 : mm ≤ 2 * j + 1 := ci_le c_37 (by omega) (by omega)
      refine lv_aload_n hx hb dX1_take_118 rfl (lv_at hl 3 rfl) ?_
      refine va_get (D := (dC, dI)) (ci := 1) (v := .ref h4) (C := RX1) (T := TX1) (N := 2) hx hb hts in_X1 hown hK hP 0 rfl rfl 0 (by decide) (hts _ q20) (fun _ h9 => h9) rfl dX1_take_119 ?_
      refine lv_iload hx hb dX1_take_122 (lv_at hl 0 rfl) ?_
      refine lv_lload_n hx hb dX1_take_124 rfl (lv_at hl 1 rfl) ?_
      refine va_last hx hb hK hP hD hS 1 0 rfl rfl (in_nI (n := j) (by omega) (by omega)) dX1_take_125 (fun H locs hP hD hS => ?_)
      rw [lA_up (g := g) (k := j) (v := v) (by omega)] at hP hD
      have hP : va_P (dC, dI) vwCl [(h2, .inr (1, [.ref h4, .int (nI (mm))])), (h4, .inl (d4, 10, .inr (.inl (lA (nu g (j) (v))))))] H := hP
      have hD : va_D A [(h2, .inr (1, [.ref h4, .int (nI (mm))])), (h4, .inl (d4, 10, .inr (.inl (lA (nu g (j) (v))))))] := hD
      exact kk (nu g (j) (v)) _ _ ls (hp_Jend hJ (fun i h1 h2 => by
        have h2 : i = 2 * j + 1 ∨ i = 2 * j + 1 + 1 := by omega
        rcases h2 with h2 | h2 <;> subst h2 <;> omega)) hpm hP hD hS (lv_sub hl [2] rfl)
    · have c_37 : 2 * j + 1 < mm := ci_nle c_37 (by omega) (by omega)
      refine lv_iconst (v := nI 2) hx hb dX1_take_40 (by decide) ?_
      refine lv_iload hx hb dX1_take_41 (lv_at hl 0 rfl) ?_
      refine lv_imul hx hb dX1_take_43 ?_
      refine w_i (pk_mul (2) (j)) ?_
      refine lv_iconst (v := nI 1) hx hb dX1_take_44 (by decide) ?_
      refine lv_iadd hx hb dX1_take_45 ?_
      refine w_i (nI_add (2 * j) (1)) ?_
      refine lv_istore (lv' := [(6, .int (nI (2 * j + 1))), (5, .int (nI (j))), (3, .long (lN (v))), (1, .long (lN (x0))), (0, .ref h2)]) hx hb dX1_take_46 hl (by decide) rfl (fun ls hl => ?_)
      refine lv_iload hx hb dX1_take_48 (lv_at hl 0 rfl) ?_
      refine lv_iconst (v := nI 1) hx hb dX1_take_50 (by decide) ?_
      refine lv_iadd hx hb dX1_take_51 ?_
      refine w_i (nI_add (2 * j + 1) (1)) ?_
      refine lv_aload_n hx hb dX1_take_52 rfl (lv_at hl 4 rfl) ?_
      refine va_get (D := (dC, dI)) (ci := 1) (v := .int (nI (mm))) (C := RX1) (T := TX1) (N := 2) hx hb hts in_X1 hown hK hP 0 rfl rfl 1 (by decide) (hts _ q21) (fun _ h9 => h9) rfl dX1_take_53 ?_
      refine lv_icmp_ge (tgt := 82) hx hb dX1_take_56 (by decide) (fun c_56 => ?_) (fun c_56 => ?_)
      · have c_56 : mm ≤ 2 * j + 1 + 1 := ci_le c_56 (by omega) (by omega)
        refine lv_aload_n hx hb dX1_take_82 rfl (lv_at hl 4 rfl) ?_
        refine va_get (D := (dC, dI)) (ci := 1) (v := .ref h4) (C := RX1) (T := TX1) (N := 2) hx hb hts in_X1 hown hK hP 0 rfl rfl 0 (by decide) (hts _ q20) (fun _ h9 => h9) rfl dX1_take_83 ?_
        refine lv_iload hx hb dX1_take_86 (lv_at hl 0 rfl) ?_
        refine va_lald hx hb hK hP 1 0 rfl rfl (in_nI (n := 2 * j + 1) (by omega) (by omega)) dX1_take_88 ?_
        refine w_l (lA_at (g := g) (k := 2 * j + 1) (by omega)) ?_
        have b_88 : g (2 * j + 1) < 2 ^ 62 := hg _ (by omega)
        refine lv_lload_n hx hb dX1_take_89 rfl (lv_at hl 2 rfl) ?_
        refine W.lcmp hx hb dX1_take_90 ?_
        refine lv_if_lt (tgt := 97) hx hb dX1_take_91 (by decide) (fun c_91 => ?_) (fun c_91 => ?_)
        · have c_91 : g (2 * j + 1) < v := cl_lt c_91 (by omega) (by omega)
          refine lv_aload_n hx hb dX1_take_97 rfl (lv_at hl 4 rfl) ?_
          refine va_get (D := (dC, dI)) (ci := 1) (v := .ref h4) (C := RX1) (T := TX1) (N := 2) hx hb hts in_X1 hown hK hP 0 rfl rfl 0 (by decide) (hts _ q20) (fun _ h9 => h9) rfl dX1_take_98 ?_
          refine lv_iload hx hb dX1_take_101 (lv_at hl 1 rfl) ?_
          refine lv_aload_n hx hb dX1_take_103 rfl (lv_at hl 4 rfl) ?_
          refine va_get (D := (dC, dI)) (ci := 1) (v := .ref h4) (C := RX1) (T := TX1) (N := 2) hx hb hts in_X1 hown hK hP 0 rfl rfl 0 (by decide) (hts _ q20) (fun _ h9 => h9) rfl dX1_take_104 ?_
          refine lv_iload hx hb dX1_take_107 (lv_at hl 0 rfl) ?_
          refine va_lald hx hb hK hP 1 0 rfl rfl (in_nI (n := 2 * j + 1) (by omega) (by omega)) dX1_take_109 ?_
          refine w_l (lA_at (g := g) (k := 2 * j + 1) (by omega)) ?_
          have b_109 : g (2 * j + 1) < 2 ^ 62 := hg _ (by omega)
          refine va_last hx hb hK hP hD hS 1 0 rfl rfl (in_nI (n := j) (by omega) (by omega)) dX1_take_110 (fun H locs hP hD hS => ?_)
          rw [lA_up (g := g) (k := j) (v := g (2 * j + 1)) (by omega)] at hP hD
          have hP : va_P (dC, dI) vwCl [(h2, .inr (1, [.ref h4, .int (nI (mm))])), (h4, .inl (d4, 10, .inr (.inl (lA (nu g (j) (g (2 * j + 1)))))))] H := hP
          have hD : va_D A [(h2, .inr (1, [.ref h4, .int (nI (mm))])), (h4, .inl (d4, 10, .inr (.inl (lA (nu g (j) (g (2 * j + 1)))))))] := hD
          refine lv_iload hx hb dX1_take_111 (lv_at hl 0 rfl) ?_
          refine lv_istore (lv' := [(5, .int (nI (2 * j + 1))), (6, .int (nI (2 * j + 1))), (3, .long (lN (v))), (1, .long (lN (x0))), (0, .ref h2)]) hx hb dX1_take_113 hl (by decide) rfl (fun ls hl => ?_)
          refine lv_goto (tgt := 27) hx hb dX1_take_115 (by decide) ?_
          exact ih (2 * j + 1) (nu g (j) (g (2 * j + 1))) (by omega) (by omega) (fun _ => by omega) (hp_Jstep hJ (by omega) (by omega) (fun i h1 h2 => by
            have h2 : i = 2 * j + 1 ∨ i = 2 * j + 1 + 1 := by omega
            rcases h2 with h2 | h2 <;> subst h2 <;> omega) (by assumption)) (fun i h1 => by
            by_cases q : i = j
            · rw [q, nu_s]; exact hg _ (by omega)
            · rw [nu_n q]; exact hg i h1) (fun h0 => (mk_all_swap (by omega) (by omega) (by omega)).trans (hpm h0)) _ _ ls hP hD hS (lv_sub hl [0, 2, 3, 4] rfl)
        · have c_91 : v ≤ g (2 * j + 1) := cl_nlt c_91 (by omega) (by omega)
          refine lv_goto (tgt := 118) hx hb dX1_take_94 (by decide) ?_
          refine lv_aload_n hx hb dX1_take_118 rfl (lv_at hl 4 rfl) ?_
          refine va_get (D := (dC, dI)) (ci := 1) (v := .ref h4) (C := RX1) (T := TX1) (N := 2) hx hb hts in_X1 hown hK hP 0 rfl rfl 0 (by decide) (hts _ q20) (fun _ h9 => h9) rfl dX1_take_119 ?_
          refine lv_iload hx hb dX1_take_122 (lv_at hl 1 rfl) ?_
          refine lv_lload_n hx hb dX1_take_124 rfl (lv_at hl 2 rfl) ?_
          refine va_last hx hb hK hP hD hS 1 0 rfl rfl (in_nI (n := j) (by omega) (by omega)) dX1_take_125 (fun H locs hP hD hS => ?_)
          rw [lA_up (g := g) (k := j) (v := v) (by omega)] at hP hD
          have hP : va_P (dC, dI) vwCl [(h2, .inr (1, [.ref h4, .int (nI (mm))])), (h4, .inl (d4, 10, .inr (.inl (lA (nu g (j) (v))))))] H := hP
          have hD : va_D A [(h2, .inr (1, [.ref h4, .int (nI (mm))])), (h4, .inl (d4, 10, .inr (.inl (lA (nu g (j) (v))))))] := hD
          exact kk (nu g (j) (v)) _ _ ls (hp_Jend hJ (fun i h1 h2 => by
            have h2 : i = 2 * j + 1 ∨ i = 2 * j + 1 + 1 := by omega
            rcases h2 with h2 | h2 <;> subst h2 <;> omega)) hpm hP hD hS (lv_sub hl [3] rfl)
      · have c_56 : 2 * j + 1 + 1 < mm := ci_nle c_56 (by omega) (by omega)
        refine lv_aload_n hx hb dX1_take_59 rfl (lv_at hl 4 rfl) ?_
        refine va_get (D := (dC, dI)) (ci := 1) (v := .ref h4) (C := RX1) (T := TX1) (N := 2) hx hb hts in_X1 hown hK hP 0 rfl rfl 0 (by decide) (hts _ q20) (fun _ h9 => h9) rfl dX1_take_60 ?_
        refine lv_iload hx hb dX1_take_63 (lv_at hl 0 rfl) ?_
        refine lv_iconst (v := nI 1) hx hb dX1_take_65 (by decide) ?_
        refine lv_iadd hx hb dX1_take_66 ?_
        refine w_i (nI_add (2 * j + 1) (1)) ?_
        refine va_lald hx hb hK hP 1 0 rfl rfl (in_nI (n := 2 * j + 1 + 1) (by omega) (by omega)) dX1_take_67 ?_
        refine w_l (lA_at (g := g) (k := 2 * j + 1 + 1) (by omega)) ?_
        have b_67 : g (2 * j + 1 + 1) < 2 ^ 62 := hg _ (by omega)
        refine lv_aload_n hx hb dX1_take_68 rfl (lv_at hl 4 rfl) ?_
        refine va_get (D := (dC, dI)) (ci := 1) (v := .ref h4) (C := RX1) (T := TX1) (N := 2) hx hb hts in_X1 hown hK hP 0 rfl rfl 0 (by decide) (hts _ q20) (fun _ h9 => h9) rfl dX1_take_69 ?_
        refine lv_iload hx hb dX1_take_72 (lv_at hl 0 rfl) ?_
        refine va_lald hx hb hK hP 1 0 rfl rfl (in_nI (n := 2 * j + 1) (by omega) (by omega)) dX1_take_74 ?_
        refine w_l (lA_at (g := g) (k := 2 * j + 1) (by omega)) ?_
        have b_74 : g (2 * j + 1) < 2 ^ 62 := hg _ (by omega)
        refine W.lcmp hx hb dX1_take_75 ?_
        refine lv_if_ge (tgt := 82) hx hb dX1_take_76 (by decide) (fun c_76 => ?_) (fun c_76 => ?_)
        · have c_76 : g (2 * j + 1) ≤ g (2 * j + 1 + 1) := cl_ge c_76 (by omega) (by omega)
          refine lv_aload_n hx hb dX1_take_82 rfl (lv_at hl 4 rfl) ?_
          refine va_get (D := (dC, dI)) (ci := 1) (v := .ref h4) (C := RX1) (T := TX1) (N := 2) hx hb hts in_X1 hown hK hP 0 rfl rfl 0 (by decide) (hts _ q20) (fun _ h9 => h9) rfl dX1_take_83 ?_
          refine lv_iload hx hb dX1_take_86 (lv_at hl 0 rfl) ?_
          refine va_lald hx hb hK hP 1 0 rfl rfl (in_nI (n := 2 * j + 1) (by omega) (by omega)) dX1_take_88 ?_
          refine w_l (lA_at (g := g) (k := 2 * j + 1) (by omega)) ?_
          have b_88 : g (2 * j + 1) < 2 ^ 62 := hg _ (by omega)
          refine lv_lload_n hx hb dX1_take_89 rfl (lv_at hl 2 rfl) ?_
          refine W.lcmp hx hb dX1_take_90 ?_
          refine lv_if_lt (tgt := 97) hx hb dX1_take_91 (by decide) (fun c_91 => ?_) (fun c_91 => ?_)
          · have c_91 : g (2 * j + 1) < v := cl_lt c_91 (by omega) (by omega)
            refine lv_aload_n hx hb dX1_take_97 rfl (lv_at hl 4 rfl) ?_
            refine va_get (D := (dC, dI)) (ci := 1) (v := .ref h4) (C := RX1) (T := TX1) (N := 2) hx hb hts in_X1 hown hK hP 0 rfl rfl 0 (by decide) (hts _ q20) (fun _ h9 => h9) rfl dX1_take_98 ?_
            refine lv_iload hx hb dX1_take_101 (lv_at hl 1 rfl) ?_
            refine lv_aload_n hx hb dX1_take_103 rfl (lv_at hl 4 rfl) ?_
            refine va_get (D := (dC, dI)) (ci := 1) (v := .ref h4) (C := RX1) (T := TX1) (N := 2) hx hb hts in_X1 hown hK hP 0 rfl rfl 0 (by decide) (hts _ q20) (fun _ h9 => h9) rfl dX1_take_104 ?_
            refine lv_iload hx hb dX1_take_107 (lv_at hl 0 rfl) ?_
            refine va_lald hx hb hK hP 1 0 rfl rfl (in_nI (n := 2 * j + 1) (by omega) (by omega)) dX1_take_109 ?_
            refine w_l (lA_at (g := g) (k := 2 * j + 1) (by omega)) ?_
            have b_109 : g (2 * j + 1) < 2 ^ 62 := hg _ (by omega)
            refine va_last hx hb hK hP hD hS 1 0 rfl rfl (in_nI (n := j) (by omega) (by omega)) dX1_take_110 (fun H locs hP hD hS => ?_)
            rw [lA_up (g := g) (k := j) (v := g (2 * j + 1)) (by omega)] at hP hD
            have hP : va_P (dC, dI) vwCl [(h2, .inr (1, [.ref h4, .int (nI (mm))])), (h4, .inl (d4, 10, .inr (.inl (lA (nu g (j) (g (2 * j + 1)))))))] H := hP
            have hD : va_D A [(h2, .inr (1, [.ref h4, .int (nI (mm))])), (h4, .inl (d4, 10, .inr (.inl (lA (nu g (j) (g (2 * j + 1)))))))] := hD
            refine lv_iload hx hb dX1_take_111 (lv_at hl 0 rfl) ?_
            refine lv_istore (lv' := [(5, .int (nI (2 * j + 1))), (6, .int (nI (2 * j + 1))), (3, .long (lN (v))), (1, .long (lN (x0))), (0, .ref h2)]) hx hb dX1_take_113 hl (by decide) rfl (fun ls hl => ?_)
            refine lv_goto (tgt := 27) hx hb dX1_take_115 (by decide) ?_
            exact ih (2 * j + 1) (nu g (j) (g (2 * j + 1))) (by omega) (by omega) (fun _ => by omega) (hp_Jstep hJ (by omega) (by omega) (fun i h1 h2 => by
              have h2 : i = 2 * j + 1 ∨ i = 2 * j + 1 + 1 := by omega
              rcases h2 with h2 | h2 <;> subst h2 <;> omega) (by assumption)) (fun i h1 => by
              by_cases q : i = j
              · rw [q, nu_s]; exact hg _ (by omega)
              · rw [nu_n q]; exact hg i h1) (fun h0 => (mk_all_swap (by omega) (by omega) (by omega)).trans (hpm h0)) _ _ ls hP hD hS (lv_sub hl [0, 2, 3, 4] rfl)
          · have c_91 : v ≤ g (2 * j + 1) := cl_nlt c_91 (by omega) (by omega)
            refine lv_goto (tgt := 118) hx hb dX1_take_94 (by decide) ?_
            refine lv_aload_n hx hb dX1_take_118 rfl (lv_at hl 4 rfl) ?_
            refine va_get (D := (dC, dI)) (ci := 1) (v := .ref h4) (C := RX1) (T := TX1) (N := 2) hx hb hts in_X1 hown hK hP 0 rfl rfl 0 (by decide) (hts _ q20) (fun _ h9 => h9) rfl dX1_take_119 ?_
            refine lv_iload hx hb dX1_take_122 (lv_at hl 1 rfl) ?_
            refine lv_lload_n hx hb dX1_take_124 rfl (lv_at hl 2 rfl) ?_
            refine va_last hx hb hK hP hD hS 1 0 rfl rfl (in_nI (n := j) (by omega) (by omega)) dX1_take_125 (fun H locs hP hD hS => ?_)
            rw [lA_up (g := g) (k := j) (v := v) (by omega)] at hP hD
            have hP : va_P (dC, dI) vwCl [(h2, .inr (1, [.ref h4, .int (nI (mm))])), (h4, .inl (d4, 10, .inr (.inl (lA (nu g (j) (v))))))] H := hP
            have hD : va_D A [(h2, .inr (1, [.ref h4, .int (nI (mm))])), (h4, .inl (d4, 10, .inr (.inl (lA (nu g (j) (v))))))] := hD
            exact kk (nu g (j) (v)) _ _ ls (hp_Jend hJ (fun i h1 h2 => by
              have h2 : i = 2 * j + 1 ∨ i = 2 * j + 1 + 1 := by omega
              rcases h2 with h2 | h2 <;> subst h2 <;> omega)) hpm hP hD hS (lv_sub hl [3] rfl)
        · have c_76 : g (2 * j + 1 + 1) < g (2 * j + 1) := cl_nge c_76 (by omega) (by omega)
          refine lv_iinc (v := nI (2 * j + 1 + 1)) (lv' := [(6, .int (nI (2 * j + 1 + 1))), (5, .int (nI (j))), (3, .long (lN (v))), (1, .long (lN (x0))), (0, .ref h2)]) hx hb dX1_take_79 hl (k := 0) rfl (inc_1 (2 * j + 1)) (by decide) rfl (fun ls hl => ?_)
          refine lv_aload_n hx hb dX1_take_82 rfl (lv_at hl 4 rfl) ?_
          refine va_get (D := (dC, dI)) (ci := 1) (v := .ref h4) (C := RX1) (T := TX1) (N := 2) hx hb hts in_X1 hown hK hP 0 rfl rfl 0 (by decide) (hts _ q20) (fun _ h9 => h9) rfl dX1_take_83 ?_
          refine lv_iload hx hb dX1_take_86 (lv_at hl 0 rfl) ?_
          refine va_lald hx hb hK hP 1 0 rfl rfl (in_nI (n := 2 * j + 1 + 1) (by omega) (by omega)) dX1_take_88 ?_
          refine w_l (lA_at (g := g) (k := 2 * j + 1 + 1) (by omega)) ?_
          have b_88 : g (2 * j + 1 + 1) < 2 ^ 62 := hg _ (by omega)
          refine lv_lload_n hx hb dX1_take_89 rfl (lv_at hl 2 rfl) ?_
          refine W.lcmp hx hb dX1_take_90 ?_
          refine lv_if_lt (tgt := 97) hx hb dX1_take_91 (by decide) (fun c_91 => ?_) (fun c_91 => ?_)
          · have c_91 : g (2 * j + 1 + 1) < v := cl_lt c_91 (by omega) (by omega)
            refine lv_aload_n hx hb dX1_take_97 rfl (lv_at hl 4 rfl) ?_
            refine va_get (D := (dC, dI)) (ci := 1) (v := .ref h4) (C := RX1) (T := TX1) (N := 2) hx hb hts in_X1 hown hK hP 0 rfl rfl 0 (by decide) (hts _ q20) (fun _ h9 => h9) rfl dX1_take_98 ?_
            refine lv_iload hx hb dX1_take_101 (lv_at hl 1 rfl) ?_
            refine lv_aload_n hx hb dX1_take_103 rfl (lv_at hl 4 rfl) ?_
            refine va_get (D := (dC, dI)) (ci := 1) (v := .ref h4) (C := RX1) (T := TX1) (N := 2) hx hb hts in_X1 hown hK hP 0 rfl rfl 0 (by decide) (hts _ q20) (fun _ h9 => h9) rfl dX1_take_104 ?_
            refine lv_iload hx hb dX1_take_107 (lv_at hl 0 rfl) ?_
            refine va_lald hx hb hK hP 1 0 rfl rfl (in_nI (n := 2 * j + 1 + 1) (by omega) (by omega)) dX1_take_109 ?_
            refine w_l (lA_at (g := g) (k := 2 * j + 1 + 1) (by omega)) ?_
            have b_109 : g (2 * j + 1 + 1) < 2 ^ 62 := hg _ (by omega)
            refine va_last hx hb hK hP hD hS 1 0 rfl rfl (in_nI (n := j) (by omega) (by omega)) dX1_take_110 (fun H locs hP hD hS => ?_)
            rw [lA_up (g := g) (k := j) (v := g (2 * j + 1 + 1)) (by omega)] at hP hD
            have hP : va_P (dC, dI) vwCl [(h2, .inr (1, [.ref h4, .int (nI (mm))])), (h4, .inl (d4, 10, .inr (.inl (lA (nu g (j) (g (2 * j + 1 + 1)))))))] H := hP
            have hD : va_D A [(h2, .inr (1, [.ref h4, .int (nI (mm))])), (h4, .inl (d4, 10, .inr (.inl (lA (nu g (j) (g (2 * j + 1 + 1)))))))] := hD
            refine lv_iload hx hb dX1_take_111 (lv_at hl 0 rfl) ?_
            refine lv_istore (lv' := [(5, .int (nI (2 * j + 1 + 1))), (6, .int (nI (2 * j + 1 + 1))), (3, .long (lN (v))), (1, .long (lN (x0))), (0, .ref h2)]) hx hb dX1_take_113 hl (by decide) rfl (fun ls hl => ?_)
            refine lv_goto (tgt := 27) hx hb dX1_take_115 (by decide) ?_
            exact ih (2 * j + 1 + 1) (nu g (j) (g (2 * j + 1 + 1))) (by omega) (by omega) (fun _ => by omega) (hp_Jstep hJ (by omega) (by omega) (fun i h1 h2 => by
              have h2 : i = 2 * j + 1 ∨ i = 2 * j + 1 + 1 := by omega
              rcases h2 with h2 | h2 <;> subst h2 <;> omega) (by assumption)) (fun i h1 => by
              by_cases q : i = j
              · rw [q, nu_s]; exact hg _ (by omega)
              · rw [nu_n q]; exact hg i h1) (fun h0 => (mk_all_swap (by omega) (by omega) (by omega)).trans (hpm h0)) _ _ ls hP hD hS (lv_sub hl [0, 2, 3, 4] rfl)
          · have c_91 : v ≤ g (2 * j + 1 + 1) := cl_nlt c_91 (by omega) (by omega)
            refine lv_goto (tgt := 118) hx hb dX1_take_94 (by decide) ?_
            refine lv_aload_n hx hb dX1_take_118 rfl (lv_at hl 4 rfl) ?_
            refine va_get (D := (dC, dI)) (ci := 1) (v := .ref h4) (C := RX1) (T := TX1) (N := 2) hx hb hts in_X1 hown hK hP 0 rfl rfl 0 (by decide) (hts _ q20) (fun _ h9 => h9) rfl dX1_take_119 ?_
            refine lv_iload hx hb dX1_take_122 (lv_at hl 1 rfl) ?_
            refine lv_lload_n hx hb dX1_take_124 rfl (lv_at hl 2 rfl) ?_
            refine va_last hx hb hK hP hD hS 1 0 rfl rfl (in_nI (n := j) (by omega) (by omega)) dX1_take_125 (fun H locs hP hD hS => ?_)
            rw [lA_up (g := g) (k := j) (v := v) (by omega)] at hP hD
            have hP : va_P (dC, dI) vwCl [(h2, .inr (1, [.ref h4, .int (nI (mm))])), (h4, .inl (d4, 10, .inr (.inl (lA (nu g (j) (v))))))] H := hP
            have hD : va_D A [(h2, .inr (1, [.ref h4, .int (nI (mm))])), (h4, .inl (d4, 10, .inr (.inl (lA (nu g (j) (v))))))] := hD
            exact kk (nu g (j) (v)) _ _ ls (hp_Jend hJ (fun i h1 h2 => by
              have h2 : i = 2 * j + 1 ∨ i = 2 * j + 1 + 1 := by omega
              rcases h2 with h2 | h2 <;> subst h2 <;> omega)) hpm hP hD hS (lv_sub hl [3] rfl)
end TAKE
set_option maxHeartbeats 4000000 in
set_option maxRecDepth 100000 in
theorem metX1_take (l : Launch) (dC : Nat → ClassId) (dI : Nat → Nat → Nat) (h2 h4 : Nat) (d4 : ClassId) (sz k : Nat) (g : Nat → Nat) (h1k : 1 ≤ k) (hk : k ≤ 10) (hg : ∀ i, i < k → g i < 2 ^ 62) (hh : hp_ok g k) : Met l yX1_take (ws_ yX1_take cX1_take 7 (some .long)) ({ frames := 0, cells := 0, slots := 0, locals := 0 }) (va_Pc [.ref h2] (fun U => U.heap.size = sz ∧ va_P (dC, dI) vwCl [(h2, .inr (1, [.ref h4, .int (nI (k))])), (h4, .inl (d4, 10, .inr (.inl (lA g))))] U.heap ∧ va_K (dC, dI) vwCl [(d4, .long)] U ∧ va_D (fun _ => True) [(h2, .inr (1, [.ref h4, .int (nI (k))])), (h4, .inl (d4, 10, .inr (.inl (lA g))))])) (va_Ql (fun (r : Int64) (g' : Nat → Nat) => r = lN (g 0) ∧ hp_ok g' (k - 1) ∧ (mk_all g k).Perm (g 0 :: mk_all g' (k - 1)) ∧ ∀ y ∈ mk_all g' (k - 1), g 0 ≤ y) (fun g' t => va_P (dC, dI) vwCl [(h2, .inr (1, [.ref h4, .int (nI (k - 1))])), (h4, .inl (d4, 10, .inr (.inl (lA g'))))] t.heap ∧ va_K (dC, dI) vwCl [(d4, .long)] t ∧ va_D (va_A [(h2, .inr (1, [.ref h4, .int (nI (k))])), (h4, .inl (d4, 10, .inr (.inl (lA g))))] sz) [(h2, .inr (1, [.ref h4, .int (nI (k - 1))])), (h4, .inl (d4, 10, .inr (.inl (lA g'))))]) (va_A [(h2, .inr (1, [.ref h4, .int (nI (k))])), (h4, .inl (d4, 10, .inr (.inl (lA g))))] sz)) 0 0 (va_A [(h2, .inr (1, [.ref h4, .int (nI (k))])), (h4, .inl (d4, 10, .inr (.inl (lA g))))] sz) := by
  refine Met.ofW (cc := cX1_take) (maxL := 7) (ret := (some .long)) (by decide) rfl ?_
  intro p e s m args below meth c s₁ B hml hv
  obtain ⟨rfl, hsz, hP, hK, hD0⟩ := hv
  have hx := B.exec
  have hb := B.bytes
  have hr := B.returns
  have hts := atoms_spec (ws := ws_ yX1_take cX1_take 7 (some .long)) B.pre
  have hts : ∀ w ∈ lw_all, w.before _ s = true := fun w h => hts w (List.mem_cons_of_mem _ h)
  have hown : s.vm.findClass RX1 = some m.cls := findClass_of_methodNamed B.named
  have hlocks := B.notSynchronized
  subst hsz
  have hD := hD0.self (sz := s.heap.size)
  generalize hAe : va_A [(h2, .inr (1, [.ref h4, .int (nI (k))])), (h4, .inl (d4, 10, .inr (.inl (lA g))))] s.heap.size = A at hD ⊢
  have hA : ∀ q : Nat, s.heap.size ≤ q → A q := fun q h => by rw [← hAe]; exact Or.inr h
  have hS : va_S A s.heap s.heap [] := va_S.rf
  have hP : va_P (dC, dI) vwCl [(h2, .inr (1, [.ref h4, .int (nI (k))])), (h4, .inl (d4, 10, .inr (.inl (lA g))))] s.heap := hP
  have hl := lv_entry ([.ref h2]) (n := 7) (Nat.le_of_ble_eq_true rfl)
  rw [lg_entry_eq]
  generalize (lg_sl ([.ref h2]) ++ List.replicate (7 - (lg_sl ([.ref h2])).length) Slot.unset).toArray = ls at hl ⊢
  have hl : lv_has ls 7 [(0, .ref h2)] := hl
  obtain ⟨mm, rfl⟩ : ∃ mm, k = mm + 1 := ⟨k - 1, by omega⟩
  refine lv_aload_n hx hb dX1_take_0 rfl (lv_at hl 0 rfl) ?_
  refine va_get (D := (dC, dI)) (ci := 1) (v := .ref h4) (C := RX1) (T := TX1) (N := 2) hx hb hts in_X1 hown hK hP 0 rfl rfl 0 (by decide) (hts _ q20) (fun _ h9 => h9) rfl dX1_take_1 ?_
  refine lv_iconst (v := nI 0) hx hb dX1_take_4 (by decide) ?_
  refine va_lald hx hb hK hP 1 0 rfl rfl (in_nI (n := 0) (by omega) (by omega)) dX1_take_5 ?_
  refine w_l (lA_at (g := g) (k := 0) (by omega)) ?_
  refine lv_lstore_n (lv' := [(1, .long (lN (g 0))), (0, .ref h2)]) hx hb dX1_take_6 rfl hl (by decide) rfl (fun ls hl => ?_)
  refine lv_aload_n hx hb dX1_take_7 rfl (lv_at hl 1 rfl) ?_
  refine va_get (D := (dC, dI)) (ci := 1) (v := .ref h4) (C := RX1) (T := TX1) (N := 2) hx hb hts in_X1 hown hK hP 0 rfl rfl 0 (by decide) (hts _ q20) (fun _ h9 => h9) rfl dX1_take_8 ?_
  refine lv_aload_n hx hb dX1_take_11 rfl (lv_at hl 1 rfl) ?_
  refine lv_dup hx hb dX1_take_12 rfl ?_
  refine va_get (D := (dC, dI)) (ci := 1) (v := .int (nI (mm + 1))) (C := RX1) (T := TX1) (N := 2) hx hb hts in_X1 hown hK hP 0 rfl rfl 1 (by decide) (hts _ q21) (fun _ h9 => h9) rfl dX1_take_13 ?_
  refine lv_iconst (v := nI 1) hx hb dX1_take_16 (by decide) ?_
  refine lv_isub hx hb dX1_take_17 ?_
  refine w_i (pk_sub (a := mm + 1) (b := 1) (by omega)) ?_
  refine lv_dup_x1 hx hb dX1_take_18 rfl rfl ?_
  refine va_put (D := (dC, dI)) (ci := 1) (v := .int (nI ((mm + 1) - 1))) (ty := .int) (C := RX1) (T := TX1) (N := 2) hx hb hts in_X1 tyX1 tyX1_ok nmX1 hown hK hP hD hS 0 rfl rfl 1 (by decide) (hts _ q21) (fun _ h9 => h9) rfl (by decide +kernel) rfl rfl (Nat.le_of_ble_eq_true rfl) dX1_take_19 (fun H locs hP hD hS => ?_)
  have hP : va_P (dC, dI) vwCl [(h2, .inr (1, [.ref h4, .int (nI ((mm + 1) - 1))])), (h4, .inl (d4, 10, .inr (.inl (lA g))))] H := hP
  have hD : va_D A [(h2, .inr (1, [.ref h4, .int (nI ((mm + 1) - 1))])), (h4, .inl (d4, 10, .inr (.inl (lA g))))] := hD
  refine va_lald hx hb hK hP 1 0 rfl rfl (in_nI (n := (mm + 1) - 1) (by omega) (by omega)) dX1_take_22 ?_
  refine w_l (lA_at (g := g) (k := (mm + 1) - 1) (by omega)) ?_
  refine lv_lstore_n (lv' := [(3, .long (lN (g ((mm + 1) - 1)))), (1, .long (lN (g 0))), (0, .ref h2)]) hx hb dX1_take_23 rfl hl (by decide) rfl (fun ls hl => ?_)
  refine lv_iconst (v := nI 0) hx hb dX1_take_24 (by decide) ?_
  refine lv_istore (lv' := [(5, .int (nI (0))), (3, .long (lN (g ((mm + 1) - 1)))), (1, .long (lN (g 0))), (0, .ref h2)]) hx hb dX1_take_25 hl (by decide) rfl (fun ls hl => ?_)
  refine lp_take hx hb hown hts (mm := mm + 1 - 1) (v := g (mm + 1 - 1)) (x0 := g 0) (by omega) (hg _ (by omega)) (g (mm + 1 - 1) :: mk_flt (fun j => decide (j ≠ 0)) g mm) hK (fun g' H locs ls a1 a2 hP hD hS hl => ?_) (mm + 2) 0 g (by omega) (by omega) (fun h => h) (hp_J0 hh) (fun i h1 => hg i (by omega)) (fun h0 => mk_all_nu h0) _ _ ls hP hD hS (lv_sub hl [0, 1, 2, 3] rfl)
  have e2 : (mk_all g (mm + 1)).Perm (g 0 :: mk_all g' (mm + 1 - 1)) := by
    rcases Nat.eq_zero_or_pos mm with q | q
    · subst q; exact List.Perm.refl _
    · exact (((mk_all_out (g := g) q).cons (g mm)).trans (List.Perm.swap _ _ _)).trans ((a2 q).symm.cons _)
  have e3 : ∀ y ∈ mk_all g' (mm + 1 - 1), g 0 ≤ y := fun y hy => by
    obtain ⟨i, q1, q2⟩ := mk_all_mem (e2.mem_iff.mpr (List.mem_cons_of_mem _ hy))
    rw [q2]; exact hp_root hh i q1
  refine lv_lload_n hx hb dX1_take_126 rfl (lv_at hl 0 rfl) ?_
  have hP9 := hP.sub (ws' := [(h2, .inr (1, [.ref h4, .int (nI (mm + 1 - 1))])), (h4, .inl (d4, 10, .inr (.inl (lA g'))))]) [0, 1] rfl
  have hD9 := hD.sub (ws' := [(h2, .inr (1, [.ref h4, .int (nI (mm + 1 - 1))])), (h4, .inl (d4, 10, .inr (.inl (lA g'))))]) [0, 1] (by decide) rfl
  have hK9 := hK.sub (tys' := [(d4, .long)]) [0] rfl
  exact W.lret (v := lN (g 0)) hx hb hr (fun t ht hW => ⟨⟨lN (g 0), g', rfl, ⟨rfl, a1, e2, e3⟩, by rw [ht]; exact hP9, va_K.moved hW.alike hK9, hD9⟩, hS.F ht⟩) hS.2.2 dX1_take_127
end
section
theorem and_1 (a : Nat) : nI a &&& nI 1 = nI (a % 2) := by rw [nx_and, Nat.and_one_is_mod]
theorem shl_1 {n : Nat} (h : n ≤ 8) : nI 1 <<< (nI n &&& 31) = nI (2 ^ n) := by
  rw [pk_shlN _ n (s_l n (by omega))]
  · rw [Nat.one_mul]
  · rw [Nat.one_mul]; exact Nat.pow_lt_pow_right (by omega) (by omega)
theorem shr_n {s i : Nat} (hs : s < 2 ^ 31) (hi : i < 32) : nI s >>> (nI i &&& 31) = nI (s / 2 ^ i) := pk_shrN hs _ i (s_l i hi)
set_option maxHeartbeats 4000000 in
set_option maxRecDepth 100000 in
theorem metX2_init (l : Launch) (dC : Nat → ClassId) (dI : Nat → Nat → Nat) (k0 sz : Nat) : Met l yX2_init (ws_ yX2_init cX2_init 1 none) ({ frames := 1, cells := 3, slots := 1144, locals := 12 }) (va_Pc [.ref k0] (fun U => U.heap.size = sz ∧ va_P (dC, dI) vwCl [(k0, .inr (2, [.null, .int (nI (0)), .null, .null]))] U.heap ∧ va_K (dC, dI) vwCl [] U ∧ va_D (fun _ => True) [(k0, .inr (2, [.null, .int (nI (0)), .null, .null]))])) (va_Qv (fun u : (Nat × Nat × Nat) × (ClassId × ClassId × ClassId) => True) (fun u t => va_P (dC, dI) vwCl [(k0, .inr (2, [.ref u.1.1, .int (nI (0)), .ref u.1.2.1, .ref u.1.2.2])), (u.1.1, .inl (u.2.1, 10, .inl (iA (fun _ => 0)))), (u.1.2.1, .inl (u.2.2.1, 1024, .inr (.inl (lA (fun _ => 0))))), (u.1.2.2, .inl (u.2.2.2, 110, .inr (.inl (lA (fun _ => 0)))))] t.heap ∧ va_K (dC, dI) vwCl [(u.2.1, .int), (u.2.2.1, .long), (u.2.2.2, .long)] t ∧ va_D (va_A [(k0, .inr (2, [.null, .int (nI (0)), .null, .null]))] sz) [(k0, .inr (2, [.ref u.1.1, .int (nI (0)), .ref u.1.2.1, .ref u.1.2.2])), (u.1.1, .inl (u.2.1, 10, .inl (iA (fun _ => 0)))), (u.1.2.1, .inl (u.2.2.1, 1024, .inr (.inl (lA (fun _ => 0))))), (u.1.2.2, .inl (u.2.2.2, 110, .inr (.inl (lA (fun _ => 0)))))]) (va_A [(k0, .inr (2, [.null, .int (nI (0)), .null, .null]))] sz)) 3 1144 (va_A [(k0, .inr (2, [.null, .int (nI (0)), .null, .null]))] sz) := by
  refine Met.ofW (cc := cX2_init) (maxL := 1) (ret := none) (by decide) rfl ?_
  intro p e s m args below meth c s₁ B hml hv
  obtain ⟨rfl, hsz, hP, hK, hD0⟩ := hv
  have hx := B.exec
  have hb := B.bytes
  have hr := B.returns
  have hts := atoms_spec (ws := ws_ yX2_init cX2_init 1 none) B.pre
  have hts : ∀ w ∈ lw_all, w.before _ s = true := fun w h => hts w (List.mem_cons_of_mem _ h)
  have hown : s.vm.findClass RX2 = some m.cls := findClass_of_methodNamed B.named
  have hlocks := B.notSynchronized
  have hin : meth.name = "<init>" := (name_of_methodNamed B.named B.method).1
  subst hsz
  have hD := hD0.self (sz := s.heap.size)
  generalize hAe : va_A [(k0, .inr (2, [.null, .int (nI (0)), .null, .null]))] s.heap.size = A at hD ⊢
  have hA : ∀ q : Nat, s.heap.size ≤ q → A q := fun q h => by rw [← hAe]; exact Or.inr h
  have hS : va_S A s.heap s.heap [] := va_S.rf
  have hP : va_P (dC, dI) vwCl [(k0, .inr (2, [.null, .int (nI (0)), .null, .null]))] s.heap := hP
  have hl := lv_entry ([.ref k0]) (n := 1) (Nat.le_of_ble_eq_true rfl)
  rw [lg_entry_eq]
  generalize (lg_sl ([.ref k0]) ++ List.replicate (1 - (lg_sl ([.ref k0])).length) Slot.unset).toArray = ls at hl ⊢
  have hl : lv_has ls 1 [(0, .ref k0)] := hl
  refine lv_aload_n hx hb dX2_init_0 rfl (lv_at hl 0 rfl) ?_
  refine W.objInit hx hb hown (hts _ q88) (hts _ q12) (hts _ q13) rfl (by rw [hml]; exact hl.1) rfl dX2_init_1 (Nat.le_of_ble_eq_true rfl) (Nat.le_of_ble_eq_true rfl) ?_
  refine W.eq (g2 := F0 m 4 ls []) rfl ?_
  refine lv_aload_n hx hb dX2_init_4 rfl (lv_at hl 0 rfl) ?_
  refine lv_bipush (v := nI 10) hx hb dX2_init_5 (by decide) ?_
  refine va_newa (atype := .int) hx hb (hts _ q27) (ty := .int) rfl hK hP hD hS hA (n := nI 10) (N' := 10) (a0 := (10, .inl (iA (fun _ => 0)))) (fun _ => rfl) (by decide) (by decide) (by decide) (Nat.le_of_ble_eq_true rfl) (Nat.le_of_ble_eq_true rfl) dX2_init_7 (fun k1 e1 H hK hP hD hS => ?_)
  have hK : va_K (dC, dI) vwCl [(e1, .int)] s := hK
  have hP : va_P (dC, dI) vwCl [(k0, .inr (2, [.null, .int (nI (0)), .null, .null])), (k1, .inl (e1, 10, .inl (iA (fun _ => 0))))] H := hP
  have hD : va_D A [(k0, .inr (2, [.null, .int (nI (0)), .null, .null])), (k1, .inl (e1, 10, .inl (iA (fun _ => 0))))] := hD
  refine W.widen (k := 1) (n := 10) (by omega) (by omega) ?_
  refine va_putF (D := (dC, dI)) (ci := 2) (v := .ref k1) (ty := .array .int) (C := RX2) (T := TX2) (N := 4) hx hb hts in_X2 tyX2 tyX2_ok nmX2 hown hK hP hD hS 0 rfl rfl 0 (by decide) (hts _ q89) (fun _ h9 => h9) rfl hin rfl (by decide +kernel) rfl rfl (Nat.le_of_ble_eq_true rfl) dX2_init_9 (fun H locs hP hD hS => ?_)
  have hP : va_P (dC, dI) vwCl [(k0, .inr (2, [.ref k1, .int (nI (0)), .null, .null])), (k1, .inl (e1, 10, .inl (iA (fun _ => 0))))] H := hP
  have hD : va_D A [(k0, .inr (2, [.ref k1, .int (nI (0)), .null, .null])), (k1, .inl (e1, 10, .inl (iA (fun _ => 0))))] := hD
  refine lv_aload_n hx hb dX2_init_12 rfl (lv_at hl 0 rfl) ?_
  refine lv_sipush (v := nI 1024) hx hb dX2_init_13 (by decide) ?_
  refine va_newa (atype := .long) hx hb (hts _ q28) (ty := .long) rfl hK hP hD hS hA (n := nI 1024) (N' := 1024) (a0 := (1024, .inr (.inl (lA (fun _ => 0))))) (fun _ => rfl) (by decide) (by decide) (by decide) (Nat.le_of_ble_eq_true rfl) (Nat.le_of_ble_eq_true rfl) dX2_init_16 (fun k2 e2 H hK hP hD hS => ?_)
  have hK : va_K (dC, dI) vwCl [(e1, .int), (e2, .long)] s := hK
  have hP : va_P (dC, dI) vwCl [(k0, .inr (2, [.ref k1, .int (nI (0)), .null, .null])), (k1, .inl (e1, 10, .inl (iA (fun _ => 0)))), (k2, .inl (e2, 1024, .inr (.inl (lA (fun _ => 0)))))] H := hP
  have hD : va_D A [(k0, .inr (2, [.ref k1, .int (nI (0)), .null, .null])), (k1, .inl (e1, 10, .inl (iA (fun _ => 0)))), (k2, .inl (e2, 1024, .inr (.inl (lA (fun _ => 0)))))] := hD
  refine W.widen (k := 2) (n := 1034) (by omega) (by omega) ?_
  refine va_putF (D := (dC, dI)) (ci := 2) (v := .ref k2) (ty := .array .long) (C := RX2) (T := TX2) (N := 4) hx hb hts in_X2 tyX2 tyX2_ok nmX2 hown hK hP hD hS 0 rfl rfl 2 (by decide) (hts _ q91) (fun _ h9 => h9) rfl hin rfl (by decide +kernel) rfl rfl (Nat.le_of_ble_eq_true rfl) dX2_init_18 (fun H locs hP hD hS => ?_)
  have hP : va_P (dC, dI) vwCl [(k0, .inr (2, [.ref k1, .int (nI (0)), .ref k2, .null])), (k1, .inl (e1, 10, .inl (iA (fun _ => 0)))), (k2, .inl (e2, 1024, .inr (.inl (lA (fun _ => 0)))))] H := hP
  have hD : va_D A [(k0, .inr (2, [.ref k1, .int (nI (0)), .ref k2, .null])), (k1, .inl (e1, 10, .inl (iA (fun _ => 0)))), (k2, .inl (e2, 1024, .inr (.inl (lA (fun _ => 0)))))] := hD
  refine lv_aload_n hx hb dX2_init_21 rfl (lv_at hl 0 rfl) ?_
  refine lv_bipush (v := nI 110) hx hb dX2_init_22 (by decide) ?_
  refine va_newa (atype := .long) hx hb (hts _ q28) (ty := .long) rfl hK hP hD hS hA (n := nI 110) (N' := 110) (a0 := (110, .inr (.inl (lA (fun _ => 0))))) (fun _ => rfl) (by decide) (by decide) (by decide) (Nat.le_of_ble_eq_true rfl) (Nat.le_of_ble_eq_true rfl) dX2_init_24 (fun k3 e3 H hK hP hD hS => ?_)
  have hK : va_K (dC, dI) vwCl [(e1, .int), (e2, .long), (e3, .long)] s := hK
  have hP : va_P (dC, dI) vwCl [(k0, .inr (2, [.ref k1, .int (nI (0)), .ref k2, .null])), (k1, .inl (e1, 10, .inl (iA (fun _ => 0)))), (k2, .inl (e2, 1024, .inr (.inl (lA (fun _ => 0))))), (k3, .inl (e3, 110, .inr (.inl (lA (fun _ => 0)))))] H := hP
  have hD : va_D A [(k0, .inr (2, [.ref k1, .int (nI (0)), .ref k2, .null])), (k1, .inl (e1, 10, .inl (iA (fun _ => 0)))), (k2, .inl (e2, 1024, .inr (.inl (lA (fun _ => 0))))), (k3, .inl (e3, 110, .inr (.inl (lA (fun _ => 0)))))] := hD
  refine W.widen (k := 3) (n := 1144) (by omega) (by omega) ?_
  refine va_putF (D := (dC, dI)) (ci := 2) (v := .ref k3) (ty := .array .long) (C := RX2) (T := TX2) (N := 4) hx hb hts in_X2 tyX2 tyX2_ok nmX2 hown hK hP hD hS 0 rfl rfl 3 (by decide) (hts _ q92) (fun _ h9 => h9) rfl hin rfl (by decide +kernel) rfl rfl (Nat.le_of_ble_eq_true rfl) dX2_init_26 (fun H locs hP hD hS => ?_)
  have hP : va_P (dC, dI) vwCl [(k0, .inr (2, [.ref k1, .int (nI (0)), .ref k2, .ref k3])), (k1, .inl (e1, 10, .inl (iA (fun _ => 0)))), (k2, .inl (e2, 1024, .inr (.inl (lA (fun _ => 0))))), (k3, .inl (e3, 110, .inr (.inl (lA (fun _ => 0)))))] H := hP
  have hD : va_D A [(k0, .inr (2, [.ref k1, .int (nI (0)), .ref k2, .ref k3])), (k1, .inl (e1, 10, .inl (iA (fun _ => 0)))), (k2, .inl (e2, 1024, .inr (.inl (lA (fun _ => 0))))), (k3, .inl (e3, 110, .inr (.inl (lA (fun _ => 0)))))] := hD
  have hP9 := hP.sub (ws' := [(k0, .inr (2, [.ref k1, .int (nI (0)), .ref k2, .ref k3])), (k1, .inl (e1, 10, .inl (iA (fun _ => 0)))), (k2, .inl (e2, 1024, .inr (.inl (lA (fun _ => 0))))), (k3, .inl (e3, 110, .inr (.inl (lA (fun _ => 0)))))]) [0, 1, 2, 3] rfl
  have hD9 := hD.sub (ws' := [(k0, .inr (2, [.ref k1, .int (nI (0)), .ref k2, .ref k3])), (k1, .inl (e1, 10, .inl (iA (fun _ => 0)))), (k2, .inl (e2, 1024, .inr (.inl (lA (fun _ => 0))))), (k3, .inl (e3, 110, .inr (.inl (lA (fun _ => 0)))))]) [0, 1, 2, 3] (by decide) rfl
  have hK9 := hK.sub (tys' := [(e1, .int), (e2, .long), (e3, .long)]) [0, 1, 2] rfl
  exact W.vret hx hb hr (fun t ht hW => ⟨⟨((k1, k2, k3), (e1, e2, e3)), rfl, trivial, by rw [ht]; exact hP9, va_K.moved hW.alike hK9, hD9⟩, hS.F ht⟩) hS.2.2 dX2_init_29
set_option maxHeartbeats 4000000 in
set_option maxRecDepth 100000 in
theorem metX2_put (l : Launch) (dC : Nat → ClassId) (dI : Nat → Nat → Nat) (k0 k1 k2 k3 : Nat) (e1 e2 e3 : ClassId) (sz n : Nat) (g1 g2 g3 : Nat → Nat) (v : Int32) (hn : n ≤ 8) : Met l yX2_put (ws_ yX2_put cX2_put 2 (some .boolean)) ({ frames := 0, cells := 0, slots := 0, locals := 0 }) (va_Pc [.ref k0, .int v] (fun U => U.heap.size = sz ∧ va_P (dC, dI) vwCl [(k0, .inr (2, [.ref k1, .int (nI (n)), .ref k2, .ref k3])), (k1, .inl (e1, 10, .inl (iA g1))), (k2, .inl (e2, 1024, .inr (.inl (lA g2)))), (k3, .inl (e3, 110, .inr (.inl (lA g3))))] U.heap ∧ va_K (dC, dI) vwCl [(e1, .int), (e2, .long), (e3, .long)] U ∧ va_D (fun _ => True) [(k0, .inr (2, [.ref k1, .int (nI (n)), .ref k2, .ref k3])), (k1, .inl (e1, 10, .inl (iA g1))), (k2, .inl (e2, 1024, .inr (.inl (lA g2)))), (k3, .inl (e3, 110, .inr (.inl (lA g3))))])) (va_Qi (fun (r : Int32) (u : Nat × (Nat → Nat)) => (n = 8 ∧ r = nI 0 ∧ u = (n, g1)) ∨ (n < 8 ∧ r = nI 1 ∧ u = (n + 1, nu g1 n (v.toBitVec.toNat % 2 ^ 16)))) (fun u t => va_P (dC, dI) vwCl [(k0, .inr (2, [.ref k1, .int (nI (u.1)), .ref k2, .ref k3])), (k1, .inl (e1, 10, .inl (iA u.2))), (k2, .inl (e2, 1024, .inr (.inl (lA g2)))), (k3, .inl (e3, 110, .inr (.inl (lA g3))))] t.heap ∧ va_K (dC, dI) vwCl [(e1, .int), (e2, .long), (e3, .long)] t ∧ va_D (va_A [(k0, .inr (2, [.ref k1, .int (nI (n)), .ref k2, .ref k3])), (k1, .inl (e1, 10, .inl (iA g1))), (k2, .inl (e2, 1024, .inr (.inl (lA g2)))), (k3, .inl (e3, 110, .inr (.inl (lA g3))))] sz) [(k0, .inr (2, [.ref k1, .int (nI (u.1)), .ref k2, .ref k3])), (k1, .inl (e1, 10, .inl (iA u.2))), (k2, .inl (e2, 1024, .inr (.inl (lA g2)))), (k3, .inl (e3, 110, .inr (.inl (lA g3))))]) (va_A [(k0, .inr (2, [.ref k1, .int (nI (n)), .ref k2, .ref k3])), (k1, .inl (e1, 10, .inl (iA g1))), (k2, .inl (e2, 1024, .inr (.inl (lA g2)))), (k3, .inl (e3, 110, .inr (.inl (lA g3))))] sz)) 0 0 (va_A [(k0, .inr (2, [.ref k1, .int (nI (n)), .ref k2, .ref k3])), (k1, .inl (e1, 10, .inl (iA g1))), (k2, .inl (e2, 1024, .inr (.inl (lA g2)))), (k3, .inl (e3, 110, .inr (.inl (lA g3))))] sz) := by
  refine Met.ofW (cc := cX2_put) (maxL := 2) (ret := (some .boolean)) (by decide) rfl ?_
  intro p e s m args below meth c s₁ B hml hv
  obtain ⟨rfl, hsz, hP, hK, hD0⟩ := hv
  have hx := B.exec
  have hb := B.bytes
  have hr := B.returns
  have hts := atoms_spec (ws := ws_ yX2_put cX2_put 2 (some .boolean)) B.pre
  have hts : ∀ w ∈ lw_all, w.before _ s = true := fun w h => hts w (List.mem_cons_of_mem _ h)
  have hown : s.vm.findClass RX2 = some m.cls := findClass_of_methodNamed B.named
  have hlocks := B.notSynchronized
  subst hsz
  have hD := hD0.self (sz := s.heap.size)
  generalize hAe : va_A [(k0, .inr (2, [.ref k1, .int (nI (n)), .ref k2, .ref k3])), (k1, .inl (e1, 10, .inl (iA g1))), (k2, .inl (e2, 1024, .inr (.inl (lA g2)))), (k3, .inl (e3, 110, .inr (.inl (lA g3))))] s.heap.size = A at hD ⊢
  have hA : ∀ q : Nat, s.heap.size ≤ q → A q := fun q h => by rw [← hAe]; exact Or.inr h
  have hS : va_S A s.heap s.heap [] := va_S.rf
  have hP : va_P (dC, dI) vwCl [(k0, .inr (2, [.ref k1, .int (nI (n)), .ref k2, .ref k3])), (k1, .inl (e1, 10, .inl (iA g1))), (k2, .inl (e2, 1024, .inr (.inl (lA g2)))), (k3, .inl (e3, 110, .inr (.inl (lA g3))))] s.heap := hP
  have hl := lv_entry ([.ref k0, .int v]) (n := 2) (Nat.le_of_ble_eq_true rfl)
  rw [lg_entry_eq]
  generalize (lg_sl ([.ref k0, .int v]) ++ List.replicate (2 - (lg_sl ([.ref k0, .int v])).length) Slot.unset).toArray = ls at hl ⊢
  have hl : lv_has ls 2 [(0, .ref k0), (1, .int (v))] := hl
  refine lv_aload_n hx hb dX2_put_0 rfl (lv_at hl 0 rfl) ?_
  refine va_get (D := (dC, dI)) (ci := 2) (v := .int (nI (n))) (C := RX2) (T := TX2) (N := 4) hx hb hts in_X2 hown hK hP 0 rfl rfl 1 (by decide) (hts _ q90) (fun _ h9 => h9) rfl dX2_put_1 ?_
  refine lv_bipush (v := nI 8) hx hb dX2_put_4 (by decide) ?_
  refine lv_icmp_ne (tgt := 11) hx hb dX2_put_6 (by decide) (fun c_6 => ?_) (fun c_6 => ?_)
  · have c_6 : n ≠ 8 := ci_ne c_6 (by omega) (by omega)
    have hn8 : n < 8 := by omega
    refine lv_aload_n hx hb dX2_put_11 rfl (lv_at hl 0 rfl) ?_
    refine va_get (D := (dC, dI)) (ci := 2) (v := .ref k1) (C := RX2) (T := TX2) (N := 4) hx hb hts in_X2 hown hK hP 0 rfl rfl 0 (by decide) (hts _ q89) (fun _ h9 => h9) rfl dX2_put_12 ?_
    refine lv_aload_n hx hb dX2_put_15 rfl (lv_at hl 0 rfl) ?_
    refine va_get (D := (dC, dI)) (ci := 2) (v := .int (nI (n))) (C := RX2) (T := TX2) (N := 4) hx hb hts in_X2 hown hK hP 0 rfl rfl 1 (by decide) (hts _ q90) (fun _ h9 => h9) rfl dX2_put_16 ?_
    refine lv_iload_n hx hb dX2_put_19 rfl (lv_at hl 1 rfl) ?_
    refine lv_ldc hx hb hown (hts _ q106) dX2_put_20 ?_
    refine w_i (show (65535 : Int32) = nI 65535 by decide) ?_
    refine lv_iand hx hb dX2_put_22 ?_
    refine w_i (pk_and (v) (m := nI 65535) 16 (by decide)) ?_
    refine va_iast hx hb hK hP hD hS 1 0 rfl rfl (in_nI (n := n) (by omega) (by omega)) dX2_put_23 (fun H locs hP hD hS => ?_)
    rw [iA_up (g := g1) (k := n) (v := (v).toBitVec.toNat % 2 ^ 16) (by omega)] at hP hD
    have hP : va_P (dC, dI) vwCl [(k0, .inr (2, [.ref k1, .int (nI (n)), .ref k2, .ref k3])), (k1, .inl (e1, 10, .inl (iA (nu g1 (n) ((v).toBitVec.toNat % 2 ^ 16))))), (k2, .inl (e2, 1024, .inr (.inl (lA g2)))), (k3, .inl (e3, 110, .inr (.inl (lA g3))))] H := hP
    have hD : va_D A [(k0, .inr (2, [.ref k1, .int (nI (n)), .ref k2, .ref k3])), (k1, .inl (e1, 10, .inl (iA (nu g1 (n) ((v).toBitVec.toNat % 2 ^ 16))))), (k2, .inl (e2, 1024, .inr (.inl (lA g2)))), (k3, .inl (e3, 110, .inr (.inl (lA g3))))] := hD
    refine lv_aload_n hx hb dX2_put_24 rfl (lv_at hl 0 rfl) ?_
    refine lv_aload_n hx hb dX2_put_25 rfl (lv_at hl 0 rfl) ?_
    refine va_get (D := (dC, dI)) (ci := 2) (v := .int (nI (n))) (C := RX2) (T := TX2) (N := 4) hx hb hts in_X2 hown hK hP 0 rfl rfl 1 (by decide) (hts _ q90) (fun _ h9 => h9) rfl dX2_put_26 ?_
    refine lv_iconst (v := nI 1) hx hb dX2_put_29 (by decide) ?_
    refine lv_iadd hx hb dX2_put_30 ?_
    refine w_i (nI_add (n) (1)) ?_
    refine va_put (D := (dC, dI)) (ci := 2) (v := .int (nI (n + 1))) (ty := .int) (C := RX2) (T := TX2) (N := 4) hx hb hts in_X2 tyX2 tyX2_ok nmX2 hown hK hP hD hS 0 rfl rfl 1 (by decide) (hts _ q90) (fun _ h9 => h9) rfl (by decide +kernel) rfl rfl (Nat.le_of_ble_eq_true rfl) dX2_put_31 (fun H locs hP hD hS => ?_)
    have hP : va_P (dC, dI) vwCl [(k0, .inr (2, [.ref k1, .int (nI (n + 1)), .ref k2, .ref k3])), (k1, .inl (e1, 10, .inl (iA (nu g1 (n) ((v).toBitVec.toNat % 2 ^ 16))))), (k2, .inl (e2, 1024, .inr (.inl (lA g2)))), (k3, .inl (e3, 110, .inr (.inl (lA g3))))] H := hP
    have hD : va_D A [(k0, .inr (2, [.ref k1, .int (nI (n + 1)), .ref k2, .ref k3])), (k1, .inl (e1, 10, .inl (iA (nu g1 (n) ((v).toBitVec.toNat % 2 ^ 16))))), (k2, .inl (e2, 1024, .inr (.inl (lA g2)))), (k3, .inl (e3, 110, .inr (.inl (lA g3))))] := hD
    refine lv_iconst (v := nI 1) hx hb dX2_put_34 (by decide) ?_
    have hP9 := hP.sub (ws' := [(k0, .inr (2, [.ref k1, .int (nI (n + 1)), .ref k2, .ref k3])), (k1, .inl (e1, 10, .inl (iA (nu g1 n (v.toBitVec.toNat % 2 ^ 16))))), (k2, .inl (e2, 1024, .inr (.inl (lA g2)))), (k3, .inl (e3, 110, .inr (.inl (lA g3))))]) [0, 1, 2, 3] rfl
    have hD9 := hD.sub (ws' := [(k0, .inr (2, [.ref k1, .int (nI (n + 1)), .ref k2, .ref k3])), (k1, .inl (e1, 10, .inl (iA (nu g1 n (v.toBitVec.toNat % 2 ^ 16))))), (k2, .inl (e2, 1024, .inr (.inl (lA g2)))), (k3, .inl (e3, 110, .inr (.inl (lA g3))))]) [0, 1, 2, 3] (by decide) rfl
    have hK9 := hK.sub (tys' := [(e1, .int), (e2, .long), (e3, .long)]) [0, 1, 2] rfl
    exact W.zret (v := nI (1)) hx hb hr rfl (fun t ht hW => ⟨⟨nI (1), (n + 1, nu g1 n (v.toBitVec.toNat % 2 ^ 16)), rfl, Or.inr ⟨by omega, rfl, rfl⟩, by rw [ht]; exact hP9, va_K.moved hW.alike hK9, hD9⟩, hS.F ht⟩) hS.2.2 dX2_put_35
  · have c_6 : n = 8 := ci_eq c_6 (by omega) (by omega)
    refine lv_iconst (v := nI 0) hx hb dX2_put_9 (by decide) ?_
    have hP9 := hP.sub (ws' := [(k0, .inr (2, [.ref k1, .int (nI (n)), .ref k2, .ref k3])), (k1, .inl (e1, 10, .inl (iA g1))), (k2, .inl (e2, 1024, .inr (.inl (lA g2)))), (k3, .inl (e3, 110, .inr (.inl (lA g3))))]) [0, 1, 2, 3] rfl
    have hD9 := hD.sub (ws' := [(k0, .inr (2, [.ref k1, .int (nI (n)), .ref k2, .ref k3])), (k1, .inl (e1, 10, .inl (iA g1))), (k2, .inl (e2, 1024, .inr (.inl (lA g2)))), (k3, .inl (e3, 110, .inr (.inl (lA g3))))]) [0, 1, 2, 3] (by decide) rfl
    have hK9 := hK.sub (tys' := [(e1, .int), (e2, .long), (e3, .long)]) [0, 1, 2] rfl
    exact W.zret (v := nI (0)) hx hb hr rfl (fun t ht hW => ⟨⟨nI (0), (n, g1), rfl, Or.inl ⟨by omega, rfl, rfl⟩, by rw [ht]; exact hP9, va_K.moved hW.alike hK9, hD9⟩, hS.F ht⟩) hS.2.2 dX2_put_10
set_option maxHeartbeats 4000000 in
set_option maxRecDepth 100000 in
theorem metX2_drop (l : Launch) (dC : Nat → ClassId) (dI : Nat → Nat → Nat) (k0 k1 k2 k3 : Nat) (e1 e2 e3 : ClassId) (sz n : Nat) (g1 g2 g3 : Nat → Nat) (hn : n ≤ 8) : Met l yX2_drop (ws_ yX2_drop cX2_drop 1 (some .boolean)) ({ frames := 0, cells := 0, slots := 0, locals := 0 }) (va_Pc [.ref k0] (fun U => U.heap.size = sz ∧ va_P (dC, dI) vwCl [(k0, .inr (2, [.ref k1, .int (nI (n)), .ref k2, .ref k3])), (k1, .inl (e1, 10, .inl (iA g1))), (k2, .inl (e2, 1024, .inr (.inl (lA g2)))), (k3, .inl (e3, 110, .inr (.inl (lA g3))))] U.heap ∧ va_K (dC, dI) vwCl [(e1, .int), (e2, .long), (e3, .long)] U ∧ va_D (fun _ => True) [(k0, .inr (2, [.ref k1, .int (nI (n)), .ref k2, .ref k3])), (k1, .inl (e1, 10, .inl (iA g1))), (k2, .inl (e2, 1024, .inr (.inl (lA g2)))), (k3, .inl (e3, 110, .inr (.inl (lA g3))))])) (va_Qi (fun (r : Int32) (u : Nat) => (n = 0 ∧ r = nI 0 ∧ u = 0) ∨ (0 < n ∧ r = nI 1 ∧ u = n - 1)) (fun u t => va_P (dC, dI) vwCl [(k0, .inr (2, [.ref k1, .int (nI (u)), .ref k2, .ref k3])), (k1, .inl (e1, 10, .inl (iA g1))), (k2, .inl (e2, 1024, .inr (.inl (lA g2)))), (k3, .inl (e3, 110, .inr (.inl (lA g3))))] t.heap ∧ va_K (dC, dI) vwCl [(e1, .int), (e2, .long), (e3, .long)] t ∧ va_D (va_A [(k0, .inr (2, [.ref k1, .int (nI (n)), .ref k2, .ref k3])), (k1, .inl (e1, 10, .inl (iA g1))), (k2, .inl (e2, 1024, .inr (.inl (lA g2)))), (k3, .inl (e3, 110, .inr (.inl (lA g3))))] sz) [(k0, .inr (2, [.ref k1, .int (nI (u)), .ref k2, .ref k3])), (k1, .inl (e1, 10, .inl (iA g1))), (k2, .inl (e2, 1024, .inr (.inl (lA g2)))), (k3, .inl (e3, 110, .inr (.inl (lA g3))))]) (va_A [(k0, .inr (2, [.ref k1, .int (nI (n)), .ref k2, .ref k3])), (k1, .inl (e1, 10, .inl (iA g1))), (k2, .inl (e2, 1024, .inr (.inl (lA g2)))), (k3, .inl (e3, 110, .inr (.inl (lA g3))))] sz)) 0 0 (va_A [(k0, .inr (2, [.ref k1, .int (nI (n)), .ref k2, .ref k3])), (k1, .inl (e1, 10, .inl (iA g1))), (k2, .inl (e2, 1024, .inr (.inl (lA g2)))), (k3, .inl (e3, 110, .inr (.inl (lA g3))))] sz) := by
  refine Met.ofW (cc := cX2_drop) (maxL := 1) (ret := (some .boolean)) (by decide) rfl ?_
  intro p e s m args below meth c s₁ B hml hv
  obtain ⟨rfl, hsz, hP, hK, hD0⟩ := hv
  have hx := B.exec
  have hb := B.bytes
  have hr := B.returns
  have hts := atoms_spec (ws := ws_ yX2_drop cX2_drop 1 (some .boolean)) B.pre
  have hts : ∀ w ∈ lw_all, w.before _ s = true := fun w h => hts w (List.mem_cons_of_mem _ h)
  have hown : s.vm.findClass RX2 = some m.cls := findClass_of_methodNamed B.named
  have hlocks := B.notSynchronized
  subst hsz
  have hD := hD0.self (sz := s.heap.size)
  generalize hAe : va_A [(k0, .inr (2, [.ref k1, .int (nI (n)), .ref k2, .ref k3])), (k1, .inl (e1, 10, .inl (iA g1))), (k2, .inl (e2, 1024, .inr (.inl (lA g2)))), (k3, .inl (e3, 110, .inr (.inl (lA g3))))] s.heap.size = A at hD ⊢
  have hA : ∀ q : Nat, s.heap.size ≤ q → A q := fun q h => by rw [← hAe]; exact Or.inr h
  have hS : va_S A s.heap s.heap [] := va_S.rf
  have hP : va_P (dC, dI) vwCl [(k0, .inr (2, [.ref k1, .int (nI (n)), .ref k2, .ref k3])), (k1, .inl (e1, 10, .inl (iA g1))), (k2, .inl (e2, 1024, .inr (.inl (lA g2)))), (k3, .inl (e3, 110, .inr (.inl (lA g3))))] s.heap := hP
  have hl := lv_entry ([.ref k0]) (n := 1) (Nat.le_of_ble_eq_true rfl)
  rw [lg_entry_eq]
  generalize (lg_sl ([.ref k0]) ++ List.replicate (1 - (lg_sl ([.ref k0])).length) Slot.unset).toArray = ls at hl ⊢
  have hl : lv_has ls 1 [(0, .ref k0)] := hl
  refine lv_aload_n hx hb dX2_drop_0 rfl (lv_at hl 0 rfl) ?_
  refine va_get (D := (dC, dI)) (ci := 2) (v := .int (nI (n))) (C := RX2) (T := TX2) (N := 4) hx hb hts in_X2 hown hK hP 0 rfl rfl 1 (by decide) (hts _ q90) (fun _ h9 => h9) rfl dX2_drop_1 ?_
  refine lv_if_ne (tgt := 9) hx hb dX2_drop_4 (by decide) (fun c_4 => ?_) (fun c_4 => ?_)
  · have c_4 : n ≠ 0 := ci_ne (a := n) (b := 0) c_4 (by omega) (by omega)
    refine lv_aload_n hx hb dX2_drop_9 rfl (lv_at hl 0 rfl) ?_
    refine lv_aload_n hx hb dX2_drop_10 rfl (lv_at hl 0 rfl) ?_
    refine va_get (D := (dC, dI)) (ci := 2) (v := .int (nI (n))) (C := RX2) (T := TX2) (N := 4) hx hb hts in_X2 hown hK hP 0 rfl rfl 1 (by decide) (hts _ q90) (fun _ h9 => h9) rfl dX2_drop_11 ?_
    refine lv_iconst (v := nI 1) hx hb dX2_drop_14 (by decide) ?_
    refine lv_isub hx hb dX2_drop_15 ?_
    refine w_i (pk_sub (a := n) (b := 1) (by omega)) ?_
    refine va_put (D := (dC, dI)) (ci := 2) (v := .int (nI (n - 1))) (ty := .int) (C := RX2) (T := TX2) (N := 4) hx hb hts in_X2 tyX2 tyX2_ok nmX2 hown hK hP hD hS 0 rfl rfl 1 (by decide) (hts _ q90) (fun _ h9 => h9) rfl (by decide +kernel) rfl rfl (Nat.le_of_ble_eq_true rfl) dX2_drop_16 (fun H locs hP hD hS => ?_)
    have hP : va_P (dC, dI) vwCl [(k0, .inr (2, [.ref k1, .int (nI (n - 1)), .ref k2, .ref k3])), (k1, .inl (e1, 10, .inl (iA g1))), (k2, .inl (e2, 1024, .inr (.inl (lA g2)))), (k3, .inl (e3, 110, .inr (.inl (lA g3))))] H := hP
    have hD : va_D A [(k0, .inr (2, [.ref k1, .int (nI (n - 1)), .ref k2, .ref k3])), (k1, .inl (e1, 10, .inl (iA g1))), (k2, .inl (e2, 1024, .inr (.inl (lA g2)))), (k3, .inl (e3, 110, .inr (.inl (lA g3))))] := hD
    refine lv_iconst (v := nI 1) hx hb dX2_drop_19 (by decide) ?_
    have hP9 := hP.sub (ws' := [(k0, .inr (2, [.ref k1, .int (nI (n - 1)), .ref k2, .ref k3])), (k1, .inl (e1, 10, .inl (iA g1))), (k2, .inl (e2, 1024, .inr (.inl (lA g2)))), (k3, .inl (e3, 110, .inr (.inl (lA g3))))]) [0, 1, 2, 3] rfl
    have hD9 := hD.sub (ws' := [(k0, .inr (2, [.ref k1, .int (nI (n - 1)), .ref k2, .ref k3])), (k1, .inl (e1, 10, .inl (iA g1))), (k2, .inl (e2, 1024, .inr (.inl (lA g2)))), (k3, .inl (e3, 110, .inr (.inl (lA g3))))]) [0, 1, 2, 3] (by decide) rfl
    have hK9 := hK.sub (tys' := [(e1, .int), (e2, .long), (e3, .long)]) [0, 1, 2] rfl
    exact W.zret (v := nI (1)) hx hb hr rfl (fun t ht hW => ⟨⟨nI (1), (n - 1), rfl, Or.inr ⟨by omega, rfl, rfl⟩, by rw [ht]; exact hP9, va_K.moved hW.alike hK9, hD9⟩, hS.F ht⟩) hS.2.2 dX2_drop_20
  · have c_4 : n = 0 := ci_eq (a := n) (b := 0) c_4 (by omega) (by omega)
    refine lv_iconst (v := nI 0) hx hb dX2_drop_7 (by decide) ?_
    have hP9 := hP.sub (ws' := [(k0, .inr (2, [.ref k1, .int (nI (n)), .ref k2, .ref k3])), (k1, .inl (e1, 10, .inl (iA g1))), (k2, .inl (e2, 1024, .inr (.inl (lA g2)))), (k3, .inl (e3, 110, .inr (.inl (lA g3))))]) [0, 1, 2, 3] rfl
    have hD9 := hD.sub (ws' := [(k0, .inr (2, [.ref k1, .int (nI (n)), .ref k2, .ref k3])), (k1, .inl (e1, 10, .inl (iA g1))), (k2, .inl (e2, 1024, .inr (.inl (lA g2)))), (k3, .inl (e3, 110, .inr (.inl (lA g3))))]) [0, 1, 2, 3] (by decide) rfl
    have hK9 := hK.sub (tys' := [(e1, .int), (e2, .long), (e3, .long)]) [0, 1, 2] rfl
    exact W.zret (v := nI (0)) hx hb hr rfl (fun t ht hW => ⟨⟨nI (0), n, rfl, Or.inl ⟨by omega, rfl, by omega⟩, by rw [ht]; exact hP9, va_K.moved hW.alike hK9, hD9⟩, hS.F ht⟩) hS.2.2 dX2_drop_8
set_option maxHeartbeats 4000000 in
set_option maxRecDepth 100000 in
theorem metX2_heaps (l : Launch) (dC : Nat → ClassId) (dI : Nat → Nat → Nat) (k0 k1 k2 k3 : Nat) (e1 e2 e3 : ClassId) (sz n : Nat) (g1 g2 g3 : Nat → Nat) : Met l yX2_heaps (ws_ yX2_heaps cX2_heaps 1 (some .int)) ({ frames := 0, cells := 0, slots := 0, locals := 0 }) (va_Pc [.ref k0] (fun U => U.heap.size = sz ∧ va_P (dC, dI) vwCl [(k0, .inr (2, [.ref k1, .int (nI (n)), .ref k2, .ref k3])), (k1, .inl (e1, 10, .inl (iA g1))), (k2, .inl (e2, 1024, .inr (.inl (lA g2)))), (k3, .inl (e3, 110, .inr (.inl (lA g3))))] U.heap ∧ va_K (dC, dI) vwCl [(e1, .int), (e2, .long), (e3, .long)] U ∧ va_D (fun _ => True) [(k0, .inr (2, [.ref k1, .int (nI (n)), .ref k2, .ref k3])), (k1, .inl (e1, 10, .inl (iA g1))), (k2, .inl (e2, 1024, .inr (.inl (lA g2)))), (k3, .inl (e3, 110, .inr (.inl (lA g3))))])) (va_Qi (fun (r : Int32) (_ : Unit) => r = nI n) (fun _ t => va_P (dC, dI) vwCl [(k0, .inr (2, [.ref k1, .int (nI (n)), .ref k2, .ref k3])), (k1, .inl (e1, 10, .inl (iA g1))), (k2, .inl (e2, 1024, .inr (.inl (lA g2)))), (k3, .inl (e3, 110, .inr (.inl (lA g3))))] t.heap ∧ va_K (dC, dI) vwCl [(e1, .int), (e2, .long), (e3, .long)] t ∧ va_D (va_A [(k0, .inr (2, [.ref k1, .int (nI (n)), .ref k2, .ref k3])), (k1, .inl (e1, 10, .inl (iA g1))), (k2, .inl (e2, 1024, .inr (.inl (lA g2)))), (k3, .inl (e3, 110, .inr (.inl (lA g3))))] sz) [(k0, .inr (2, [.ref k1, .int (nI (n)), .ref k2, .ref k3])), (k1, .inl (e1, 10, .inl (iA g1))), (k2, .inl (e2, 1024, .inr (.inl (lA g2)))), (k3, .inl (e3, 110, .inr (.inl (lA g3))))]) (va_A [(k0, .inr (2, [.ref k1, .int (nI (n)), .ref k2, .ref k3])), (k1, .inl (e1, 10, .inl (iA g1))), (k2, .inl (e2, 1024, .inr (.inl (lA g2)))), (k3, .inl (e3, 110, .inr (.inl (lA g3))))] sz)) 0 0 (va_A [(k0, .inr (2, [.ref k1, .int (nI (n)), .ref k2, .ref k3])), (k1, .inl (e1, 10, .inl (iA g1))), (k2, .inl (e2, 1024, .inr (.inl (lA g2)))), (k3, .inl (e3, 110, .inr (.inl (lA g3))))] sz) := by
  refine Met.ofW (cc := cX2_heaps) (maxL := 1) (ret := (some .int)) (by decide) rfl ?_
  intro p e s m args below meth c s₁ B hml hv
  obtain ⟨rfl, hsz, hP, hK, hD0⟩ := hv
  have hx := B.exec
  have hb := B.bytes
  have hr := B.returns
  have hts := atoms_spec (ws := ws_ yX2_heaps cX2_heaps 1 (some .int)) B.pre
  have hts : ∀ w ∈ lw_all, w.before _ s = true := fun w h => hts w (List.mem_cons_of_mem _ h)
  have hown : s.vm.findClass RX2 = some m.cls := findClass_of_methodNamed B.named
  have hlocks := B.notSynchronized
  subst hsz
  have hD := hD0.self (sz := s.heap.size)
  generalize hAe : va_A [(k0, .inr (2, [.ref k1, .int (nI (n)), .ref k2, .ref k3])), (k1, .inl (e1, 10, .inl (iA g1))), (k2, .inl (e2, 1024, .inr (.inl (lA g2)))), (k3, .inl (e3, 110, .inr (.inl (lA g3))))] s.heap.size = A at hD ⊢
  have hA : ∀ q : Nat, s.heap.size ≤ q → A q := fun q h => by rw [← hAe]; exact Or.inr h
  have hS : va_S A s.heap s.heap [] := va_S.rf
  have hP : va_P (dC, dI) vwCl [(k0, .inr (2, [.ref k1, .int (nI (n)), .ref k2, .ref k3])), (k1, .inl (e1, 10, .inl (iA g1))), (k2, .inl (e2, 1024, .inr (.inl (lA g2)))), (k3, .inl (e3, 110, .inr (.inl (lA g3))))] s.heap := hP
  have hl := lv_entry ([.ref k0]) (n := 1) (Nat.le_of_ble_eq_true rfl)
  rw [lg_entry_eq]
  generalize (lg_sl ([.ref k0]) ++ List.replicate (1 - (lg_sl ([.ref k0])).length) Slot.unset).toArray = ls at hl ⊢
  have hl : lv_has ls 1 [(0, .ref k0)] := hl
  refine lv_aload_n hx hb dX2_heaps_0 rfl (lv_at hl 0 rfl) ?_
  refine va_get (D := (dC, dI)) (ci := 2) (v := .int (nI (n))) (C := RX2) (T := TX2) (N := 4) hx hb hts in_X2 hown hK hP 0 rfl rfl 1 (by decide) (hts _ q90) (fun _ h9 => h9) rfl dX2_heaps_1 ?_
  have hP9 := hP.sub (ws' := [(k0, .inr (2, [.ref k1, .int (nI (n)), .ref k2, .ref k3])), (k1, .inl (e1, 10, .inl (iA g1))), (k2, .inl (e2, 1024, .inr (.inl (lA g2)))), (k3, .inl (e3, 110, .inr (.inl (lA g3))))]) [0, 1, 2, 3] rfl
  have hD9 := hD.sub (ws' := [(k0, .inr (2, [.ref k1, .int (nI (n)), .ref k2, .ref k3])), (k1, .inl (e1, 10, .inl (iA g1))), (k2, .inl (e2, 1024, .inr (.inl (lA g2)))), (k3, .inl (e3, 110, .inr (.inl (lA g3))))]) [0, 1, 2, 3] (by decide) rfl
  have hK9 := hK.sub (tys' := [(e1, .int), (e2, .long), (e3, .long)]) [0, 1, 2] rfl
  exact W.iret (v := nI (n)) hx hb hr (fun t ht hW => ⟨⟨nI (n), (), rfl, rfl, by rw [ht]; exact hP9, va_K.moved hW.alike hK9, hD9⟩, hS.F ht⟩) hS.2.2 dX2_heaps_4
section SUM
variable {p : Program} {l : Launch} {e : Env} {R : Room} {s : State} {m : MethodId} {args : Array Value} {below : List Frame} {meth : Method} {c : Code} {Q : State → Prop} {cells slots : Nat} {dC : Nat → ClassId} {dI : Nat → Nat → Nat} {A : Nat → Prop} {H0 : Heap}
set_option maxHeartbeats 4000000 in
set_option maxRecDepth 100000 in
theorem lp_sum (hx : p.tables.exec = Jvm.exec) (hb : c.code = cX2_sum) (hown : s.vm.findClass RX2 = some m.cls) (hts : ∀ w ∈ lw_all, w.before args s = true) {k0 k1 k2 k3 : Nat} {e1 e2 e3 : ClassId} {n ss : Nat} {g1 g2 g3 : Nat → Nat} (hn : n ≤ 8) (hs : ss < 256) (hw : ∀ i, i < n → g1 i < 65536) (hK : va_K (dC, dI) vwCl [(e1, .int), (e2, .long), (e3, .long)] s) {H : Heap} {locs : List Loc} (hP : va_P (dC, dI) vwCl [(k0, .inr (2, [.ref k1, .int (nI (n)), .ref k2, .ref k3])), (k1, .inl (e1, 10, .inl (iA g1))), (k2, .inl (e2, 1024, .inr (.inl (lA g2)))), (k3, .inl (e3, 110, .inr (.inl (lA g3))))] H) 
    (kk : ∀ (ls : Array Slot), lv_has ls 5 [(2, .long (lN (mk_sm g1 n ss)))] → W p l e R s m args below meth c H locs cells slots Q (F0 m 40 ls [])) :
    ∀ (f i : Nat), n < i + f → i ≤ n → ∀ (ls : Array Slot), lv_has ls 5 [(4, .int (nI (i))), (2, .long (lN (mk_sm g1 i ss))), (0, .ref k0), (1, .int (nI (ss)))] → W p l e R s m args below meth c H locs cells slots Q (F0 m 5 ls []) := by
  intro f
  induction f with
  | zero => intro i h h1; omega
  | succ f ih =>
    intro i hif hin ls hl
    refine lv_iload hx hb dX2_sum_5 (lv_at hl 0 rfl) ?_
    refine lv_aload_n hx hb dX2_sum_7 rfl (lv_at hl 2 rfl) ?_
    refine va_get (D := (dC, dI)) (ci := 2) (v := .int (nI (n))) (C := RX2) (T := TX2) (N := 4) hx hb hts in_X2 hown hK hP 0 rfl rfl 1 (by decide) (hts _ q90) (fun _ h9 => h9) rfl dX2_sum_8 ?_
    refine lv_icmp_ge (tgt := 40) hx hb dX2_sum_11 (by decide) (fun c_11 => ?_) (fun c_11 => ?_)
    · have c_11 : n ≤ i := ci_le c_11 (by omega) (by omega)
      have e : i = n := by omega
      rw [e] at hl
      exact kk ls (lv_sub hl [1] rfl)
    · have c_11 : i < n := ci_nle c_11 (by omega) (by omega)
      refine lv_iload_n hx hb dX2_sum_14 rfl (lv_at hl 3 rfl) ?_
      refine lv_iload hx hb dX2_sum_15 (lv_at hl 0 rfl) ?_
      refine lv_ishr hx hb dX2_sum_17 ?_
      refine w_i (shr_n (s := ss) (i := i) (by omega) (by omega)) ?_
      refine lv_iconst (v := nI 1) hx hb dX2_sum_18 (by decide) ?_
      refine lv_iand hx hb dX2_sum_19 ?_
      refine w_i (and_1 (ss / 2 ^ i)) ?_
      have hm2 : ss / 2 ^ i % 2 < 2 := Nat.mod_lt _ (by omega)
      have htb : ss.testBit i = decide (ss / 2 ^ i % 2 = 1) := Nat.testBit_eq_decide_div_mod_eq
      refine lv_if_eq (tgt := 34) hx hb dX2_sum_20 (by decide) (fun c_20 => ?_) (fun c_20 => ?_)
      · have c_20 : (ss / 2 ^ i) % 2 = 0 := ci_eq (a := (ss / 2 ^ i) % 2) (b := 0) c_20 (by omega) (by omega)
        refine lv_iinc (v := nI (i + 1)) (lv' := [(4, .int (nI (i + 1))), (2, .long (lN (mk_sm g1 i ss))), (0, .ref k0), (1, .int (nI (ss)))]) hx hb dX2_sum_34 hl (k := 0) rfl (inc_1 (i)) (by decide) rfl (fun ls hl => ?_)
        refine lv_goto (tgt := 5) hx hb dX2_sum_37 (by decide) ?_
        have e : mk_sm g1 i ss = mk_sm g1 (i + 1) ss := by simp only [mk_sm, htb]; rw [if_neg (by simp; omega)]; rfl
        rw [e] at hl
        exact ih (i + 1) (by omega) (by omega) ls (lv_sub hl [0, 1, 2, 3] rfl)
      · have c_20 : (ss / 2 ^ i) % 2 ≠ 0 := ci_ne (a := (ss / 2 ^ i) % 2) (b := 0) c_20 (by omega) (by omega)
        refine lv_lload_n hx hb dX2_sum_23 rfl (lv_at hl 1 rfl) ?_
        refine lv_aload_n hx hb dX2_sum_24 rfl (lv_at hl 2 rfl) ?_
        refine va_get (D := (dC, dI)) (ci := 2) (v := .ref k1) (C := RX2) (T := TX2) (N := 4) hx hb hts in_X2 hown hK hP 0 rfl rfl 0 (by decide) (hts _ q89) (fun _ h9 => h9) rfl dX2_sum_25 ?_
        refine lv_iload hx hb dX2_sum_28 (lv_at hl 0 rfl) ?_
        refine va_iald hx hb hK hP 1 0 rfl rfl (in_nI (n := i) (by omega) (by omega)) dX2_sum_30 ?_
        refine w_i (iA_at (g := g1) (k := i) (by omega)) ?_
        have b_30 : g1 i < 65536 := hw _ (by omega)
        refine lv_i2l (v := lN (g1 i)) hx hb dX2_sum_31 (nI_l (by omega)) ?_
        refine lv_ladd hx hb dX2_sum_32 ?_
        refine w_l (lN_add (mk_sm g1 i ss) (g1 i)) ?_
        refine lv_lstore_n (lv' := [(2, .long (lN (mk_sm g1 i ss + g1 i))), (4, .int (nI (i))), (0, .ref k0), (1, .int (nI (ss)))]) hx hb dX2_sum_33 rfl hl (by decide) rfl (fun ls hl => ?_)
        refine lv_iinc (v := nI (i + 1)) (lv' := [(4, .int (nI (i + 1))), (2, .long (lN (mk_sm g1 i ss + g1 i))), (0, .ref k0), (1, .int (nI (ss)))]) hx hb dX2_sum_34 hl (k := 1) rfl (inc_1 (i)) (by decide) rfl (fun ls hl => ?_)
        refine lv_goto (tgt := 5) hx hb dX2_sum_37 (by decide) ?_
        have e : mk_sm g1 i ss + g1 i = mk_sm g1 (i + 1) ss := by simp only [mk_sm, htb]; rw [if_pos (by simp; omega)]
        rw [e] at hl
        exact ih (i + 1) (by omega) (by omega) ls (lv_sub hl [0, 1, 2, 3] rfl)
end SUM
set_option maxHeartbeats 4000000 in
set_option maxRecDepth 100000 in
theorem metX2_sum (l : Launch) (dC : Nat → ClassId) (dI : Nat → Nat → Nat) (k0 k1 k2 k3 : Nat) (e1 e2 e3 : ClassId) (sz n : Nat) (g1 g2 g3 : Nat → Nat) (ss : Nat) (hn : n ≤ 8) (hs : ss < 256) (hw : ∀ i, i < n → g1 i < 65536) : Met l yX2_sum (ws_ yX2_sum cX2_sum 5 (some .long)) ({ frames := 0, cells := 0, slots := 0, locals := 0 }) (va_Pc [.ref k0, .int (nI ss)] (fun U => U.heap.size = sz ∧ va_P (dC, dI) vwCl [(k0, .inr (2, [.ref k1, .int (nI (n)), .ref k2, .ref k3])), (k1, .inl (e1, 10, .inl (iA g1))), (k2, .inl (e2, 1024, .inr (.inl (lA g2)))), (k3, .inl (e3, 110, .inr (.inl (lA g3))))] U.heap ∧ va_K (dC, dI) vwCl [(e1, .int), (e2, .long), (e3, .long)] U ∧ va_D (fun _ => True) [(k0, .inr (2, [.ref k1, .int (nI (n)), .ref k2, .ref k3])), (k1, .inl (e1, 10, .inl (iA g1))), (k2, .inl (e2, 1024, .inr (.inl (lA g2)))), (k3, .inl (e3, 110, .inr (.inl (lA g3))))])) (va_Ql (fun (r : Int64) (_ : Unit) => r = lN (mk_sm g1 n ss)) (fun _ t => va_P (dC, dI) vwCl [(k0, .inr (2, [.ref k1, .int (nI (n)), .ref k2, .ref k3])), (k1, .inl (e1, 10, .inl (iA g1))), (k2, .inl (e2, 1024, .inr (.inl (lA g2)))), (k3, .inl (e3, 110, .inr (.inl (lA g3))))] t.heap ∧ va_K (dC, dI) vwCl [(e1, .int), (e2, .long), (e3, .long)] t ∧ va_D (va_A [(k0, .inr (2, [.ref k1, .int (nI (n)), .ref k2, .ref k3])), (k1, .inl (e1, 10, .inl (iA g1))), (k2, .inl (e2, 1024, .inr (.inl (lA g2)))), (k3, .inl (e3, 110, .inr (.inl (lA g3))))] sz) [(k0, .inr (2, [.ref k1, .int (nI (n)), .ref k2, .ref k3])), (k1, .inl (e1, 10, .inl (iA g1))), (k2, .inl (e2, 1024, .inr (.inl (lA g2)))), (k3, .inl (e3, 110, .inr (.inl (lA g3))))]) (va_A [(k0, .inr (2, [.ref k1, .int (nI (n)), .ref k2, .ref k3])), (k1, .inl (e1, 10, .inl (iA g1))), (k2, .inl (e2, 1024, .inr (.inl (lA g2)))), (k3, .inl (e3, 110, .inr (.inl (lA g3))))] sz)) 0 0 (va_A [(k0, .inr (2, [.ref k1, .int (nI (n)), .ref k2, .ref k3])), (k1, .inl (e1, 10, .inl (iA g1))), (k2, .inl (e2, 1024, .inr (.inl (lA g2)))), (k3, .inl (e3, 110, .inr (.inl (lA g3))))] sz) := by
  refine Met.ofW (cc := cX2_sum) (maxL := 5) (ret := (some .long)) (by decide) rfl ?_
  intro p e s m args below meth c s₁ B hml hv
  obtain ⟨rfl, hsz, hP, hK, hD0⟩ := hv
  have hx := B.exec
  have hb := B.bytes
  have hr := B.returns
  have hts := atoms_spec (ws := ws_ yX2_sum cX2_sum 5 (some .long)) B.pre
  have hts : ∀ w ∈ lw_all, w.before _ s = true := fun w h => hts w (List.mem_cons_of_mem _ h)
  have hown : s.vm.findClass RX2 = some m.cls := findClass_of_methodNamed B.named
  have hlocks := B.notSynchronized
  subst hsz
  have hD := hD0.self (sz := s.heap.size)
  generalize hAe : va_A [(k0, .inr (2, [.ref k1, .int (nI (n)), .ref k2, .ref k3])), (k1, .inl (e1, 10, .inl (iA g1))), (k2, .inl (e2, 1024, .inr (.inl (lA g2)))), (k3, .inl (e3, 110, .inr (.inl (lA g3))))] s.heap.size = A at hD ⊢
  have hA : ∀ q : Nat, s.heap.size ≤ q → A q := fun q h => by rw [← hAe]; exact Or.inr h
  have hS : va_S A s.heap s.heap [] := va_S.rf
  have hP : va_P (dC, dI) vwCl [(k0, .inr (2, [.ref k1, .int (nI (n)), .ref k2, .ref k3])), (k1, .inl (e1, 10, .inl (iA g1))), (k2, .inl (e2, 1024, .inr (.inl (lA g2)))), (k3, .inl (e3, 110, .inr (.inl (lA g3))))] s.heap := hP
  have hl := lv_entry ([.ref k0, .int (nI ss)]) (n := 5) (Nat.le_of_ble_eq_true rfl)
  rw [lg_entry_eq]
  generalize (lg_sl ([.ref k0, .int (nI ss)]) ++ List.replicate (5 - (lg_sl ([.ref k0, .int (nI ss)])).length) Slot.unset).toArray = ls at hl ⊢
  have hl : lv_has ls 5 [(0, .ref k0), (1, .int (nI (ss)))] := hl
  refine lv_lconst (v := lN 0) hx hb dX2_sum_0 rfl ?_
  refine lv_lstore_n (lv' := [(2, .long (lN (0))), (0, .ref k0), (1, .int (nI (ss)))]) hx hb dX2_sum_1 rfl hl (by decide) rfl (fun ls hl => ?_)
  refine lv_iconst (v := nI 0) hx hb dX2_sum_2 (by decide) ?_
  refine lv_istore (lv' := [(4, .int (nI (0))), (2, .long (lN (0))), (0, .ref k0), (1, .int (nI (ss)))]) hx hb dX2_sum_3 hl (by decide) rfl (fun ls hl => ?_)
  refine lp_sum hx hb hown hts hn hs hw hK hP (fun ls hl => ?_) (n + 1) 0 (by omega) (by omega) ls (lv_sub hl [0, 1, 2, 3] rfl)
  refine lv_lload_n hx hb dX2_sum_40 rfl (lv_at hl 0 rfl) ?_
  have hP9 := hP.sub (ws' := [(k0, .inr (2, [.ref k1, .int (nI (n)), .ref k2, .ref k3])), (k1, .inl (e1, 10, .inl (iA g1))), (k2, .inl (e2, 1024, .inr (.inl (lA g2)))), (k3, .inl (e3, 110, .inr (.inl (lA g3))))]) [0, 1, 2, 3] rfl
  have hD9 := hD.sub (ws' := [(k0, .inr (2, [.ref k1, .int (nI (n)), .ref k2, .ref k3])), (k1, .inl (e1, 10, .inl (iA g1))), (k2, .inl (e2, 1024, .inr (.inl (lA g2)))), (k3, .inl (e3, 110, .inr (.inl (lA g3))))]) [0, 1, 2, 3] (by decide) rfl
  have hK9 := hK.sub (tys' := [(e1, .int), (e2, .long), (e3, .long)]) [0, 1, 2] rfl
  exact W.lret (v := lN (mk_sm g1 n ss)) hx hb hr (fun t ht hW => ⟨⟨lN (mk_sm g1 n ss), (), rfl, rfl, by rw [ht]; exact hP9, va_K.moved hW.alike hK9, hD9⟩, hS.F ht⟩) hS.2.2 dX2_sum_41
end
section
section ANY
variable {p : Program} {l : Launch} {e : Env} {R : Room} {s : State} {m : MethodId} {args : Array Value} {below : List Frame} {meth : Method} {c : Code} {Q : State → Prop} {cells slots : Nat} {dC : Nat → ClassId} {dI : Nat → Nat → Nat} {A : Nat → Prop} {H0 : Heap}
set_option maxHeartbeats 4000000 in
set_option maxRecDepth 100000 in
theorem lp_any_in (hx : p.tables.exec = Jvm.exec) (hb : c.code = cX2_any) (hown : s.vm.findClass RX2 = some m.cls) (hts : ∀ w ∈ lw_all, w.before args s = true) {k0 k1 k2 k3 : Nat} {e1 e2 e3 : ClassId} {n : Nat} {g1 g3 : Nat → Nat} (hn : n ≤ 8) (hK : va_K (dC, dI) vwCl [(e1, .int), (e2, .long), (e3, .long)] s) {ss : Nat} {g2 : Nat → Nat} (hs0 : 0 < ss) (hs : ss < 256) (hns : ss &&& (ss - 1) ≠ 0) (hU : mk_U 2 n g1 g2 ss) {H : Heap} {locs : List Loc} (hP : va_P (dC, dI) vwCl [(k0, .inr (2, [.ref k1, .int (nI (n)), .ref k2, .ref k3])), (k1, .inl (e1, 10, .inl (iA g1))), (k2, .inl (e2, 1024, .inr (.inl (lA g2)))), (k3, .inl (e3, 110, .inr (.inl (lA g3))))] H)
    (kk : ∀ (M : Nat) (ls : Array Slot), mk_seen g2 ss 0 M → lv_has ls 7 [(2, .long (lN (M))), (1, .int (nI (ss))), (0, .ref k0)] → W p l e R s m args below meth c H locs cells slots Q (F0 m 94 ls [])) :
    ∀ (f pp : Nat) (bb : Int64), pp < f → pp < ss → pp &&& ss = pp → ((bb = (-1) ∧ ∀ q, q &&& ss = q → q < ss → q ≤ pp) ∨ (∃ M, bb = lN M ∧ M < 2 ^ 62 ∧ mk_seen g2 ss pp M)) → ∀ (ls : Array Slot), lv_has ls 7 [(4, .int (nI (pp))), (2, .long (bb)), (1, .int (nI (ss))), (0, .ref k0)] → W p l e R s m args below meth c H locs cells slots Q (F0 m 41 ls []) := by
  intro f
  induction f with
  | zero => intro pp bb h; omega
  | succ f ih =>
    intro pp bb hpf hps hpp hB ls hl
    have hbd : ∀ i, 0 < i → i < ss → g2 i < 2 ^ 30 := fun i h0 h1 => by
      have h2 := hU.2.2.2.2 i h0 h1
      have h3 : i * 524288 ≤ 255 * 524288 := Nat.mul_le_mul_right _ (by omega)
      omega
    refine lv_iload hx hb dX2_any_41 (lv_at hl 0 rfl) ?_
    refine lv_if_le (tgt := 94) hx hb dX2_any_43 (by decide) (fun c_43 => ?_) (fun c_43 => ?_)
    · have c_43 : pp ≤ 0 := ci_le (a := pp) (b := 0) c_43 (by omega) (by omega)
      rcases hB with ⟨rfl, hall⟩ | ⟨M, rfl, hM, hseen⟩
      · have h1 := hall _ (mk_and_sub (ss - 1) ss) (by have := mk_and_le (ss - 1) ss; omega)
        have h2 : ss &&& (ss - 1) = (ss - 1) &&& ss := Nat.and_comm _ _
        exact absurd (h2.trans (by omega)) hns
      · have h1 : pp = 0 := by omega
        rw [h1] at hseen
        exact kk M ls hseen (lv_sub hl [1, 2, 3] rfl)
    · have c_43 : 0 < pp := ci_nle (a := pp) (b := 0) c_43 (by omega) (by omega)
      refine lv_aload_n hx hb dX2_any_46 rfl (lv_at hl 3 rfl) ?_
      refine va_get (D := (dC, dI)) (ci := 2) (v := .ref k2) (C := RX2) (T := TX2) (N := 4) hx hb hts in_X2 hown hK hP 0 rfl rfl 2 (by decide) (hts _ q91) (fun _ h9 => h9) rfl dX2_any_47 ?_
      refine lv_iload hx hb dX2_any_50 (lv_at hl 0 rfl) ?_
      refine va_lald hx hb hK hP 2 1 rfl rfl (in_nI (n := pp) (by omega) (by omega)) dX2_any_52 ?_
      refine w_l (lA_at (g := g2) (k := pp) (by omega)) ?_
      have b_52 : g2 pp < 2 ^ 30 := hbd _ (by omega) (by omega)
      refine lv_aload_n hx hb dX2_any_53 rfl (lv_at hl 3 rfl) ?_
      refine va_get (D := (dC, dI)) (ci := 2) (v := .ref k2) (C := RX2) (T := TX2) (N := 4) hx hb hts in_X2 hown hK hP 0 rfl rfl 2 (by decide) (hts _ q91) (fun _ h9 => h9) rfl dX2_any_54 ?_
      refine lv_iload_n hx hb dX2_any_57 rfl (lv_at hl 2 rfl) ?_
      refine lv_iload hx hb dX2_any_58 (lv_at hl 0 rfl) ?_
      refine lv_iconst (v := (-1)) hx hb dX2_any_60 (by decide) ?_
      refine lv_ixor hx hb dX2_any_61 ?_
      refine lv_iand hx hb dX2_any_62 ?_
      refine w_i (nx_not (s := ss) (p := pp) (by omega) (by assumption)) ?_
      refine va_lald hx hb hK hP 2 1 rfl rfl (in_nI (n := ss - pp) (by omega) (by omega)) dX2_any_63 ?_
      refine w_l (lA_at (g := g2) (k := ss - pp) (by omega)) ?_
      have b_63 : g2 (ss - pp) < 2 ^ 30 := hbd _ (by omega) (by omega)
      refine lv_ladd hx hb dX2_any_64 ?_
      refine w_l (lN_add (g2 pp) (g2 (ss - pp))) ?_
      refine lv_lstore (lv' := [(5, .long (lN (g2 pp + g2 (ss - pp)))), (4, .int (nI (pp))), (2, .long (bb)), (1, .int (nI (ss))), (0, .ref k0)]) hx hb dX2_any_65 hl (by decide) rfl (fun ls hl => ?_)
      rcases hB with ⟨rfl, hall⟩ | ⟨M, rfl, hM, hseen⟩
      · have hq1 : True := trivial
        refine lv_lload_n hx hb dX2_any_67 rfl (lv_at hl 2 rfl) ?_
        refine lv_lconst (v := lN 0) hx hb dX2_any_68 rfl ?_
        refine W.lcmp hx hb dX2_any_69 ?_
        refine lv_if_lt (tgt := 80) hx hb dX2_any_70 (by decide) (fun c_70 => ?_) (fun c_70 => ?_)
        · refine lv_lload hx hb dX2_any_80 (lv_at hl 0 rfl) ?_
          refine lv_lstore_n (lv' := [(2, .long (lN (g2 pp + g2 (ss - pp)))), (5, .long (lN (g2 pp + g2 (ss - pp)))), (4, .int (nI (pp))), (1, .int (nI (ss))), (0, .ref k0)]) hx hb dX2_any_82 rfl hl (by decide) rfl (fun ls hl => ?_)
          refine lv_iload hx hb dX2_any_83 (lv_at hl 2 rfl) ?_
          refine lv_iconst (v := nI 1) hx hb dX2_any_85 (by decide) ?_
          refine lv_isub hx hb dX2_any_86 ?_
          refine w_i (pk_sub (a := pp) (b := 1) (by omega)) ?_
          refine lv_iload_n hx hb dX2_any_87 rfl (lv_at hl 3 rfl) ?_
          refine lv_iand hx hb dX2_any_88 ?_
          refine w_i (nx_and (pp - 1) (ss)) ?_
          refine lv_istore (lv' := [(4, .int (nI ((pp - 1) &&& (ss)))), (2, .long (lN (g2 pp + g2 (ss - pp)))), (5, .long (lN (g2 pp + g2 (ss - pp)))), (1, .int (nI (ss))), (0, .ref k0)]) hx hb dX2_any_89 hl (by decide) rfl (fun ls hl => ?_)
          refine lv_goto (tgt := 41) hx hb dX2_any_91 (by decide) ?_
          have hle := mk_and_le (pp - 1) ss
          exact ih ((pp - 1) &&& (ss)) _ (by omega) (by omega) (mk_and_sub _ _) (Or.inr ⟨_, rfl, by omega, mk_seen_first hpp (by omega) hps hall⟩) ls (lv_sub hl [0, 1, 3, 4] rfl)
        · exact absurd cl_m1' c_70
      · have hq1 : True := trivial
        refine lv_lload_n hx hb dX2_any_67 rfl (lv_at hl 2 rfl) ?_
        refine lv_lconst (v := lN 0) hx hb dX2_any_68 rfl ?_
        refine W.lcmp hx hb dX2_any_69 ?_
        refine lv_if_lt (tgt := 80) hx hb dX2_any_70 (by decide) (fun c_70 => ?_) (fun c_70 => ?_)
        · have c_70 : M < 0 := cl_lt c_70 (by omega) (by omega)
          omega
        · have c_70 : 0 ≤ M := cl_nlt c_70 (by omega) (by omega)
          refine lv_lload hx hb dX2_any_73 (lv_at hl 0 rfl) ?_
          refine lv_lload_n hx hb dX2_any_75 rfl (lv_at hl 2 rfl) ?_
          refine W.lcmp hx hb dX2_any_76 ?_
          refine lv_if_ge (tgt := 83) hx hb dX2_any_77 (by decide) (fun c_77 => ?_) (fun c_77 => ?_)
          · have c_77 : M ≤ g2 pp + g2 (ss - pp) := cl_ge c_77 (by omega) (by omega)
            refine lv_iload hx hb dX2_any_83 (lv_at hl 1 rfl) ?_
            refine lv_iconst (v := nI 1) hx hb dX2_any_85 (by decide) ?_
            refine lv_isub hx hb dX2_any_86 ?_
            refine w_i (pk_sub (a := pp) (b := 1) (by omega)) ?_
            refine lv_iload_n hx hb dX2_any_87 rfl (lv_at hl 3 rfl) ?_
            refine lv_iand hx hb dX2_any_88 ?_
            refine w_i (nx_and (pp - 1) (ss)) ?_
            refine lv_istore (lv' := [(4, .int (nI ((pp - 1) &&& (ss)))), (5, .long (lN (g2 pp + g2 (ss - pp)))), (2, .long (lN (M))), (1, .int (nI (ss))), (0, .ref k0)]) hx hb dX2_any_89 hl (by decide) rfl (fun ls hl => ?_)
            refine lv_goto (tgt := 41) hx hb dX2_any_91 (by decide) ?_
            have hle := mk_and_le (pp - 1) ss
            exact ih ((pp - 1) &&& (ss)) _ (by omega) (by omega) (mk_and_sub _ _) (Or.inr ⟨M, rfl, hM, mk_seen_keep hpp hseen (by omega)⟩) ls (lv_sub hl [0, 2, 3, 4] rfl)
          · have c_77 : g2 pp + g2 (ss - pp) < M := cl_nge c_77 (by omega) (by omega)
            refine lv_lload hx hb dX2_any_80 (lv_at hl 0 rfl) ?_
            refine lv_lstore_n (lv' := [(2, .long (lN (g2 pp + g2 (ss - pp)))), (5, .long (lN (g2 pp + g2 (ss - pp)))), (4, .int (nI (pp))), (1, .int (nI (ss))), (0, .ref k0)]) hx hb dX2_any_82 rfl hl (by decide) rfl (fun ls hl => ?_)
            refine lv_iload hx hb dX2_any_83 (lv_at hl 2 rfl) ?_
            refine lv_iconst (v := nI 1) hx hb dX2_any_85 (by decide) ?_
            refine lv_isub hx hb dX2_any_86 ?_
            refine w_i (pk_sub (a := pp) (b := 1) (by omega)) ?_
            refine lv_iload_n hx hb dX2_any_87 rfl (lv_at hl 3 rfl) ?_
            refine lv_iand hx hb dX2_any_88 ?_
            refine w_i (nx_and (pp - 1) (ss)) ?_
            refine lv_istore (lv' := [(4, .int (nI ((pp - 1) &&& (ss)))), (2, .long (lN (g2 pp + g2 (ss - pp)))), (5, .long (lN (g2 pp + g2 (ss - pp)))), (1, .int (nI (ss))), (0, .ref k0)]) hx hb dX2_any_89 hl (by decide) rfl (fun ls hl => ?_)
            refine lv_goto (tgt := 41) hx hb dX2_any_91 (by decide) ?_
            have hle := mk_and_le (pp - 1) ss
            exact ih ((pp - 1) &&& (ss)) _ (by omega) (by omega) (mk_and_sub _ _) (Or.inr ⟨_, rfl, by omega, mk_seen_new hpp (by omega) hps hseen (by omega)⟩) ls (lv_sub hl [0, 1, 3, 4] rfl)
set_option maxHeartbeats 4000000 in
set_option maxRecDepth 100000 in
theorem lp_any_out (hx : p.tables.exec = Jvm.exec) (hb : c.code = cX2_any) (hown : s.vm.findClass RX2 = some m.cls) (hts : ∀ w ∈ lw_all, w.before args s = true) {k0 k1 k2 k3 : Nat} {e1 e2 e3 : ClassId} {n : Nat} {g1 g3 : Nat → Nat} (hn : n ≤ 8) (hK : va_K (dC, dI) vwCl [(e1, .int), (e2, .long), (e3, .long)] s) (hml : c.maxLocals = 7) (hw : ∀ i, i < n → g1 i < 65536) (hA : ∀ q : Nat, H0.size ≤ q → A q) (hR : 0 + 1 ≤ R.frames ∧ 8 + (5 + 11) + 0 ≤ R.locals) (hRc : cells + 0 ≤ R.cells ∧ slots + 0 ≤ R.slots)
    (kk : ∀ (g2 : Nat → Nat) (H : Heap) (locs : List Loc) (ls : Array Slot), mk_U 2 n g1 g2 (2 ^ n) → va_P (dC, dI) vwCl [(k0, .inr (2, [.ref k1, .int (nI (n)), .ref k2, .ref k3])), (k1, .inl (e1, 10, .inl (iA g1))), (k2, .inl (e2, 1024, .inr (.inl (lA g2)))), (k3, .inl (e3, 110, .inr (.inl (lA g3))))] H → va_D A [(k0, .inr (2, [.ref k1, .int (nI (n)), .ref k2, .ref k3])), (k1, .inl (e1, 10, .inl (iA g1))), (k2, .inl (e2, 1024, .inr (.inl (lA g2)))), (k3, .inl (e3, 110, .inr (.inl (lA g3))))] → va_S A H0 H locs → lv_has ls 7 [(0, .ref k0)] → W p l e R s m args below meth c H locs cells slots Q (F0 m 113 ls [])) :
    ∀ (f ss : Nat) (g2 : Nat → Nat), 2 ^ n < ss + f → 0 < ss → ss ≤ 2 ^ n → mk_U 2 n g1 g2 ss → ∀ (H : Heap) (locs : List Loc) (ls : Array Slot), va_P (dC, dI) vwCl [(k0, .inr (2, [.ref k1, .int (nI (n)), .ref k2, .ref k3])), (k1, .inl (e1, 10, .inl (iA g1))), (k2, .inl (e2, 1024, .inr (.inl (lA g2)))), (k3, .inl (e3, 110, .inr (.inl (lA g3))))] H → va_D A [(k0, .inr (2, [.ref k1, .int (nI (n)), .ref k2, .ref k3])), (k1, .inl (e1, 10, .inl (iA g1))), (k2, .inl (e2, 1024, .inr (.inl (lA g2)))), (k3, .inl (e3, 110, .inr (.inl (lA g3))))] → va_S A H0 H locs → lv_has ls 7 [(1, .int (nI (ss))), (0, .ref k0)] → W p l e R s m args below meth c H locs cells slots Q (F0 m 2 ls []) := by
  have hn8 : 2 ^ n ≤ 256 := Nat.pow_le_pow_right (n := 2) (by omega) hn
  intro f
  induction f with
  | zero => intro ss g2 h h1 h2; omega
  | succ f ih =>
    intro ss g2 hf hs0 hsn hU H locs ls hP hD hS hl
    refine lv_iload_n hx hb dX2_any_2 rfl (lv_at hl 0 rfl) ?_
    refine lv_iconst (v := nI 1) hx hb dX2_any_3 (by decide) ?_
    refine lv_aload_n hx hb dX2_any_4 rfl (lv_at hl 1 rfl) ?_
    refine va_get (D := (dC, dI)) (ci := 2) (v := .int (nI (n))) (C := RX2) (T := TX2) (N := 4) hx hb hts in_X2 hown hK hP 0 rfl rfl 1 (by decide) (hts _ q90) (fun _ h9 => h9) rfl dX2_any_5 ?_
    refine lv_ishl hx hb dX2_any_8 ?_
    refine w_i (shl_1 (n := n) (by omega)) ?_
    refine lv_icmp_ge (tgt := 113) hx hb dX2_any_9 (by decide) (fun c_9 => ?_) (fun c_9 => ?_)
    · have c_9 : 2 ^ n ≤ ss := ci_le c_9 (by omega) (by omega)
      have e : ss = 2 ^ n := by omega
      rw [e] at hU
      exact kk g2 _ _ ls hU hP hD hS (lv_sub hl [1] rfl)
    · have c_9 : ss < 2 ^ n := ci_nle c_9 (by omega) (by omega)
      refine lv_iload_n hx hb dX2_any_12 rfl (lv_at hl 0 rfl) ?_
      refine lv_iload_n hx hb dX2_any_13 rfl (lv_at hl 0 rfl) ?_
      refine lv_iconst (v := nI 1) hx hb dX2_any_14 (by decide) ?_
      refine lv_isub hx hb dX2_any_15 ?_
      refine w_i (pk_sub (a := ss) (b := 1) (by omega)) ?_
      have hle := Nat.and_le_left (n := ss) (m := ss - 1)
      refine lv_iand hx hb dX2_any_16 ?_
      refine w_i (nx_and (ss) (ss - 1)) ?_
      have hle := Nat.and_le_left (n := ss) (m := ss - 1)
      refine lv_if_ne (tgt := 30) hx hb dX2_any_17 (by decide) (fun c_17 => ?_) (fun c_17 => ?_)
      · have c_17 : (ss) &&& (ss - 1) ≠ 0 := ci_ne (a := (ss) &&& (ss - 1)) (b := 0) c_17 (by omega) (by omega)
        refine lv_ldc2 hx hb hown (hts _ q115) dX2_any_30 ?_
        refine lv_lstore_n (lv' := [(2, .long ((-1))), (1, .int (nI (ss))), (0, .ref k0)]) hx hb dX2_any_33 rfl hl (by decide) rfl (fun ls hl => ?_)
        refine lv_iload_n hx hb dX2_any_34 rfl (lv_at hl 1 rfl) ?_
        refine lv_iconst (v := nI 1) hx hb dX2_any_35 (by decide) ?_
        refine lv_isub hx hb dX2_any_36 ?_
        refine w_i (pk_sub (a := ss) (b := 1) (by omega)) ?_
        refine lv_iload_n hx hb dX2_any_37 rfl (lv_at hl 1 rfl) ?_
        refine lv_iand hx hb dX2_any_38 ?_
        refine w_i (nx_and (ss - 1) (ss)) ?_
        refine lv_istore (lv' := [(4, .int (nI ((ss - 1) &&& (ss)))), (2, .long ((-1))), (1, .int (nI (ss))), (0, .ref k0)]) hx hb dX2_any_39 hl (by decide) rfl (fun ls hl => ?_)
        have hle1 := mk_and_le (ss - 1) ss
        refine lp_any_in hx hb hown hts hn hK hs0 (by omega) c_17 hU hP (fun M ls hseen hl => ?_) ss ((ss - 1) &&& ss) _ (by omega) (by omega) (mk_and_sub _ _) (Or.inl ⟨rfl, fun q h1 h2 => mk_next ss ss q (Nat.and_self ss) h1 h2⟩) ls (lv_sub hl [0, 1, 2, 3] rfl)
        have hU2 := mk_any_end (mk_sm_le hn hw ss) hU hs0 c_17 hseen
        refine lv_aload_n hx hb dX2_any_94 rfl (lv_at hl 2 rfl) ?_
        refine va_get (D := (dC, dI)) (ci := 2) (v := .ref k2) (C := RX2) (T := TX2) (N := 4) hx hb hts in_X2 hown hK hP 0 rfl rfl 2 (by decide) (hts _ q91) (fun _ h9 => h9) rfl dX2_any_95 ?_
        refine lv_iload_n hx hb dX2_any_98 rfl (lv_at hl 1 rfl) ?_
        refine lv_lload_n hx hb dX2_any_99 rfl (lv_at hl 0 rfl) ?_
        refine lv_aload_n hx hb dX2_any_100 rfl (lv_at hl 2 rfl) ?_
        refine lv_iload_n hx hb dX2_any_101 rfl (lv_at hl 1 rfl) ?_
        have hPc := hP.sub (ws' := [(k0, .inr (2, [.ref k1, .int (nI (n)), .ref k2, .ref k3])), (k1, .inl (e1, 10, .inl (iA g1))), (k2, .inl (e2, 1024, .inr (.inl (lA g2)))), (k3, .inl (e3, 110, .inr (.inl (lA g3))))]) [0, 1, 2, 3] rfl
        have hDc := hD.sub (ws' := [(k0, .inr (2, [.ref k1, .int (nI (n)), .ref k2, .ref k3])), (k1, .inl (e1, 10, .inl (iA g1))), (k2, .inl (e2, 1024, .inr (.inl (lA g2)))), (k3, .inl (e3, 110, .inr (.inl (lA g3))))]) [0, 1, 2, 3] (by decide) rfl
        have hKc := hK.sub (tys' := [(e1, .int), (e2, .long), (e3, .long)]) [0, 1, 2] rfl
        have hFc := va_free (wc := [(k0, .inr (2, [.ref k1, .int (nI (n)), .ref k2, .ref k3])), (k1, .inl (e1, 10, .inl (iA g1))), (k2, .inl (e2, 1024, .inr (.inl (lA g2)))), (k3, .inl (e3, 110, .inr (.inl (lA g3))))]) hD hS hA [0, 1, 2, 3] rfl
        refine va_calll (va_runV (As := [.int (nI (ss))]) (rest := [.long (lN (M)), .int (nI (ss)), .ref k2]) ⟨hx, hb, hml, hown, hts⟩ (metX2_sum l dC dI k0 k1 k2 k3 e1 e2 e3 H.size n g1 g2 g3 ss hn (by omega) hw) (cwV 1 hts (lw_V q116 q118 qs1 q5 q119) rfl rfl rfl (by decide +kernel) hR) ⟨fun a U g mk q => by obtain ⟨q0, q1, qP, qK, qD⟩ := q; exact ⟨q0, q1, qP, va_K.moved (u := U) (U := U.calling g mk a) (Vm.Alike.refl U.vm) qK, qD⟩, va_recv hKc hPc (ci := 2) (q0 := 0) rfl rfl, fun U hU hW => ⟨rfl, by rw [hU], by rw [hU]; exact hPc, va_K.moved hW.alike hKc, hDc.weaken (fun _ _ _ _ => trivial)⟩⟩ rfl rfl hl.1 rfl (lv_room (Nat.le_of_ble_eq_true rfl)) dX2_any_102 hRc) hS (fun q _ h => hFc q h) hFc (fun r1 u1 t H1 locs ht hvm hw1 hB1 hz1 hk1 hS => ?_)
        obtain ⟨hP1, hK1, hD1⟩ := hB1
        rw [ht] at hP1
        have hK1 := va_K.moved hvm.symm hK1
        obtain ⟨hP, hD⟩ := va_join (wr := []) (w1 := [(k0, .inr (2, [.ref k1, .int (nI (n)), .ref k2, .ref k3])), (k1, .inl (e1, 10, .inl (iA g1))), (k2, .inl (e2, 1024, .inr (.inl (lA g2)))), (k3, .inl (e3, 110, .inr (.inl (lA g3))))]) hP hD [0, 1, 2, 3] [] rfl rfl (by decide) (by decide) hk1 hFc hP1 hD1
        generalize H1 = H at hP hS ⊢
        have hP := hP.sub (ws' := [(k0, .inr (2, [.ref k1, .int (nI (n)), .ref k2, .ref k3])), (k1, .inl (e1, 10, .inl (iA g1))), (k2, .inl (e2, 1024, .inr (.inl (lA g2)))), (k3, .inl (e3, 110, .inr (.inl (lA g3))))]) [0, 1, 2, 3] rfl
        have hD := hD.sub (ws' := [(k0, .inr (2, [.ref k1, .int (nI (n)), .ref k2, .ref k3])), (k1, .inl (e1, 10, .inl (iA g1))), (k2, .inl (e2, 1024, .inr (.inl (lA g2)))), (k3, .inl (e3, 110, .inr (.inl (lA g3))))]) [0, 1, 2, 3] (by decide) rfl
        refine W.widen (k := cells) (n := slots) (Nat.le_refl _) (Nat.le_refl _) ?_
        subst hw1
        refine lv_ladd hx hb dX2_any_105 ?_
        refine w_l (lN_add (M) (mk_sm g1 n ss)) ?_
        refine va_last hx hb hK hP hD hS 2 1 rfl rfl (in_nI (n := ss) (by omega) (by omega)) dX2_any_106 (fun H locs hP hD hS => ?_)
        rw [lA_up (g := g2) (k := ss) (v := M + mk_sm g1 n ss) (by omega)] at hP hD
        have hP : va_P (dC, dI) vwCl [(k0, .inr (2, [.ref k1, .int (nI (n)), .ref k2, .ref k3])), (k1, .inl (e1, 10, .inl (iA g1))), (k2, .inl (e2, 1024, .inr (.inl (lA (nu g2 (ss) (M + mk_sm g1 n ss)))))), (k3, .inl (e3, 110, .inr (.inl (lA g3))))] H := hP
        have hD : va_D A [(k0, .inr (2, [.ref k1, .int (nI (n)), .ref k2, .ref k3])), (k1, .inl (e1, 10, .inl (iA g1))), (k2, .inl (e2, 1024, .inr (.inl (lA (nu g2 (ss) (M + mk_sm g1 n ss)))))), (k3, .inl (e3, 110, .inr (.inl (lA g3))))] := hD
        refine lv_iinc (v := nI (ss + 1)) (lv' := [(1, .int (nI (ss + 1))), (2, .long (lN (M))), (0, .ref k0)]) hx hb dX2_any_107 hl (k := 1) rfl (inc_1 (ss)) (by decide) rfl (fun ls hl => ?_)
        refine lv_goto (tgt := 2) hx hb dX2_any_110 (by decide) ?_
        exact ih (ss + 1) (nu g2 (ss) (M + mk_sm g1 n ss)) (by omega) (by omega) (by omega) hU2 _ _ ls hP hD hS (lv_sub hl [0, 2] rfl)
      · have c_17 : (ss) &&& (ss - 1) = 0 := ci_eq (a := (ss) &&& (ss - 1)) (b := 0) c_17 (by omega) (by omega)
        have hU2 := mk_U_one hU hs0 c_17
        refine lv_aload_n hx hb dX2_any_20 rfl (lv_at hl 1 rfl) ?_
        refine va_get (D := (dC, dI)) (ci := 2) (v := .ref k2) (C := RX2) (T := TX2) (N := 4) hx hb hts in_X2 hown hK hP 0 rfl rfl 2 (by decide) (hts _ q91) (fun _ h9 => h9) rfl dX2_any_21 ?_
        refine lv_iload_n hx hb dX2_any_24 rfl (lv_at hl 0 rfl) ?_
        refine lv_lconst (v := lN 0) hx hb dX2_any_25 rfl ?_
        refine va_last hx hb hK hP hD hS 2 1 rfl rfl (in_nI (n := ss) (by omega) (by omega)) dX2_any_26 (fun H locs hP hD hS => ?_)
        rw [lA_up (g := g2) (k := ss) (v := 0) (by omega)] at hP hD
        have hP : va_P (dC, dI) vwCl [(k0, .inr (2, [.ref k1, .int (nI (n)), .ref k2, .ref k3])), (k1, .inl (e1, 10, .inl (iA g1))), (k2, .inl (e2, 1024, .inr (.inl (lA (nu g2 (ss) (0)))))), (k3, .inl (e3, 110, .inr (.inl (lA g3))))] H := hP
        have hD : va_D A [(k0, .inr (2, [.ref k1, .int (nI (n)), .ref k2, .ref k3])), (k1, .inl (e1, 10, .inl (iA g1))), (k2, .inl (e2, 1024, .inr (.inl (lA (nu g2 (ss) (0)))))), (k3, .inl (e3, 110, .inr (.inl (lA g3))))] := hD
        refine lv_goto (tgt := 107) hx hb dX2_any_27 (by decide) ?_
        refine lv_iinc (v := nI (ss + 1)) (lv' := [(1, .int (nI (ss + 1))), (0, .ref k0)]) hx hb dX2_any_107 hl (k := 0) rfl (inc_1 (ss)) (by decide) rfl (fun ls hl => ?_)
        refine lv_goto (tgt := 2) hx hb dX2_any_110 (by decide) ?_
        exact ih (ss + 1) (nu g2 (ss) (0)) (by omega) (by omega) (by omega) hU2 _ _ ls hP hD hS (lv_sub hl [0, 1] rfl)
end ANY
set_option maxHeartbeats 4000000 in
set_option maxRecDepth 100000 in
theorem metX2_any (l : Launch) (dC : Nat → ClassId) (dI : Nat → Nat → Nat) (k0 k1 k2 k3 : Nat) (e1 e2 e3 : ClassId) (sz n : Nat) (g1 g2 g3 : Nat → Nat) (hn : n ≤ 8) (hw : ∀ i, i < n → g1 i < 65536) : Met l yX2_any (ws_ yX2_any cX2_any 7 (some .long)) ({ frames := 1, cells := 0, slots := 0, locals := 24 }) (va_Pc [.ref k0] (fun U => U.heap.size = sz ∧ va_P (dC, dI) vwCl [(k0, .inr (2, [.ref k1, .int (nI (n)), .ref k2, .ref k3])), (k1, .inl (e1, 10, .inl (iA g1))), (k2, .inl (e2, 1024, .inr (.inl (lA g2)))), (k3, .inl (e3, 110, .inr (.inl (lA g3))))] U.heap ∧ va_K (dC, dI) vwCl [(e1, .int), (e2, .long), (e3, .long)] U ∧ va_D (fun _ => True) [(k0, .inr (2, [.ref k1, .int (nI (n)), .ref k2, .ref k3])), (k1, .inl (e1, 10, .inl (iA g1))), (k2, .inl (e2, 1024, .inr (.inl (lA g2)))), (k3, .inl (e3, 110, .inr (.inl (lA g3))))])) (va_Ql (fun (r : Int64) (g' : Nat → Nat) => (n = 0 ∧ r = lN 0) ∨ (0 < n ∧ mk_U 2 n g1 g' (2 ^ n) ∧ r = lN (g' (2 ^ n - 1)))) (fun g' t => va_P (dC, dI) vwCl [(k0, .inr (2, [.ref k1, .int (nI (n)), .ref k2, .ref k3])), (k1, .inl (e1, 10, .inl (iA g1))), (k2, .inl (e2, 1024, .inr (.inl (lA g')))), (k3, .inl (e3, 110, .inr (.inl (lA g3))))] t.heap ∧ va_K (dC, dI) vwCl [(e1, .int), (e2, .long), (e3, .long)] t ∧ va_D (va_A [(k0, .inr (2, [.ref k1, .int (nI (n)), .ref k2, .ref k3])), (k1, .inl (e1, 10, .inl (iA g1))), (k2, .inl (e2, 1024, .inr (.inl (lA g2)))), (k3, .inl (e3, 110, .inr (.inl (lA g3))))] sz) [(k0, .inr (2, [.ref k1, .int (nI (n)), .ref k2, .ref k3])), (k1, .inl (e1, 10, .inl (iA g1))), (k2, .inl (e2, 1024, .inr (.inl (lA g')))), (k3, .inl (e3, 110, .inr (.inl (lA g3))))]) (va_A [(k0, .inr (2, [.ref k1, .int (nI (n)), .ref k2, .ref k3])), (k1, .inl (e1, 10, .inl (iA g1))), (k2, .inl (e2, 1024, .inr (.inl (lA g2)))), (k3, .inl (e3, 110, .inr (.inl (lA g3))))] sz)) 0 0 (va_A [(k0, .inr (2, [.ref k1, .int (nI (n)), .ref k2, .ref k3])), (k1, .inl (e1, 10, .inl (iA g1))), (k2, .inl (e2, 1024, .inr (.inl (lA g2)))), (k3, .inl (e3, 110, .inr (.inl (lA g3))))] sz) := by
  refine Met.ofW (cc := cX2_any) (maxL := 7) (ret := (some .long)) (by decide) rfl ?_
  intro p e s m args below meth c s₁ B hml hv
  obtain ⟨rfl, hsz, hP, hK, hD0⟩ := hv
  have hx := B.exec
  have hb := B.bytes
  have hr := B.returns
  have hts := atoms_spec (ws := ws_ yX2_any cX2_any 7 (some .long)) B.pre
  have hts : ∀ w ∈ lw_all, w.before _ s = true := fun w h => hts w (List.mem_cons_of_mem _ h)
  have hown : s.vm.findClass RX2 = some m.cls := findClass_of_methodNamed B.named
  have hlocks := B.notSynchronized
  subst hsz
  have hD := hD0.self (sz := s.heap.size)
  generalize hAe : va_A [(k0, .inr (2, [.ref k1, .int (nI (n)), .ref k2, .ref k3])), (k1, .inl (e1, 10, .inl (iA g1))), (k2, .inl (e2, 1024, .inr (.inl (lA g2)))), (k3, .inl (e3, 110, .inr (.inl (lA g3))))] s.heap.size = A at hD ⊢
  have hA : ∀ q : Nat, s.heap.size ≤ q → A q := fun q h => by rw [← hAe]; exact Or.inr h
  have hS : va_S A s.heap s.heap [] := va_S.rf
  have hP : va_P (dC, dI) vwCl [(k0, .inr (2, [.ref k1, .int (nI (n)), .ref k2, .ref k3])), (k1, .inl (e1, 10, .inl (iA g1))), (k2, .inl (e2, 1024, .inr (.inl (lA g2)))), (k3, .inl (e3, 110, .inr (.inl (lA g3))))] s.heap := hP
  have hl := lv_entry ([.ref k0]) (n := 7) (Nat.le_of_ble_eq_true rfl)
  rw [lg_entry_eq]
  generalize (lg_sl ([.ref k0]) ++ List.replicate (7 - (lg_sl ([.ref k0])).length) Slot.unset).toArray = ls at hl ⊢
  have hl : lv_has ls 7 [(0, .ref k0)] := hl
  have hn8 : 2 ^ n ≤ 256 := Nat.pow_le_pow_right (n := 2) (by omega) hn
  have hn1 : 0 < 2 ^ n := Nat.two_pow_pos n
  refine lv_iconst (v := nI 1) hx hb dX2_any_0 (by decide) ?_
  refine lv_istore_n (lv' := [(1, .int (nI (1))), (0, .ref k0)]) hx hb dX2_any_1 rfl hl (by decide) rfl (fun ls hl => ?_)
  refine lp_any_out hx hb hown hts hn hK hml hw hA ⟨Nat.le_of_ble_eq_true rfl, Nat.le_of_ble_eq_true rfl⟩ ⟨Nat.le_of_ble_eq_true rfl, Nat.le_of_ble_eq_true rfl⟩ (fun g' H locs ls hU hP hD hS hl => ?_) (2 ^ n) 1 g2 (by omega) (by omega) (by omega) (mk_U1 _ _ _ _) _ _ ls hP hD hS (lv_sub hl [0, 1] rfl)
  refine lv_aload_n hx hb dX2_any_113 rfl (lv_at hl 0 rfl) ?_
  refine va_get (D := (dC, dI)) (ci := 2) (v := .int (nI (n))) (C := RX2) (T := TX2) (N := 4) hx hb hts in_X2 hown hK hP 0 rfl rfl 1 (by decide) (hts _ q90) (fun _ h9 => h9) rfl dX2_any_114 ?_
  refine lv_if_ne (tgt := 124) hx hb dX2_any_117 (by decide) (fun c_117 => ?_) (fun c_117 => ?_)
  · have c_117 : n ≠ 0 := ci_ne (a := n) (b := 0) c_117 (by omega) (by omega)
    refine lv_aload_n hx hb dX2_any_124 rfl (lv_at hl 0 rfl) ?_
    refine va_get (D := (dC, dI)) (ci := 2) (v := .ref k2) (C := RX2) (T := TX2) (N := 4) hx hb hts in_X2 hown hK hP 0 rfl rfl 2 (by decide) (hts _ q91) (fun _ h9 => h9) rfl dX2_any_125 ?_
    refine lv_iconst (v := nI 1) hx hb dX2_any_128 (by decide) ?_
    refine lv_aload_n hx hb dX2_any_129 rfl (lv_at hl 0 rfl) ?_
    refine va_get (D := (dC, dI)) (ci := 2) (v := .int (nI (n))) (C := RX2) (T := TX2) (N := 4) hx hb hts in_X2 hown hK hP 0 rfl rfl 1 (by decide) (hts _ q90) (fun _ h9 => h9) rfl dX2_any_130 ?_
    refine lv_ishl hx hb dX2_any_133 ?_
    refine w_i (shl_1 (n := n) (by omega)) ?_
    refine lv_iconst (v := nI 1) hx hb dX2_any_134 (by decide) ?_
    refine lv_isub hx hb dX2_any_135 ?_
    refine w_i (pk_sub (a := 2 ^ n) (b := 1) (by omega)) ?_
    refine va_lald hx hb hK hP 2 1 rfl rfl (in_nI (n := (2 ^ n) - 1) (by omega) (by omega)) dX2_any_136 ?_
    refine w_l (lA_at (g := g') (k := (2 ^ n) - 1) (by omega)) ?_
    have hP9 := hP.sub (ws' := [(k0, .inr (2, [.ref k1, .int (nI (n)), .ref k2, .ref k3])), (k1, .inl (e1, 10, .inl (iA g1))), (k2, .inl (e2, 1024, .inr (.inl (lA g')))), (k3, .inl (e3, 110, .inr (.inl (lA g3))))]) [0, 1, 2, 3] rfl
    have hD9 := hD.sub (ws' := [(k0, .inr (2, [.ref k1, .int (nI (n)), .ref k2, .ref k3])), (k1, .inl (e1, 10, .inl (iA g1))), (k2, .inl (e2, 1024, .inr (.inl (lA g')))), (k3, .inl (e3, 110, .inr (.inl (lA g3))))]) [0, 1, 2, 3] (by decide) rfl
    have hK9 := hK.sub (tys' := [(e1, .int), (e2, .long), (e3, .long)]) [0, 1, 2] rfl
    exact W.lret (v := lN (g' ((2 ^ n) - 1))) hx hb hr (fun t ht hW => ⟨⟨lN (g' ((2 ^ n) - 1)), g', rfl, Or.inr ⟨by omega, hU, rfl⟩, by rw [ht]; exact hP9, va_K.moved hW.alike hK9, hD9⟩, hS.F ht⟩) hS.2.2 dX2_any_137
  · have c_117 : n = 0 := ci_eq (a := n) (b := 0) c_117 (by omega) (by omega)
    refine lv_lconst (v := lN 0) hx hb dX2_any_120 rfl ?_
    refine lv_goto (tgt := 137) hx hb dX2_any_121 (by decide) ?_
    have hP9 := hP.sub (ws' := [(k0, .inr (2, [.ref k1, .int (nI (n)), .ref k2, .ref k3])), (k1, .inl (e1, 10, .inl (iA g1))), (k2, .inl (e2, 1024, .inr (.inl (lA g')))), (k3, .inl (e3, 110, .inr (.inl (lA g3))))]) [0, 1, 2, 3] rfl
    have hD9 := hD.sub (ws' := [(k0, .inr (2, [.ref k1, .int (nI (n)), .ref k2, .ref k3])), (k1, .inl (e1, 10, .inl (iA g1))), (k2, .inl (e2, 1024, .inr (.inl (lA g')))), (k3, .inl (e3, 110, .inr (.inl (lA g3))))]) [0, 1, 2, 3] (by decide) rfl
    have hK9 := hK.sub (tys' := [(e1, .int), (e2, .long), (e3, .long)]) [0, 1, 2] rfl
    exact W.lret (v := lN (0)) hx hb hr (fun t ht hW => ⟨⟨lN (0), g', rfl, Or.inl ⟨by omega, rfl⟩, by rw [ht]; exact hP9, va_K.moved hW.alike hK9, hD9⟩, hS.F ht⟩) hS.2.2 dX2_any_137
end
section
section THREE
variable {p : Program} {l : Launch} {e : Env} {R : Room} {s : State} {m : MethodId} {args : Array Value} {below : List Frame} {meth : Method} {c : Code} {Q : State → Prop} {cells slots : Nat} {dC : Nat → ClassId} {dI : Nat → Nat → Nat} {A : Nat → Prop} {H0 : Heap}
set_option maxHeartbeats 4000000 in
set_option maxRecDepth 100000 in
theorem lp_three_t (hx : p.tables.exec = Jvm.exec) (hb : c.code = cX2_three) (hown : s.vm.findClass RX2 = some m.cls) (hts : ∀ w ∈ lw_all, w.before args s = true) {k0 k1 k2 k3 : Nat} {e1 e2 e3 : ClassId} {n : Nat} {g1 g3 : Nat → Nat} (hn : n ≤ 8) (hK : va_K (dC, dI) vwCl [(e1, .int), (e2, .long), (e3, .long)] s) {ss pp : Nat} {g2 : Nat → Nat} (hs0 : 0 < ss) (hs : ss < 256) (hp0 : 0 < pp) (hps : pp < ss) (hpp : pp &&& ss = pp) (hbd : ∀ i, 0 < i → i < ss → g2 i < 2 ^ 30) {H : Heap} {locs : List Loc} (hP : va_P (dC, dI) vwCl [(k0, .inr (2, [.ref k1, .int (nI (n)), .ref k2, .ref k3])), (k1, .inl (e1, 10, .inl (iA g1))), (k2, .inl (e2, 1024, .inr (.inl (lA g2)))), (k3, .inl (e3, 110, .inr (.inl (lA g3))))] H)
    (kk : ∀ (M : Nat) (ls : Array Slot), M < 2 ^ 62 → mk_seen4 g2 ss pp 0 M → lv_has ls 9 [(2, .long (lN (M))), (4, .int (nI (pp))), (1, .int (nI (ss))), (0, .ref k0)] → W p l e R s m args below meth c H locs cells slots Q (F0 m 153 ls [])) :
    ∀ (f tt M : Nat), tt < f → tt < ss - pp → tt &&& (ss - pp) = tt → M < 2 ^ 62 → mk_seen4 g2 ss pp tt M → ∀ (ls : Array Slot), lv_has ls 9 [(8, .int (nI (tt))), (2, .long (lN (M))), (5, .int (nI (ss - pp))), (4, .int (nI (pp))), (1, .int (nI (ss))), (0, .ref k0)] → W p l e R s m args below meth c H locs cells slots Q (F0 m 96 ls []) := by
  intro f
  induction f with
  | zero => intro tt M h; omega
  | succ f ih =>
    intro tt M htf hts0 htt hM hseen ls hl
    refine lv_iload hx hb dX2_three_96 (lv_at hl 0 rfl) ?_
    refine lv_if_le (tgt := 153) hx hb dX2_three_98 (by decide) (fun c_98 => ?_) (fun c_98 => ?_)
    · have c_98 : tt ≤ 0 := ci_le (a := tt) (b := 0) c_98 (by omega) (by omega)
      have h1 : tt = 0 := by omega
      rw [h1] at hseen
      exact kk M ls hM hseen (lv_sub hl [1, 3, 4, 5] rfl)
    · have c_98 : 0 < tt := ci_nle (a := tt) (b := 0) c_98 (by omega) (by omega)
      refine lv_aload_n hx hb dX2_three_101 rfl (lv_at hl 5 rfl) ?_
      refine va_get (D := (dC, dI)) (ci := 2) (v := .ref k2) (C := RX2) (T := TX2) (N := 4) hx hb hts in_X2 hown hK hP 0 rfl rfl 2 (by decide) (hts _ q91) (fun _ h9 => h9) rfl dX2_three_102 ?_
      refine lv_iload hx hb dX2_three_105 (lv_at hl 3 rfl) ?_
      refine va_lald hx hb hK hP 2 1 rfl rfl (in_nI (n := pp) (by omega) (by omega)) dX2_three_107 ?_
      refine w_l (lA_at (g := g2) (k := pp) (by omega)) ?_
      have b_107 : g2 pp < 2 ^ 30 := hbd _ (by omega) (by omega)
      refine lv_aload_n hx hb dX2_three_108 rfl (lv_at hl 5 rfl) ?_
      refine va_get (D := (dC, dI)) (ci := 2) (v := .ref k2) (C := RX2) (T := TX2) (N := 4) hx hb hts in_X2 hown hK hP 0 rfl rfl 2 (by decide) (hts _ q91) (fun _ h9 => h9) rfl dX2_three_109 ?_
      refine lv_iload hx hb dX2_three_112 (lv_at hl 0 rfl) ?_
      refine va_lald hx hb hK hP 2 1 rfl rfl (in_nI (n := tt) (by omega) (by omega)) dX2_three_114 ?_
      refine w_l (lA_at (g := g2) (k := tt) (by omega)) ?_
      have b_114 : g2 tt < 2 ^ 30 := hbd _ (by omega) (by omega)
      refine lv_ladd hx hb dX2_three_115 ?_
      refine w_l (lN_add (g2 pp) (g2 tt)) ?_
      refine lv_aload_n hx hb dX2_three_116 rfl (lv_at hl 5 rfl) ?_
      refine va_get (D := (dC, dI)) (ci := 2) (v := .ref k2) (C := RX2) (T := TX2) (N := 4) hx hb hts in_X2 hown hK hP 0 rfl rfl 2 (by decide) (hts _ q91) (fun _ h9 => h9) rfl dX2_three_117 ?_
      refine lv_iload hx hb dX2_three_120 (lv_at hl 2 rfl) ?_
      refine lv_iload hx hb dX2_three_122 (lv_at hl 0 rfl) ?_
      refine lv_iconst (v := (-1)) hx hb dX2_three_124 (by decide) ?_
      refine lv_ixor hx hb dX2_three_125 ?_
      refine lv_iand hx hb dX2_three_126 ?_
      refine w_i (nx_not (s := ss - pp) (p := tt) (by omega) (by assumption)) ?_
      refine va_lald hx hb hK hP 2 1 rfl rfl (in_nI (n := ss - pp - tt) (by omega) (by omega)) dX2_three_127 ?_
      refine w_l (lA_at (g := g2) (k := ss - pp - tt) (by omega)) ?_
      have b_127 : g2 (ss - pp - tt) < 2 ^ 30 := hbd _ (by omega) (by omega)
      refine lv_ladd hx hb dX2_three_128 ?_
      refine w_l (lN_add (g2 pp + g2 tt) (g2 (ss - pp - tt))) ?_
      refine lv_lstore (lv' := [(6, .long (lN (g2 pp + g2 tt + g2 (ss - pp - tt)))), (8, .int (nI (tt))), (2, .long (lN (M))), (5, .int (nI (ss - pp))), (4, .int (nI (pp))), (1, .int (nI (ss))), (0, .ref k0)]) hx hb dX2_three_129 hl (by decide) rfl (fun ls hl => ?_)
      refine lv_lload hx hb dX2_three_131 (lv_at hl 0 rfl) ?_
      refine lv_lload_n hx hb dX2_three_133 rfl (lv_at hl 2 rfl) ?_
      refine W.lcmp hx hb dX2_three_134 ?_
      refine lv_if_ge (tgt := 141) hx hb dX2_three_135 (by decide) (fun c_135 => ?_) (fun c_135 => ?_)
      · have c_135 : M ≤ g2 pp + g2 tt + g2 (ss - pp - tt) := cl_ge c_135 (by omega) (by omega)
        refine lv_iload hx hb dX2_three_141 (lv_at hl 1 rfl) ?_
        refine lv_iconst (v := nI 1) hx hb dX2_three_143 (by decide) ?_
        refine lv_isub hx hb dX2_three_144 ?_
        refine w_i (pk_sub (a := tt) (b := 1) (by omega)) ?_
        refine lv_iload hx hb dX2_three_145 (lv_at hl 3 rfl) ?_
        refine lv_iand hx hb dX2_three_147 ?_
        refine w_i (nx_and (tt - 1) (ss - pp)) ?_
        refine lv_istore (lv' := [(8, .int (nI ((tt - 1) &&& (ss - pp)))), (6, .long (lN (g2 pp + g2 tt + g2 (ss - pp - tt)))), (2, .long (lN (M))), (5, .int (nI (ss - pp))), (4, .int (nI (pp))), (1, .int (nI (ss))), (0, .ref k0)]) hx hb dX2_three_148 hl (by decide) rfl (fun ls hl => ?_)
        refine lv_goto (tgt := 96) hx hb dX2_three_150 (by decide) ?_
        have hle := mk_and_le (tt - 1) (ss - pp)
        exact ih ((tt - 1) &&& (ss - pp)) _ (by omega) (by omega) (mk_and_sub _ _) hM (mk_s4_stay htt hseen (by omega)) ls (lv_sub hl [0, 2, 3, 4, 5, 6] rfl)
      · have c_135 : g2 pp + g2 tt + g2 (ss - pp - tt) < M := cl_nge c_135 (by omega) (by omega)
        refine lv_lload hx hb dX2_three_138 (lv_at hl 0 rfl) ?_
        refine lv_lstore_n (lv' := [(2, .long (lN (g2 pp + g2 tt + g2 (ss - pp - tt)))), (6, .long (lN (g2 pp + g2 tt + g2 (ss - pp - tt)))), (8, .int (nI (tt))), (5, .int (nI (ss - pp))), (4, .int (nI (pp))), (1, .int (nI (ss))), (0, .ref k0)]) hx hb dX2_three_140 rfl hl (by decide) rfl (fun ls hl => ?_)
        refine lv_iload hx hb dX2_three_141 (lv_at hl 2 rfl) ?_
        refine lv_iconst (v := nI 1) hx hb dX2_three_143 (by decide) ?_
        refine lv_isub hx hb dX2_three_144 ?_
        refine w_i (pk_sub (a := tt) (b := 1) (by omega)) ?_
        refine lv_iload hx hb dX2_three_145 (lv_at hl 3 rfl) ?_
        refine lv_iand hx hb dX2_three_147 ?_
        refine w_i (nx_and (tt - 1) (ss - pp)) ?_
        refine lv_istore (lv' := [(8, .int (nI ((tt - 1) &&& (ss - pp)))), (2, .long (lN (g2 pp + g2 tt + g2 (ss - pp - tt)))), (6, .long (lN (g2 pp + g2 tt + g2 (ss - pp - tt)))), (5, .int (nI (ss - pp))), (4, .int (nI (pp))), (1, .int (nI (ss))), (0, .ref k0)]) hx hb dX2_three_148 hl (by decide) rfl (fun ls hl => ?_)
        refine lv_goto (tgt := 96) hx hb dX2_three_150 (by decide) ?_
        have hle := mk_and_le (tt - 1) (ss - pp)
        exact ih ((tt - 1) &&& (ss - pp)) _ (by omega) (by omega) (mk_and_sub _ _) (by omega) (mk_s4_less hpp hp0 hps htt (by omega) hts0 hseen (by omega)) ls (lv_sub hl [0, 1, 3, 4, 5, 6] rfl)
set_option maxHeartbeats 4000000 in
set_option maxRecDepth 100000 in
theorem lp_three_in (hx : p.tables.exec = Jvm.exec) (hb : c.code = cX2_three) (hown : s.vm.findClass RX2 = some m.cls) (hts : ∀ w ∈ lw_all, w.before args s = true) {k0 k1 k2 k3 : Nat} {e1 e2 e3 : ClassId} {n : Nat} {g1 g3 : Nat → Nat} (hn : n ≤ 8) (hK : va_K (dC, dI) vwCl [(e1, .int), (e2, .long), (e3, .long)] s) {ss : Nat} {g2 : Nat → Nat} (hs0 : 0 < ss) (hs : ss < 256) (hns : ss &&& (ss - 1) ≠ 0) (hU : mk_U 3 n g1 g2 ss) {H : Heap} {locs : List Loc} (hP : va_P (dC, dI) vwCl [(k0, .inr (2, [.ref k1, .int (nI (n)), .ref k2, .ref k3])), (k1, .inl (e1, 10, .inl (iA g1))), (k2, .inl (e2, 1024, .inr (.inl (lA g2)))), (k3, .inl (e3, 110, .inr (.inl (lA g3))))] H)
    (kk : ∀ (M : Nat) (ls : Array Slot), mk_seen3 g2 ss 0 M → lv_has ls 9 [(2, .long (lN (M))), (1, .int (nI (ss))), (0, .ref k0)] → W p l e R s m args below meth c H locs cells slots Q (F0 m 164 ls [])) :
    ∀ (f pp : Nat) (bb : Int64), pp < f → pp < ss → pp &&& ss = pp → ((bb = (-1) ∧ ∀ q, q &&& ss = q → q < ss → q ≤ pp) ∨ (∃ M, bb = lN M ∧ M < 2 ^ 62 ∧ mk_seen3 g2 ss pp M)) → ∀ (ls : Array Slot), lv_has ls 9 [(4, .int (nI (pp))), (2, .long (bb)), (1, .int (nI (ss))), (0, .ref k0)] → W p l e R s m args below meth c H locs cells slots Q (F0 m 41 ls []) := by
  intro f
  induction f with
  | zero => intro pp bb h; omega
  | succ f ih =>
    intro pp bb hpf hps hpp hB ls hl
    have hbd : ∀ i, 0 < i → i < ss → g2 i < 2 ^ 30 := fun i h0 h1 => by
      have h2 := hU.2.2.2.2 i h0 h1
      have h3 : i * 524288 ≤ 255 * 524288 := Nat.mul_le_mul_right _ (by omega)
      omega
    refine lv_iload hx hb dX2_three_41 (lv_at hl 0 rfl) ?_
    refine lv_if_le (tgt := 164) hx hb dX2_three_43 (by decide) (fun c_43 => ?_) (fun c_43 => ?_)
    · have c_43 : pp ≤ 0 := ci_le (a := pp) (b := 0) c_43 (by omega) (by omega)
      rcases hB with ⟨rfl, hall⟩ | ⟨M, rfl, hM, hseen⟩
      · have h1 := hall _ (mk_and_sub (ss - 1) ss) (by have := mk_and_le (ss - 1) ss; omega)
        have h2 : ss &&& (ss - 1) = (ss - 1) &&& ss := Nat.and_comm _ _
        exact absurd (h2.trans (by omega)) hns
      · have h1 : pp = 0 := by omega
        rw [h1] at hseen
        exact kk M ls hseen (lv_sub hl [1, 2, 3] rfl)
    · have c_43 : 0 < pp := ci_nle (a := pp) (b := 0) c_43 (by omega) (by omega)
      refine lv_iload_n hx hb dX2_three_46 rfl (lv_at hl 2 rfl) ?_
      refine lv_iload hx hb dX2_three_47 (lv_at hl 0 rfl) ?_
      refine lv_iconst (v := (-1)) hx hb dX2_three_49 (by decide) ?_
      refine lv_ixor hx hb dX2_three_50 ?_
      refine lv_iand hx hb dX2_three_51 ?_
      refine w_i (nx_not (s := ss) (p := pp) (by omega) (by assumption)) ?_
      refine lv_istore (lv' := [(5, .int (nI (ss - pp))), (4, .int (nI (pp))), (2, .long (bb)), (1, .int (nI (ss))), (0, .ref k0)]) hx hb dX2_three_52 hl (by decide) rfl (fun ls hl => ?_)
      refine lv_aload_n hx hb dX2_three_54 rfl (lv_at hl 4 rfl) ?_
      refine va_get (D := (dC, dI)) (ci := 2) (v := .ref k2) (C := RX2) (T := TX2) (N := 4) hx hb hts in_X2 hown hK hP 0 rfl rfl 2 (by decide) (hts _ q91) (fun _ h9 => h9) rfl dX2_three_55 ?_
      refine lv_iload hx hb dX2_three_58 (lv_at hl 1 rfl) ?_
      refine va_lald hx hb hK hP 2 1 rfl rfl (in_nI (n := pp) (by omega) (by omega)) dX2_three_60 ?_
      refine w_l (lA_at (g := g2) (k := pp) (by omega)) ?_
      have b_60 : g2 pp < 2 ^ 30 := hbd _ (by omega) (by omega)
      refine lv_aload_n hx hb dX2_three_61 rfl (lv_at hl 4 rfl) ?_
      refine va_get (D := (dC, dI)) (ci := 2) (v := .ref k2) (C := RX2) (T := TX2) (N := 4) hx hb hts in_X2 hown hK hP 0 rfl rfl 2 (by decide) (hts _ q91) (fun _ h9 => h9) rfl dX2_three_62 ?_
      refine lv_iload hx hb dX2_three_65 (lv_at hl 0 rfl) ?_
      refine va_lald hx hb hK hP 2 1 rfl rfl (in_nI (n := ss - pp) (by omega) (by omega)) dX2_three_67 ?_
      refine w_l (lA_at (g := g2) (k := ss - pp) (by omega)) ?_
      have b_67 : g2 (ss - pp) < 2 ^ 30 := hbd _ (by omega) (by omega)
      refine lv_ladd hx hb dX2_three_68 ?_
      refine w_l (lN_add (g2 pp) (g2 (ss - pp))) ?_
      refine lv_lstore (lv' := [(6, .long (lN (g2 pp + g2 (ss - pp)))), (5, .int (nI (ss - pp))), (4, .int (nI (pp))), (2, .long (bb)), (1, .int (nI (ss))), (0, .ref k0)]) hx hb dX2_three_69 hl (by decide) rfl (fun ls hl => ?_)
      rcases hB with ⟨rfl, hall⟩ | ⟨M, rfl, hM, hseen⟩
      · have hq1 : True := trivial
        refine lv_lload_n hx hb dX2_three_71 rfl (lv_at hl 3 rfl) ?_
        refine lv_lconst (v := lN 0) hx hb dX2_three_72 rfl ?_
        refine W.lcmp hx hb dX2_three_73 ?_
        refine lv_if_lt (tgt := 84) hx hb dX2_three_74 (by decide) (fun c_74 => ?_) (fun c_74 => ?_)
        · refine lv_lload hx hb dX2_three_84 (lv_at hl 0 rfl) ?_
          refine lv_lstore_n (lv' := [(2, .long (lN (g2 pp + g2 (ss - pp)))), (6, .long (lN (g2 pp + g2 (ss - pp)))), (5, .int (nI (ss - pp))), (4, .int (nI (pp))), (1, .int (nI (ss))), (0, .ref k0)]) hx hb dX2_three_86 rfl hl (by decide) rfl (fun ls hl => ?_)
          refine lv_iload hx hb dX2_three_87 (lv_at hl 2 rfl) ?_
          refine lv_iconst (v := nI 1) hx hb dX2_three_89 (by decide) ?_
          refine lv_isub hx hb dX2_three_90 ?_
          refine w_i (pk_sub (a := ss - pp) (b := 1) (by omega)) ?_
          refine lv_iload hx hb dX2_three_91 (lv_at hl 2 rfl) ?_
          refine lv_iand hx hb dX2_three_93 ?_
          refine w_i (nx_and ((ss - pp) - 1) (ss - pp)) ?_
          refine lv_istore (lv' := [(8, .int (nI (((ss - pp) - 1) &&& (ss - pp)))), (2, .long (lN (g2 pp + g2 (ss - pp)))), (6, .long (lN (g2 pp + g2 (ss - pp)))), (5, .int (nI (ss - pp))), (4, .int (nI (pp))), (1, .int (nI (ss))), (0, .ref k0)]) hx hb dX2_three_94 hl (by decide) rfl (fun ls hl => ?_)
          have hle := mk_and_le (pp - 1) ss
          have hle1 := mk_and_le (ss - pp - 1) (ss - pp)
          have hq2 : True := trivial
          refine lp_three_t hx hb hown hts hn hK hs0 hs (by omega) hps hpp hbd hP (fun M2 ls hM2 hseen2 hl => ?_) (ss - pp) (((ss - pp) - 1) &&& (ss - pp)) _ (by omega) (by omega) (mk_and_sub _ _) (by omega) (mk_s4_first hpp (by omega) hps hall) ls (lv_sub hl [0, 1, 3, 4, 5, 6] rfl)
          refine lv_iload hx hb dX2_three_153 (lv_at hl 1 rfl) ?_
          refine lv_iconst (v := nI 1) hx hb dX2_three_155 (by decide) ?_
          refine lv_isub hx hb dX2_three_156 ?_
          refine w_i (pk_sub (a := pp) (b := 1) (by omega)) ?_
          refine lv_iload_n hx hb dX2_three_157 rfl (lv_at hl 2 rfl) ?_
          refine lv_iand hx hb dX2_three_158 ?_
          refine w_i (nx_and (pp - 1) (ss)) ?_
          refine lv_istore (lv' := [(4, .int (nI ((pp - 1) &&& (ss)))), (2, .long (lN (M2))), (1, .int (nI (ss))), (0, .ref k0)]) hx hb dX2_three_159 hl (by decide) rfl (fun ls hl => ?_)
          refine lv_goto (tgt := 41) hx hb dX2_three_161 (by decide) ?_
          exact ih ((pp - 1) &&& (ss)) _ (by omega) (by omega) (mk_and_sub _ _) (Or.inr ⟨M2, rfl, hM2, mk_s4_end hpp hseen2⟩) ls (lv_sub hl [0, 1, 2, 3] rfl)
        · exact absurd cl_m1' c_74
      · have hq1 : True := trivial
        refine lv_lload_n hx hb dX2_three_71 rfl (lv_at hl 3 rfl) ?_
        refine lv_lconst (v := lN 0) hx hb dX2_three_72 rfl ?_
        refine W.lcmp hx hb dX2_three_73 ?_
        refine lv_if_lt (tgt := 84) hx hb dX2_three_74 (by decide) (fun c_74 => ?_) (fun c_74 => ?_)
        · have c_74 : M < 0 := cl_lt c_74 (by omega) (by omega)
          omega
        · have c_74 : 0 ≤ M := cl_nlt c_74 (by omega) (by omega)
          refine lv_lload hx hb dX2_three_77 (lv_at hl 0 rfl) ?_
          refine lv_lload_n hx hb dX2_three_79 rfl (lv_at hl 3 rfl) ?_
          refine W.lcmp hx hb dX2_three_80 ?_
          refine lv_if_ge (tgt := 87) hx hb dX2_three_81 (by decide) (fun c_81 => ?_) (fun c_81 => ?_)
          · have c_81 : M ≤ g2 pp + g2 (ss - pp) := cl_ge c_81 (by omega) (by omega)
            refine lv_iload hx hb dX2_three_87 (lv_at hl 1 rfl) ?_
            refine lv_iconst (v := nI 1) hx hb dX2_three_89 (by decide) ?_
            refine lv_isub hx hb dX2_three_90 ?_
            refine w_i (pk_sub (a := ss - pp) (b := 1) (by omega)) ?_
            refine lv_iload hx hb dX2_three_91 (lv_at hl 1 rfl) ?_
            refine lv_iand hx hb dX2_three_93 ?_
            refine w_i (nx_and ((ss - pp) - 1) (ss - pp)) ?_
            refine lv_istore (lv' := [(8, .int (nI (((ss - pp) - 1) &&& (ss - pp)))), (6, .long (lN (g2 pp + g2 (ss - pp)))), (5, .int (nI (ss - pp))), (4, .int (nI (pp))), (2, .long (lN (M))), (1, .int (nI (ss))), (0, .ref k0)]) hx hb dX2_three_94 hl (by decide) rfl (fun ls hl => ?_)
            have hle := mk_and_le (pp - 1) ss
            have hle1 := mk_and_le (ss - pp - 1) (ss - pp)
            have hq2 : True := trivial
            refine lp_three_t hx hb hown hts hn hK hs0 hs (by omega) hps hpp hbd hP (fun M2 ls hM2 hseen2 hl => ?_) (ss - pp) (((ss - pp) - 1) &&& (ss - pp)) _ (by omega) (by omega) (mk_and_sub _ _) hM (mk_s4_keep hseen (by omega)) ls (lv_sub hl [0, 4, 2, 3, 5, 6] rfl)
            refine lv_iload hx hb dX2_three_153 (lv_at hl 1 rfl) ?_
            refine lv_iconst (v := nI 1) hx hb dX2_three_155 (by decide) ?_
            refine lv_isub hx hb dX2_three_156 ?_
            refine w_i (pk_sub (a := pp) (b := 1) (by omega)) ?_
            refine lv_iload_n hx hb dX2_three_157 rfl (lv_at hl 2 rfl) ?_
            refine lv_iand hx hb dX2_three_158 ?_
            refine w_i (nx_and (pp - 1) (ss)) ?_
            refine lv_istore (lv' := [(4, .int (nI ((pp - 1) &&& (ss)))), (2, .long (lN (M2))), (1, .int (nI (ss))), (0, .ref k0)]) hx hb dX2_three_159 hl (by decide) rfl (fun ls hl => ?_)
            refine lv_goto (tgt := 41) hx hb dX2_three_161 (by decide) ?_
            exact ih ((pp - 1) &&& (ss)) _ (by omega) (by omega) (mk_and_sub _ _) (Or.inr ⟨M2, rfl, hM2, mk_s4_end hpp hseen2⟩) ls (lv_sub hl [0, 1, 2, 3] rfl)
          · have c_81 : g2 pp + g2 (ss - pp) < M := cl_nge c_81 (by omega) (by omega)
            refine lv_lload hx hb dX2_three_84 (lv_at hl 0 rfl) ?_
            refine lv_lstore_n (lv' := [(2, .long (lN (g2 pp + g2 (ss - pp)))), (6, .long (lN (g2 pp + g2 (ss - pp)))), (5, .int (nI (ss - pp))), (4, .int (nI (pp))), (1, .int (nI (ss))), (0, .ref k0)]) hx hb dX2_three_86 rfl hl (by decide) rfl (fun ls hl => ?_)
            refine lv_iload hx hb dX2_three_87 (lv_at hl 2 rfl) ?_
            refine lv_iconst (v := nI 1) hx hb dX2_three_89 (by decide) ?_
            refine lv_isub hx hb dX2_three_90 ?_
            refine w_i (pk_sub (a := ss - pp) (b := 1) (by omega)) ?_
            refine lv_iload hx hb dX2_three_91 (lv_at hl 2 rfl) ?_
            refine lv_iand hx hb dX2_three_93 ?_
            refine w_i (nx_and ((ss - pp) - 1) (ss - pp)) ?_
            refine lv_istore (lv' := [(8, .int (nI (((ss - pp) - 1) &&& (ss - pp)))), (2, .long (lN (g2 pp + g2 (ss - pp)))), (6, .long (lN (g2 pp + g2 (ss - pp)))), (5, .int (nI (ss - pp))), (4, .int (nI (pp))), (1, .int (nI (ss))), (0, .ref k0)]) hx hb dX2_three_94 hl (by decide) rfl (fun ls hl => ?_)
            have hle := mk_and_le (pp - 1) ss
            have hle1 := mk_and_le (ss - pp - 1) (ss - pp)
            have hq2 : True := trivial
            refine lp_three_t hx hb hown hts hn hK hs0 hs (by omega) hps hpp hbd hP (fun M2 ls hM2 hseen2 hl => ?_) (ss - pp) (((ss - pp) - 1) &&& (ss - pp)) _ (by omega) (by omega) (mk_and_sub _ _) (by omega) (mk_s4_new hpp (by omega) hps hseen (by omega)) ls (lv_sub hl [0, 1, 3, 4, 5, 6] rfl)
            refine lv_iload hx hb dX2_three_153 (lv_at hl 1 rfl) ?_
            refine lv_iconst (v := nI 1) hx hb dX2_three_155 (by decide) ?_
            refine lv_isub hx hb dX2_three_156 ?_
            refine w_i (pk_sub (a := pp) (b := 1) (by omega)) ?_
            refine lv_iload_n hx hb dX2_three_157 rfl (lv_at hl 2 rfl) ?_
            refine lv_iand hx hb dX2_three_158 ?_
            refine w_i (nx_and (pp - 1) (ss)) ?_
            refine lv_istore (lv' := [(4, .int (nI ((pp - 1) &&& (ss)))), (2, .long (lN (M2))), (1, .int (nI (ss))), (0, .ref k0)]) hx hb dX2_three_159 hl (by decide) rfl (fun ls hl => ?_)
            refine lv_goto (tgt := 41) hx hb dX2_three_161 (by decide) ?_
            exact ih ((pp - 1) &&& (ss)) _ (by omega) (by omega) (mk_and_sub _ _) (Or.inr ⟨M2, rfl, hM2, mk_s4_end hpp hseen2⟩) ls (lv_sub hl [0, 1, 2, 3] rfl)
set_option maxHeartbeats 4000000 in
set_option maxRecDepth 100000 in
theorem lp_three_out (hx : p.tables.exec = Jvm.exec) (hb : c.code = cX2_three) (hown : s.vm.findClass RX2 = some m.cls) (hts : ∀ w ∈ lw_all, w.before args s = true) {k0 k1 k2 k3 : Nat} {e1 e2 e3 : ClassId} {n : Nat} {g1 g3 : Nat → Nat} (hn : n ≤ 8) (hK : va_K (dC, dI) vwCl [(e1, .int), (e2, .long), (e3, .long)] s) (hml : c.maxLocals = 9) (hw : ∀ i, i < n → g1 i < 65536) (hA : ∀ q : Nat, H0.size ≤ q → A q) (hR : 0 + 1 ≤ R.frames ∧ 8 + (5 + 11) + 0 ≤ R.locals) (hRc : cells + 0 ≤ R.cells ∧ slots + 0 ≤ R.slots)
    (kk : ∀ (g2 : Nat → Nat) (H : Heap) (locs : List Loc) (ls : Array Slot), mk_U 3 n g1 g2 (2 ^ n) → va_P (dC, dI) vwCl [(k0, .inr (2, [.ref k1, .int (nI (n)), .ref k2, .ref k3])), (k1, .inl (e1, 10, .inl (iA g1))), (k2, .inl (e2, 1024, .inr (.inl (lA g2)))), (k3, .inl (e3, 110, .inr (.inl (lA g3))))] H → va_D A [(k0, .inr (2, [.ref k1, .int (nI (n)), .ref k2, .ref k3])), (k1, .inl (e1, 10, .inl (iA g1))), (k2, .inl (e2, 1024, .inr (.inl (lA g2)))), (k3, .inl (e3, 110, .inr (.inl (lA g3))))] → va_S A H0 H locs → lv_has ls 9 [(0, .ref k0)] → W p l e R s m args below meth c H locs cells slots Q (F0 m 183 ls [])) :
    ∀ (f ss : Nat) (g2 : Nat → Nat), 2 ^ n < ss + f → 0 < ss → ss ≤ 2 ^ n → mk_U 3 n g1 g2 ss → ∀ (H : Heap) (locs : List Loc) (ls : Array Slot), va_P (dC, dI) vwCl [(k0, .inr (2, [.ref k1, .int (nI (n)), .ref k2, .ref k3])), (k1, .inl (e1, 10, .inl (iA g1))), (k2, .inl (e2, 1024, .inr (.inl (lA g2)))), (k3, .inl (e3, 110, .inr (.inl (lA g3))))] H → va_D A [(k0, .inr (2, [.ref k1, .int (nI (n)), .ref k2, .ref k3])), (k1, .inl (e1, 10, .inl (iA g1))), (k2, .inl (e2, 1024, .inr (.inl (lA g2)))), (k3, .inl (e3, 110, .inr (.inl (lA g3))))] → va_S A H0 H locs → lv_has ls 9 [(1, .int (nI (ss))), (0, .ref k0)] → W p l e R s m args below meth c H locs cells slots Q (F0 m 2 ls []) := by
  have hn8 : 2 ^ n ≤ 256 := Nat.pow_le_pow_right (n := 2) (by omega) hn
  intro f
  induction f with
  | zero => intro ss g2 h h1 h2; omega
  | succ f ih =>
    intro ss g2 hf hs0 hsn hU H locs ls hP hD hS hl
    refine lv_iload_n hx hb dX2_three_2 rfl (lv_at hl 0 rfl) ?_
    refine lv_iconst (v := nI 1) hx hb dX2_three_3 (by decide) ?_
    refine lv_aload_n hx hb dX2_three_4 rfl (lv_at hl 1 rfl) ?_
    refine va_get (D := (dC, dI)) (ci := 2) (v := .int (nI (n))) (C := RX2) (T := TX2) (N := 4) hx hb hts in_X2 hown hK hP 0 rfl rfl 1 (by decide) (hts _ q90) (fun _ h9 => h9) rfl dX2_three_5 ?_
    refine lv_ishl hx hb dX2_three_8 ?_
    refine w_i (shl_1 (n := n) (by omega)) ?_
    refine lv_icmp_ge (tgt := 183) hx hb dX2_three_9 (by decide) (fun c_9 => ?_) (fun c_9 => ?_)
    · have c_9 : 2 ^ n ≤ ss := ci_le c_9 (by omega) (by omega)
      have e : ss = 2 ^ n := by omega
      rw [e] at hU
      exact kk g2 _ _ ls hU hP hD hS (lv_sub hl [1] rfl)
    · have c_9 : ss < 2 ^ n := ci_nle c_9 (by omega) (by omega)
      refine lv_iload_n hx hb dX2_three_12 rfl (lv_at hl 0 rfl) ?_
      refine lv_iload_n hx hb dX2_three_13 rfl (lv_at hl 0 rfl) ?_
      refine lv_iconst (v := nI 1) hx hb dX2_three_14 (by decide) ?_
      refine lv_isub hx hb dX2_three_15 ?_
      refine w_i (pk_sub (a := ss) (b := 1) (by omega)) ?_
      refine lv_iand hx hb dX2_three_16 ?_
      refine w_i (nx_and (ss) (ss - 1)) ?_
      have hle := Nat.and_le_left (n := ss) (m := ss - 1)
      refine lv_if_ne (tgt := 30) hx hb dX2_three_17 (by decide) (fun c_17 => ?_) (fun c_17 => ?_)
      · have c_17 : (ss) &&& (ss - 1) ≠ 0 := ci_ne (a := (ss) &&& (ss - 1)) (b := 0) c_17 (by omega) (by omega)
        refine lv_ldc2 hx hb hown (hts _ q115) dX2_three_30 ?_
        refine lv_lstore_n (lv' := [(2, .long ((-1))), (1, .int (nI (ss))), (0, .ref k0)]) hx hb dX2_three_33 rfl hl (by decide) rfl (fun ls hl => ?_)
        refine lv_iload_n hx hb dX2_three_34 rfl (lv_at hl 1 rfl) ?_
        refine lv_iconst (v := nI 1) hx hb dX2_three_35 (by decide) ?_
        refine lv_isub hx hb dX2_three_36 ?_
        refine w_i (pk_sub (a := ss) (b := 1) (by omega)) ?_
        refine lv_iload_n hx hb dX2_three_37 rfl (lv_at hl 1 rfl) ?_
        refine lv_iand hx hb dX2_three_38 ?_
        refine w_i (nx_and (ss - 1) (ss)) ?_
        refine lv_istore (lv' := [(4, .int (nI ((ss - 1) &&& (ss)))), (2, .long ((-1))), (1, .int (nI (ss))), (0, .ref k0)]) hx hb dX2_three_39 hl (by decide) rfl (fun ls hl => ?_)
        have hle1 := mk_and_le (ss - 1) ss
        refine lp_three_in hx hb hown hts hn hK hs0 (by omega) c_17 hU hP (fun M ls hseen hl => ?_) ss ((ss - 1) &&& ss) _ (by omega) (by omega) (mk_and_sub _ _) (Or.inl ⟨rfl, fun q h1 h2 => mk_next ss ss q (Nat.and_self ss) h1 h2⟩) ls (lv_sub hl [0, 1, 2, 3] rfl)
        have hU2 := mk_three_end (mk_sm_le hn hw ss) hU hs0 c_17 hseen
        refine lv_aload_n hx hb dX2_three_164 rfl (lv_at hl 2 rfl) ?_
        refine va_get (D := (dC, dI)) (ci := 2) (v := .ref k2) (C := RX2) (T := TX2) (N := 4) hx hb hts in_X2 hown hK hP 0 rfl rfl 2 (by decide) (hts _ q91) (fun _ h9 => h9) rfl dX2_three_165 ?_
        refine lv_iload_n hx hb dX2_three_168 rfl (lv_at hl 1 rfl) ?_
        refine lv_lload_n hx hb dX2_three_169 rfl (lv_at hl 0 rfl) ?_
        refine lv_aload_n hx hb dX2_three_170 rfl (lv_at hl 2 rfl) ?_
        refine lv_iload_n hx hb dX2_three_171 rfl (lv_at hl 1 rfl) ?_
        have hPc := hP.sub (ws' := [(k0, .inr (2, [.ref k1, .int (nI (n)), .ref k2, .ref k3])), (k1, .inl (e1, 10, .inl (iA g1))), (k2, .inl (e2, 1024, .inr (.inl (lA g2)))), (k3, .inl (e3, 110, .inr (.inl (lA g3))))]) [0, 1, 2, 3] rfl
        have hDc := hD.sub (ws' := [(k0, .inr (2, [.ref k1, .int (nI (n)), .ref k2, .ref k3])), (k1, .inl (e1, 10, .inl (iA g1))), (k2, .inl (e2, 1024, .inr (.inl (lA g2)))), (k3, .inl (e3, 110, .inr (.inl (lA g3))))]) [0, 1, 2, 3] (by decide) rfl
        have hKc := hK.sub (tys' := [(e1, .int), (e2, .long), (e3, .long)]) [0, 1, 2] rfl
        have hFc := va_free (wc := [(k0, .inr (2, [.ref k1, .int (nI (n)), .ref k2, .ref k3])), (k1, .inl (e1, 10, .inl (iA g1))), (k2, .inl (e2, 1024, .inr (.inl (lA g2)))), (k3, .inl (e3, 110, .inr (.inl (lA g3))))]) hD hS hA [0, 1, 2, 3] rfl
        refine va_calll (va_runV (As := [.int (nI (ss))]) (rest := [.long (lN (M)), .int (nI (ss)), .ref k2]) ⟨hx, hb, hml, hown, hts⟩ (metX2_sum l dC dI k0 k1 k2 k3 e1 e2 e3 H.size n g1 g2 g3 ss hn (by omega) hw) (cwV 1 hts (lw_V q116 q118 qs1 q5 q119) rfl rfl rfl (by decide +kernel) hR) ⟨fun a U g mk q => by obtain ⟨q0, q1, qP, qK, qD⟩ := q; exact ⟨q0, q1, qP, va_K.moved (u := U) (U := U.calling g mk a) (Vm.Alike.refl U.vm) qK, qD⟩, va_recv hKc hPc (ci := 2) (q0 := 0) rfl rfl, fun U hU hW => ⟨rfl, by rw [hU], by rw [hU]; exact hPc, va_K.moved hW.alike hKc, hDc.weaken (fun _ _ _ _ => trivial)⟩⟩ rfl rfl hl.1 rfl (lv_room (Nat.le_of_ble_eq_true rfl)) dX2_three_172 hRc) hS (fun q _ h => hFc q h) hFc (fun r1 u1 t H1 locs ht hvm hw1 hB1 hz1 hk1 hS => ?_)
        obtain ⟨hP1, hK1, hD1⟩ := hB1
        rw [ht] at hP1
        have hK1 := va_K.moved hvm.symm hK1
        obtain ⟨hP, hD⟩ := va_join (wr := []) (w1 := [(k0, .inr (2, [.ref k1, .int (nI (n)), .ref k2, .ref k3])), (k1, .inl (e1, 10, .inl (iA g1))), (k2, .inl (e2, 1024, .inr (.inl (lA g2)))), (k3, .inl (e3, 110, .inr (.inl (lA g3))))]) hP hD [0, 1, 2, 3] [] rfl rfl (by decide) (by decide) hk1 hFc hP1 hD1
        generalize H1 = H at hP hS ⊢
        have hP := hP.sub (ws' := [(k0, .inr (2, [.ref k1, .int (nI (n)), .ref k2, .ref k3])), (k1, .inl (e1, 10, .inl (iA g1))), (k2, .inl (e2, 1024, .inr (.inl (lA g2)))), (k3, .inl (e3, 110, .inr (.inl (lA g3))))]) [0, 1, 2, 3] rfl
        have hD := hD.sub (ws' := [(k0, .inr (2, [.ref k1, .int (nI (n)), .ref k2, .ref k3])), (k1, .inl (e1, 10, .inl (iA g1))), (k2, .inl (e2, 1024, .inr (.inl (lA g2)))), (k3, .inl (e3, 110, .inr (.inl (lA g3))))]) [0, 1, 2, 3] (by decide) rfl
        refine W.widen (k := cells) (n := slots) (Nat.le_refl _) (Nat.le_refl _) ?_
        subst hw1
        refine lv_ladd hx hb dX2_three_175 ?_
        refine w_l (lN_add (M) (mk_sm g1 n ss)) ?_
        refine va_last hx hb hK hP hD hS 2 1 rfl rfl (in_nI (n := ss) (by omega) (by omega)) dX2_three_176 (fun H locs hP hD hS => ?_)
        rw [lA_up (g := g2) (k := ss) (v := M + mk_sm g1 n ss) (by omega)] at hP hD
        have hP : va_P (dC, dI) vwCl [(k0, .inr (2, [.ref k1, .int (nI (n)), .ref k2, .ref k3])), (k1, .inl (e1, 10, .inl (iA g1))), (k2, .inl (e2, 1024, .inr (.inl (lA (nu g2 (ss) (M + mk_sm g1 n ss)))))), (k3, .inl (e3, 110, .inr (.inl (lA g3))))] H := hP
        have hD : va_D A [(k0, .inr (2, [.ref k1, .int (nI (n)), .ref k2, .ref k3])), (k1, .inl (e1, 10, .inl (iA g1))), (k2, .inl (e2, 1024, .inr (.inl (lA (nu g2 (ss) (M + mk_sm g1 n ss)))))), (k3, .inl (e3, 110, .inr (.inl (lA g3))))] := hD
        refine lv_iinc (v := nI (ss + 1)) (lv' := [(1, .int (nI (ss + 1))), (2, .long (lN (M))), (0, .ref k0)]) hx hb dX2_three_177 hl (k := 1) rfl (inc_1 (ss)) (by decide) rfl (fun ls hl => ?_)
        refine lv_goto (tgt := 2) hx hb dX2_three_180 (by decide) ?_
        exact ih (ss + 1) (nu g2 (ss) (M + mk_sm g1 n ss)) (by omega) (by omega) (by omega) hU2 _ _ ls hP hD hS (lv_sub hl [0, 2] rfl)
      · have c_17 : (ss) &&& (ss - 1) = 0 := ci_eq (a := (ss) &&& (ss - 1)) (b := 0) c_17 (by omega) (by omega)
        have hU2 := mk_U_one hU hs0 c_17
        refine lv_aload_n hx hb dX2_three_20 rfl (lv_at hl 1 rfl) ?_
        refine va_get (D := (dC, dI)) (ci := 2) (v := .ref k2) (C := RX2) (T := TX2) (N := 4) hx hb hts in_X2 hown hK hP 0 rfl rfl 2 (by decide) (hts _ q91) (fun _ h9 => h9) rfl dX2_three_21 ?_
        refine lv_iload_n hx hb dX2_three_24 rfl (lv_at hl 0 rfl) ?_
        refine lv_lconst (v := lN 0) hx hb dX2_three_25 rfl ?_
        refine va_last hx hb hK hP hD hS 2 1 rfl rfl (in_nI (n := ss) (by omega) (by omega)) dX2_three_26 (fun H locs hP hD hS => ?_)
        rw [lA_up (g := g2) (k := ss) (v := 0) (by omega)] at hP hD
        have hP : va_P (dC, dI) vwCl [(k0, .inr (2, [.ref k1, .int (nI (n)), .ref k2, .ref k3])), (k1, .inl (e1, 10, .inl (iA g1))), (k2, .inl (e2, 1024, .inr (.inl (lA (nu g2 (ss) (0)))))), (k3, .inl (e3, 110, .inr (.inl (lA g3))))] H := hP
        have hD : va_D A [(k0, .inr (2, [.ref k1, .int (nI (n)), .ref k2, .ref k3])), (k1, .inl (e1, 10, .inl (iA g1))), (k2, .inl (e2, 1024, .inr (.inl (lA (nu g2 (ss) (0)))))), (k3, .inl (e3, 110, .inr (.inl (lA g3))))] := hD
        refine lv_goto (tgt := 177) hx hb dX2_three_27 (by decide) ?_
        refine lv_iinc (v := nI (ss + 1)) (lv' := [(1, .int (nI (ss + 1))), (0, .ref k0)]) hx hb dX2_three_177 hl (k := 0) rfl (inc_1 (ss)) (by decide) rfl (fun ls hl => ?_)
        refine lv_goto (tgt := 2) hx hb dX2_three_180 (by decide) ?_
        exact ih (ss + 1) (nu g2 (ss) (0)) (by omega) (by omega) (by omega) hU2 _ _ ls hP hD hS (lv_sub hl [0, 1] rfl)
end THREE
set_option maxHeartbeats 4000000 in
set_option maxRecDepth 100000 in
theorem metX2_three (l : Launch) (dC : Nat → ClassId) (dI : Nat → Nat → Nat) (k0 k1 k2 k3 : Nat) (e1 e2 e3 : ClassId) (sz n : Nat) (g1 g2 g3 : Nat → Nat) (hn : n ≤ 8) (hw : ∀ i, i < n → g1 i < 65536) : Met l yX2_three (ws_ yX2_three cX2_three 9 (some .long)) ({ frames := 1, cells := 0, slots := 0, locals := 24 }) (va_Pc [.ref k0] (fun U => U.heap.size = sz ∧ va_P (dC, dI) vwCl [(k0, .inr (2, [.ref k1, .int (nI (n)), .ref k2, .ref k3])), (k1, .inl (e1, 10, .inl (iA g1))), (k2, .inl (e2, 1024, .inr (.inl (lA g2)))), (k3, .inl (e3, 110, .inr (.inl (lA g3))))] U.heap ∧ va_K (dC, dI) vwCl [(e1, .int), (e2, .long), (e3, .long)] U ∧ va_D (fun _ => True) [(k0, .inr (2, [.ref k1, .int (nI (n)), .ref k2, .ref k3])), (k1, .inl (e1, 10, .inl (iA g1))), (k2, .inl (e2, 1024, .inr (.inl (lA g2)))), (k3, .inl (e3, 110, .inr (.inl (lA g3))))])) (va_Ql (fun (r : Int64) (g' : Nat → Nat) => (n = 0 ∧ r = lN 0) ∨ (0 < n ∧ mk_U 3 n g1 g' (2 ^ n) ∧ r = lN (g' (2 ^ n - 1)))) (fun g' t => va_P (dC, dI) vwCl [(k0, .inr (2, [.ref k1, .int (nI (n)), .ref k2, .ref k3])), (k1, .inl (e1, 10, .inl (iA g1))), (k2, .inl (e2, 1024, .inr (.inl (lA g')))), (k3, .inl (e3, 110, .inr (.inl (lA g3))))] t.heap ∧ va_K (dC, dI) vwCl [(e1, .int), (e2, .long), (e3, .long)] t ∧ va_D (va_A [(k0, .inr (2, [.ref k1, .int (nI (n)), .ref k2, .ref k3])), (k1, .inl (e1, 10, .inl (iA g1))), (k2, .inl (e2, 1024, .inr (.inl (lA g2)))), (k3, .inl (e3, 110, .inr (.inl (lA g3))))] sz) [(k0, .inr (2, [.ref k1, .int (nI (n)), .ref k2, .ref k3])), (k1, .inl (e1, 10, .inl (iA g1))), (k2, .inl (e2, 1024, .inr (.inl (lA g')))), (k3, .inl (e3, 110, .inr (.inl (lA g3))))]) (va_A [(k0, .inr (2, [.ref k1, .int (nI (n)), .ref k2, .ref k3])), (k1, .inl (e1, 10, .inl (iA g1))), (k2, .inl (e2, 1024, .inr (.inl (lA g2)))), (k3, .inl (e3, 110, .inr (.inl (lA g3))))] sz)) 0 0 (va_A [(k0, .inr (2, [.ref k1, .int (nI (n)), .ref k2, .ref k3])), (k1, .inl (e1, 10, .inl (iA g1))), (k2, .inl (e2, 1024, .inr (.inl (lA g2)))), (k3, .inl (e3, 110, .inr (.inl (lA g3))))] sz) := by
  refine Met.ofW (cc := cX2_three) (maxL := 9) (ret := (some .long)) (by decide) rfl ?_
  intro p e s m args below meth c s₁ B hml hv
  obtain ⟨rfl, hsz, hP, hK, hD0⟩ := hv
  have hx := B.exec
  have hb := B.bytes
  have hr := B.returns
  have hts := atoms_spec (ws := ws_ yX2_three cX2_three 9 (some .long)) B.pre
  have hts : ∀ w ∈ lw_all, w.before _ s = true := fun w h => hts w (List.mem_cons_of_mem _ h)
  have hown : s.vm.findClass RX2 = some m.cls := findClass_of_methodNamed B.named
  have hlocks := B.notSynchronized
  subst hsz
  have hD := hD0.self (sz := s.heap.size)
  generalize hAe : va_A [(k0, .inr (2, [.ref k1, .int (nI (n)), .ref k2, .ref k3])), (k1, .inl (e1, 10, .inl (iA g1))), (k2, .inl (e2, 1024, .inr (.inl (lA g2)))), (k3, .inl (e3, 110, .inr (.inl (lA g3))))] s.heap.size = A at hD ⊢
  have hA : ∀ q : Nat, s.heap.size ≤ q → A q := fun q h => by rw [← hAe]; exact Or.inr h
  have hS : va_S A s.heap s.heap [] := va_S.rf
  have hP : va_P (dC, dI) vwCl [(k0, .inr (2, [.ref k1, .int (nI (n)), .ref k2, .ref k3])), (k1, .inl (e1, 10, .inl (iA g1))), (k2, .inl (e2, 1024, .inr (.inl (lA g2)))), (k3, .inl (e3, 110, .inr (.inl (lA g3))))] s.heap := hP
  have hl := lv_entry ([.ref k0]) (n := 9) (Nat.le_of_ble_eq_true rfl)
  rw [lg_entry_eq]
  generalize (lg_sl ([.ref k0]) ++ List.replicate (9 - (lg_sl ([.ref k0])).length) Slot.unset).toArray = ls at hl ⊢
  have hl : lv_has ls 9 [(0, .ref k0)] := hl
  have hn8 : 2 ^ n ≤ 256 := Nat.pow_le_pow_right (n := 2) (by omega) hn
  have hn1 : 0 < 2 ^ n := Nat.two_pow_pos n
  refine lv_iconst (v := nI 1) hx hb dX2_three_0 (by decide) ?_
  refine lv_istore_n (lv' := [(1, .int (nI (1))), (0, .ref k0)]) hx hb dX2_three_1 rfl hl (by decide) rfl (fun ls hl => ?_)
  refine lp_three_out hx hb hown hts hn hK hml hw hA ⟨Nat.le_of_ble_eq_true rfl, Nat.le_of_ble_eq_true rfl⟩ ⟨Nat.le_of_ble_eq_true rfl, Nat.le_of_ble_eq_true rfl⟩ (fun g' H locs ls hU hP hD hS hl => ?_) (2 ^ n) 1 g2 (by omega) (by omega) (by omega) (mk_U1 _ _ _ _) _ _ ls hP hD hS (lv_sub hl [0, 1] rfl)
  refine lv_aload_n hx hb dX2_three_183 rfl (lv_at hl 0 rfl) ?_
  refine va_get (D := (dC, dI)) (ci := 2) (v := .int (nI (n))) (C := RX2) (T := TX2) (N := 4) hx hb hts in_X2 hown hK hP 0 rfl rfl 1 (by decide) (hts _ q90) (fun _ h9 => h9) rfl dX2_three_184 ?_
  refine lv_if_ne (tgt := 194) hx hb dX2_three_187 (by decide) (fun c_187 => ?_) (fun c_187 => ?_)
  · have c_187 : n ≠ 0 := ci_ne (a := n) (b := 0) c_187 (by omega) (by omega)
    refine lv_aload_n hx hb dX2_three_194 rfl (lv_at hl 0 rfl) ?_
    refine va_get (D := (dC, dI)) (ci := 2) (v := .ref k2) (C := RX2) (T := TX2) (N := 4) hx hb hts in_X2 hown hK hP 0 rfl rfl 2 (by decide) (hts _ q91) (fun _ h9 => h9) rfl dX2_three_195 ?_
    refine lv_iconst (v := nI 1) hx hb dX2_three_198 (by decide) ?_
    refine lv_aload_n hx hb dX2_three_199 rfl (lv_at hl 0 rfl) ?_
    refine va_get (D := (dC, dI)) (ci := 2) (v := .int (nI (n))) (C := RX2) (T := TX2) (N := 4) hx hb hts in_X2 hown hK hP 0 rfl rfl 1 (by decide) (hts _ q90) (fun _ h9 => h9) rfl dX2_three_200 ?_
    refine lv_ishl hx hb dX2_three_203 ?_
    refine w_i (shl_1 (n := n) (by omega)) ?_
    refine lv_iconst (v := nI 1) hx hb dX2_three_204 (by decide) ?_
    refine lv_isub hx hb dX2_three_205 ?_
    refine w_i (pk_sub (a := 2 ^ n) (b := 1) (by omega)) ?_
    refine va_lald hx hb hK hP 2 1 rfl rfl (in_nI (n := (2 ^ n) - 1) (by omega) (by omega)) dX2_three_206 ?_
    refine w_l (lA_at (g := g') (k := (2 ^ n) - 1) (by omega)) ?_
    have hP9 := hP.sub (ws' := [(k0, .inr (2, [.ref k1, .int (nI (n)), .ref k2, .ref k3])), (k1, .inl (e1, 10, .inl (iA g1))), (k2, .inl (e2, 1024, .inr (.inl (lA g')))), (k3, .inl (e3, 110, .inr (.inl (lA g3))))]) [0, 1, 2, 3] rfl
    have hD9 := hD.sub (ws' := [(k0, .inr (2, [.ref k1, .int (nI (n)), .ref k2, .ref k3])), (k1, .inl (e1, 10, .inl (iA g1))), (k2, .inl (e2, 1024, .inr (.inl (lA g')))), (k3, .inl (e3, 110, .inr (.inl (lA g3))))]) [0, 1, 2, 3] (by decide) rfl
    have hK9 := hK.sub (tys' := [(e1, .int), (e2, .long), (e3, .long)]) [0, 1, 2] rfl
    exact W.lret (v := lN (g' ((2 ^ n) - 1))) hx hb hr (fun t ht hW => ⟨⟨lN (g' ((2 ^ n) - 1)), g', rfl, Or.inr ⟨by omega, hU, rfl⟩, by rw [ht]; exact hP9, va_K.moved hW.alike hK9, hD9⟩, hS.F ht⟩) hS.2.2 dX2_three_207
  · have c_187 : n = 0 := ci_eq (a := n) (b := 0) c_187 (by omega) (by omega)
    refine lv_lconst (v := lN 0) hx hb dX2_three_190 rfl ?_
    refine lv_goto (tgt := 207) hx hb dX2_three_191 (by decide) ?_
    have hP9 := hP.sub (ws' := [(k0, .inr (2, [.ref k1, .int (nI (n)), .ref k2, .ref k3])), (k1, .inl (e1, 10, .inl (iA g1))), (k2, .inl (e2, 1024, .inr (.inl (lA g')))), (k3, .inl (e3, 110, .inr (.inl (lA g3))))]) [0, 1, 2, 3] rfl
    have hD9 := hD.sub (ws' := [(k0, .inr (2, [.ref k1, .int (nI (n)), .ref k2, .ref k3])), (k1, .inl (e1, 10, .inl (iA g1))), (k2, .inl (e2, 1024, .inr (.inl (lA g')))), (k3, .inl (e3, 110, .inr (.inl (lA g3))))]) [0, 1, 2, 3] (by decide) rfl
    have hK9 := hK.sub (tys' := [(e1, .int), (e2, .long), (e3, .long)]) [0, 1, 2] rfl
    exact W.lret (v := lN (0)) hx hb hr (fun t ht hW => ⟨⟨lN (0), g', rfl, Or.inl ⟨by omega, rfl⟩, by rw [ht]; exact hP9, va_K.moved hW.alike hK9, hD9⟩, hS.F ht⟩) hS.2.2 dX2_three_207
end
section
section MBESIDE
variable {p : Program} {l : Launch} {e : Env} {R : Room} {s : State} {m : MethodId} {args : Array Value} {below : List Frame} {meth : Method} {c : Code} {Q : State → Prop} {cells slots : Nat} {dC : Nat → ClassId} {dI : Nat → Nat → Nat} {A : Nat → Prop} {H0 : Heap}
set_option maxHeartbeats 4000000 in
set_option maxRecDepth 100000 in
theorem lp_mb_C (hx : p.tables.exec = Jvm.exec) (hb : c.code = cX2_beside) (hown : s.vm.findClass RX2 = some m.cls) (hts : ∀ w ∈ lw_all, w.before args s = true) {k0 k1 k2 k3 : Nat} {e1 e2 e3 : ClassId} {n : Nat} {g1 g2 : Nat → Nat} (hn : n ≤ 8) (hw : ∀ i, i < n → g1 i < 65536) (hK : va_K (dC, dI) vwCl [(e1, .int), (e2, .long), (e3, .long)] s) {g3 : Nat → Nat} {ii dd : Nat} (hid : ii + dd ≤ n) {H : Heap} {locs : List Loc} (hP : va_P (dC, dI) vwCl [(k0, .inr (2, [.ref k1, .int (nI (n)), .ref k2, .ref k3])), (k1, .inl (e1, 10, .inl (iA g1))), (k2, .inl (e2, 1024, .inr (.inl (lA g2)))), (k3, .inl (e3, 110, .inr (.inl (lA g3))))] H)
    (kk : ∀ (ls : Array Slot), lv_has ls 10 [(3, .long (lN ((sg g1 ii dd).sum))), (5, .long ((-1))), (2, .int (nI (ii))), (1, .int (nI (dd))), (0, .ref k0)] → W p l e R s m args below meth c H locs cells slots Q (F0 m 57 ls [])) :
    ∀ (f jj : Nat), dd < jj + f → jj ≤ dd → ∀ (ls : Array Slot), lv_has ls 10 [(7, .int (nI (ii + jj))), (3, .long (lN ((sg g1 ii jj).sum))), (5, .long ((-1))), (2, .int (nI (ii))), (1, .int (nI (dd))), (0, .ref k0)] → W p l e R s m args below meth c H locs cells slots Q (F0 m 32 ls []) := by
  intro f
  induction f with
  | zero => intro jj h h1; omega
  | succ f ih =>
    intro jj hjf hjd ls hl
    refine lv_iload hx hb dX2_beside_32 (lv_at hl 0 rfl) ?_
    refine lv_iload_n hx hb dX2_beside_34 rfl (lv_at hl 3 rfl) ?_
    refine lv_iload_n hx hb dX2_beside_35 rfl (lv_at hl 4 rfl) ?_
    refine lv_iadd hx hb dX2_beside_36 ?_
    refine w_i (nI_add (ii) (dd)) ?_
    refine lv_icmp_ge (tgt := 57) hx hb dX2_beside_37 (by decide) (fun c_37 => ?_) (fun c_37 => ?_)
    · have c_37 : ii + dd ≤ ii + jj := ci_le c_37 (by omega) (by omega)
      have e : jj = dd := by omega
      rw [e] at hl
      exact kk ls (lv_sub hl [1, 2, 3, 4, 5] rfl)
    · have c_37 : ii + jj < ii + dd := ci_nle c_37 (by omega) (by omega)
      refine lv_lload_n hx hb dX2_beside_40 rfl (lv_at hl 1 rfl) ?_
      refine lv_aload_n hx hb dX2_beside_41 rfl (lv_at hl 5 rfl) ?_
      refine va_get (D := (dC, dI)) (ci := 2) (v := .ref k1) (C := RX2) (T := TX2) (N := 4) hx hb hts in_X2 hown hK hP 0 rfl rfl 0 (by decide) (hts _ q89) (fun _ h9 => h9) rfl dX2_beside_42 ?_
      refine lv_iload hx hb dX2_beside_45 (lv_at hl 0 rfl) ?_
      refine va_iald hx hb hK hP 1 0 rfl rfl (in_nI (n := ii + jj) (by omega) (by omega)) dX2_beside_47 ?_
      refine w_i (iA_at (g := g1) (k := ii + jj) (by omega)) ?_
      have b_47 : g1 (ii + jj) < 65536 := hw _ (by omega)
      refine lv_i2l (v := lN (g1 (ii + jj))) hx hb dX2_beside_48 (nI_l (by omega)) ?_
      refine lv_ladd hx hb dX2_beside_49 ?_
      refine w_l (lN_add ((sg g1 ii jj).sum) (g1 (ii + jj))) ?_
      refine lv_lstore_n (lv' := [(3, .long (lN ((sg g1 ii jj).sum + g1 (ii + jj)))), (7, .int (nI (ii + jj))), (5, .long ((-1))), (2, .int (nI (ii))), (1, .int (nI (dd))), (0, .ref k0)]) hx hb dX2_beside_50 rfl hl (by decide) rfl (fun ls hl => ?_)
      refine lv_iinc (v := nI (ii + jj + 1)) (lv' := [(7, .int (nI (ii + jj + 1))), (3, .long (lN ((sg g1 ii jj).sum + g1 (ii + jj)))), (5, .long ((-1))), (2, .int (nI (ii))), (1, .int (nI (dd))), (0, .ref k0)]) hx hb dX2_beside_51 hl (k := 1) rfl (inc_1 (ii + jj)) (by decide) rfl (fun ls hl => ?_)
      refine lv_goto (tgt := 32) hx hb dX2_beside_54 (by decide) ?_
      rw [sg_sum_succ g1 ii jj] at hl
      exact ih (jj + 1) (by omega) (by omega) ls (lv_sub hl [0, 1, 2, 3, 4, 5] rfl)
set_option maxHeartbeats 4000000 in
set_option maxRecDepth 100000 in
theorem lp_mb_D (hx : p.tables.exec = Jvm.exec) (hb : c.code = cX2_beside) (hown : s.vm.findClass RX2 = some m.cls) (hts : ∀ w ∈ lw_all, w.before args s = true) {k0 k1 k2 k3 : Nat} {e1 e2 e3 : ClassId} {n : Nat} {g1 g2 : Nat → Nat} (hn : n ≤ 8) (hw : ∀ i, i < n → g1 i < 65536) (hK : va_K (dC, dI) vwCl [(e1, .int), (e2, .long), (e3, .long)] s) {g3 : Nat → Nat} {ii dd : Nat} (hd1 : 1 ≤ dd) (hid : ii + dd ≤ n) (hI : mb_I n g1 g3 dd ii) {H : Heap} {locs : List Loc} (hP : va_P (dC, dI) vwCl [(k0, .inr (2, [.ref k1, .int (nI (n)), .ref k2, .ref k3])), (k1, .inl (e1, 10, .inl (iA g1))), (k2, .inl (e2, 1024, .inr (.inl (lA g2)))), (k3, .inl (e3, 110, .inr (.inl (lA g3))))] H)
    (kk1 : ∀ (ls : Array Slot), dd = 1 → lv_has ls 10 [(5, .long ((-1))), (3, .long (lN ((sg g1 ii dd).sum))), (2, .int (nI (ii))), (1, .int (nI (dd))), (0, .ref k0)] → W p l e R s m args below meth c H locs cells slots Q (F0 m 123 ls []))
    (kk2 : ∀ (M : Nat) (ls : Array Slot), 2 ≤ dd → mb_seen g3 ii dd dd M → lv_has ls 10 [(5, .long (lN (M))), (3, .long (lN ((sg g1 ii dd).sum))), (2, .int (nI (ii))), (1, .int (nI (dd))), (0, .ref k0)] → W p l e R s m args below meth c H locs cells slots Q (F0 m 123 ls [])) :
    ∀ (f mm : Nat) (bb : Int64), dd < mm + f → 1 ≤ mm → mm ≤ dd → ((bb = (-1) ∧ mm = 1) ∨ (∃ M, bb = lN M ∧ M < 2 ^ 62 ∧ 2 ≤ mm ∧ mb_seen g3 ii dd mm M)) → ∀ (ls : Array Slot), lv_has ls 10 [(7, .int (nI (mm))), (5, .long (bb)), (3, .long (lN ((sg g1 ii dd).sum))), (2, .int (nI (ii))), (1, .int (nI (dd))), (0, .ref k0)] → W p l e R s m args below meth c H locs cells slots Q (F0 m 60 ls []) := by
  have hbd := mb_bd hn hw hI
  intro f
  induction f with
  | zero => intro mm bb h h0 h1; omega
  | succ f ih =>
    intro mm bb hmf hm1 hmd hB ls hl
    refine lv_iload hx hb dX2_beside_60 (lv_at hl 0 rfl) ?_
    refine lv_iload_n hx hb dX2_beside_62 rfl (lv_at hl 4 rfl) ?_
    refine lv_icmp_ge (tgt := 123) hx hb dX2_beside_63 (by decide) (fun c_63 => ?_) (fun c_63 => ?_)
    · have c_63 : dd ≤ mm := ci_le c_63 (by omega) (by omega)
      have e : mm = dd := by omega
      rcases hB with ⟨rfl, h1⟩ | ⟨M, rfl, hM, hm2, hseen⟩
      · exact kk1 ls (by omega) (lv_sub hl [1, 2, 3, 4, 5] rfl)
      · rw [e] at hseen
        exact kk2 M ls (by omega) hseen (lv_sub hl [1, 2, 3, 4, 5] rfl)
    · have c_63 : mm < dd := ci_nle c_63 (by omega) (by omega)
      refine lv_aload_n hx hb dX2_beside_66 rfl (lv_at hl 5 rfl) ?_
      refine va_get (D := (dC, dI)) (ci := 2) (v := .ref k3) (C := RX2) (T := TX2) (N := 4) hx hb hts in_X2 hown hK hP 0 rfl rfl 3 (by decide) (hts _ q92) (fun _ h9 => h9) rfl dX2_beside_67 ?_
      refine lv_bipush (v := nI 11) hx hb dX2_beside_70 (by decide) ?_
      refine lv_iload_n hx hb dX2_beside_72 rfl (lv_at hl 3 rfl) ?_
      refine lv_imul hx hb dX2_beside_73 ?_
      refine w_i (pk_mul (11) (ii)) ?_
      refine lv_iload hx hb dX2_beside_74 (lv_at hl 0 rfl) ?_
      refine lv_iadd hx hb dX2_beside_76 ?_
      refine w_i (nI_add (11 * ii) (mm)) ?_
      refine va_lald hx hb hK hP 3 2 rfl rfl (in_nI (n := 11 * ii + mm) (by omega) (by omega)) dX2_beside_77 ?_
      refine w_l (lA_at (g := g3) (k := 11 * ii + mm) (by omega)) ?_
      have b_77 : g3 (11 * ii + mm) < 2 ^ 30 := hbd ii mm (by omega) (by omega) (by omega)
      refine lv_aload_n hx hb dX2_beside_78 rfl (lv_at hl 5 rfl) ?_
      refine va_get (D := (dC, dI)) (ci := 2) (v := .ref k3) (C := RX2) (T := TX2) (N := 4) hx hb hts in_X2 hown hK hP 0 rfl rfl 3 (by decide) (hts _ q92) (fun _ h9 => h9) rfl dX2_beside_79 ?_
      refine lv_bipush (v := nI 11) hx hb dX2_beside_82 (by decide) ?_
      refine lv_iload_n hx hb dX2_beside_84 rfl (lv_at hl 3 rfl) ?_
      refine lv_iload hx hb dX2_beside_85 (lv_at hl 0 rfl) ?_
      refine lv_iadd hx hb dX2_beside_87 ?_
      refine w_i (nI_add (ii) (mm)) ?_
      refine lv_imul hx hb dX2_beside_88 ?_
      refine w_i (pk_mul (11) (ii + mm)) ?_
      refine lv_iload_n hx hb dX2_beside_89 rfl (lv_at hl 4 rfl) ?_
      refine lv_iadd hx hb dX2_beside_90 ?_
      refine w_i (nI_add (11 * (ii + mm)) (dd)) ?_
      refine lv_iload hx hb dX2_beside_91 (lv_at hl 0 rfl) ?_
      refine lv_isub hx hb dX2_beside_93 ?_
      refine w_i (pk_sub (a := 11 * (ii + mm) + dd) (b := mm) (by omega)) ?_
      refine va_lald hx hb hK hP 3 2 rfl rfl (in_nI (n := (11 * (ii + mm) + dd) - mm) (by omega) (by omega)) dX2_beside_94 ?_
      refine w_l (lA_at (g := g3) (k := (11 * (ii + mm) + dd) - mm) (by omega)) ?_
      have b_94 : g3 ((11 * (ii + mm) + dd) - mm) < 2 ^ 30 := by
        have h := hbd (ii + mm) (dd - mm) (by omega) (by omega) (by omega)
        rwa [show 11 * (ii + mm) + (dd - mm) = (11 * (ii + mm) + dd) - mm by omega] at h
      refine lv_ladd hx hb dX2_beside_95 ?_
      refine w_l (lN_add (g3 (11 * ii + mm)) (g3 ((11 * (ii + mm) + dd) - mm))) ?_
      refine lv_lstore (lv' := [(8, .long (lN (g3 (11 * ii + mm) + g3 ((11 * (ii + mm) + dd) - mm)))), (7, .int (nI (mm))), (5, .long (bb)), (3, .long (lN ((sg g1 ii dd).sum))), (2, .int (nI (ii))), (1, .int (nI (dd))), (0, .ref k0)]) hx hb dX2_beside_96 hl (by decide) rfl (fun ls hl => ?_)
      rcases hB with ⟨rfl, rfl⟩ | ⟨M, rfl, hM, hm2, hseen⟩
      · have hq1 : True := trivial
        refine lv_lload hx hb dX2_beside_98 (lv_at hl 2 rfl) ?_
        refine lv_lconst (v := lN 0) hx hb dX2_beside_100 rfl ?_
        refine W.lcmp hx hb dX2_beside_101 ?_
        refine lv_if_lt (tgt := 113) hx hb dX2_beside_102 (by decide) (fun c_102 => ?_) (fun c_102 => ?_)
        · refine lv_lload hx hb dX2_beside_113 (lv_at hl 0 rfl) ?_
          refine lv_lstore (lv' := [(5, .long (lN (g3 (11 * ii + 1) + g3 ((11 * (ii + 1) + dd) - 1)))), (8, .long (lN (g3 (11 * ii + 1) + g3 ((11 * (ii + 1) + dd) - 1)))), (7, .int (nI (1))), (3, .long (lN ((sg g1 ii dd).sum))), (2, .int (nI (ii))), (1, .int (nI (dd))), (0, .ref k0)]) hx hb dX2_beside_115 hl (by decide) rfl (fun ls hl => ?_)
          refine lv_iinc (v := nI (1 + 1)) (lv' := [(7, .int (nI (1 + 1))), (5, .long (lN (g3 (11 * ii + 1) + g3 ((11 * (ii + 1) + dd) - 1)))), (8, .long (lN (g3 (11 * ii + 1) + g3 ((11 * (ii + 1) + dd) - 1)))), (3, .long (lN ((sg g1 ii dd).sum))), (2, .int (nI (ii))), (1, .int (nI (dd))), (0, .ref k0)]) hx hb dX2_beside_117 hl (k := 2) rfl (inc_1 (1)) (by decide) rfl (fun ls hl => ?_)
          refine lv_goto (tgt := 60) hx hb dX2_beside_120 (by decide) ?_
          exact ih (1 + 1) _ (by omega) (by omega) (by omega) (Or.inr ⟨_, rfl, (by unfold mb_F; omega), by omega, mb_seen_1 g3 ii dd⟩) ls (lv_sub hl [0, 1, 3, 4, 5, 6] rfl)
        · exact absurd cl_m1' c_102
      · have hq1 : True := trivial
        refine lv_lload hx hb dX2_beside_98 (lv_at hl 2 rfl) ?_
        refine lv_lconst (v := lN 0) hx hb dX2_beside_100 rfl ?_
        refine W.lcmp hx hb dX2_beside_101 ?_
        refine lv_if_lt (tgt := 113) hx hb dX2_beside_102 (by decide) (fun c_102 => ?_) (fun c_102 => ?_)
        · have c_102 : M < 0 := cl_lt c_102 (by omega) (by omega)
          omega
        · have c_102 : 0 ≤ M := cl_nlt c_102 (by omega) (by omega)
          refine lv_lload hx hb dX2_beside_105 (lv_at hl 0 rfl) ?_
          refine lv_lload hx hb dX2_beside_107 (lv_at hl 2 rfl) ?_
          refine W.lcmp hx hb dX2_beside_109 ?_
          refine lv_if_ge (tgt := 117) hx hb dX2_beside_110 (by decide) (fun c_110 => ?_) (fun c_110 => ?_)
          · have c_110 : M ≤ g3 (11 * ii + mm) + g3 ((11 * (ii + mm) + dd) - mm) := cl_ge c_110 (by omega) (by omega)
            refine lv_iinc (v := nI (mm + 1)) (lv' := [(7, .int (nI (mm + 1))), (8, .long (lN (g3 (11 * ii + mm) + g3 ((11 * (ii + mm) + dd) - mm)))), (5, .long (lN (M))), (3, .long (lN ((sg g1 ii dd).sum))), (2, .int (nI (ii))), (1, .int (nI (dd))), (0, .ref k0)]) hx hb dX2_beside_117 hl (k := 1) rfl (inc_1 (mm)) (by decide) rfl (fun ls hl => ?_)
            refine lv_goto (tgt := 60) hx hb dX2_beside_120 (by decide) ?_
            exact ih (mm + 1) _ (by omega) (by omega) (by omega) (Or.inr ⟨M, rfl, hM, by omega, mb_seen_keep hseen (show M ≤ g3 (11 * ii + mm) + g3 (11 * (ii + mm) + dd - mm) by omega)⟩) ls (lv_sub hl [0, 2, 3, 4, 5, 6] rfl)
          · have c_110 : g3 (11 * ii + mm) + g3 ((11 * (ii + mm) + dd) - mm) < M := cl_nge c_110 (by omega) (by omega)
            refine lv_lload hx hb dX2_beside_113 (lv_at hl 0 rfl) ?_
            refine lv_lstore (lv' := [(5, .long (lN (g3 (11 * ii + mm) + g3 ((11 * (ii + mm) + dd) - mm)))), (8, .long (lN (g3 (11 * ii + mm) + g3 ((11 * (ii + mm) + dd) - mm)))), (7, .int (nI (mm))), (3, .long (lN ((sg g1 ii dd).sum))), (2, .int (nI (ii))), (1, .int (nI (dd))), (0, .ref k0)]) hx hb dX2_beside_115 hl (by decide) rfl (fun ls hl => ?_)
            refine lv_iinc (v := nI (mm + 1)) (lv' := [(7, .int (nI (mm + 1))), (5, .long (lN (g3 (11 * ii + mm) + g3 ((11 * (ii + mm) + dd) - mm)))), (8, .long (lN (g3 (11 * ii + mm) + g3 ((11 * (ii + mm) + dd) - mm)))), (3, .long (lN ((sg g1 ii dd).sum))), (2, .int (nI (ii))), (1, .int (nI (dd))), (0, .ref k0)]) hx hb dX2_beside_117 hl (k := 2) rfl (inc_1 (mm)) (by decide) rfl (fun ls hl => ?_)
            refine lv_goto (tgt := 60) hx hb dX2_beside_120 (by decide) ?_
            exact ih (mm + 1) _ (by omega) (by omega) (by omega) (Or.inr ⟨_, rfl, (by unfold mb_F; omega), by omega, mb_seen_new hm1 hseen (show g3 (11 * ii + mm) + g3 (11 * (ii + mm) + dd - mm) ≤ M by omega)⟩) ls (lv_sub hl [0, 1, 3, 4, 5, 6] rfl)
set_option maxHeartbeats 4000000 in
set_option maxRecDepth 100000 in
theorem lp_mb_B (hx : p.tables.exec = Jvm.exec) (hb : c.code = cX2_beside) (hown : s.vm.findClass RX2 = some m.cls) (hts : ∀ w ∈ lw_all, w.before args s = true) {k0 k1 k2 k3 : Nat} {e1 e2 e3 : ClassId} {n : Nat} {g1 g2 : Nat → Nat} (hn : n ≤ 8) (hw : ∀ i, i < n → g1 i < 65536) (hK : va_K (dC, dI) vwCl [(e1, .int), (e2, .long), (e3, .long)] s) {dd : Nat} (hd1 : 1 ≤ dd) (hdn : dd ≤ n)
    (kk : ∀ (g3 : Nat → Nat) (H : Heap) (locs : List Loc) (ls : Array Slot), mb_I n g1 g3 (dd + 1) 0 → va_P (dC, dI) vwCl [(k0, .inr (2, [.ref k1, .int (nI (n)), .ref k2, .ref k3])), (k1, .inl (e1, 10, .inl (iA g1))), (k2, .inl (e2, 1024, .inr (.inl (lA g2)))), (k3, .inl (e3, 110, .inr (.inl (lA g3))))] H → va_D A [(k0, .inr (2, [.ref k1, .int (nI (n)), .ref k2, .ref k3])), (k1, .inl (e1, 10, .inl (iA g1))), (k2, .inl (e2, 1024, .inr (.inl (lA g2)))), (k3, .inl (e3, 110, .inr (.inl (lA g3))))] → va_S A H0 H locs → lv_has ls 10 [(1, .int (nI (dd))), (0, .ref k0)] → W p l e R s m args below meth c H locs cells slots Q (F0 m 153 ls [])) :
    ∀ (f ii : Nat) (g3 : Nat → Nat), n < ii + dd + f → ii + dd ≤ n + 1 → mb_I n g1 g3 dd ii → ∀ (H : Heap) (locs : List Loc) (ls : Array Slot), va_P (dC, dI) vwCl [(k0, .inr (2, [.ref k1, .int (nI (n)), .ref k2, .ref k3])), (k1, .inl (e1, 10, .inl (iA g1))), (k2, .inl (e2, 1024, .inr (.inl (lA g2)))), (k3, .inl (e3, 110, .inr (.inl (lA g3))))] H → va_D A [(k0, .inr (2, [.ref k1, .int (nI (n)), .ref k2, .ref k3])), (k1, .inl (e1, 10, .inl (iA g1))), (k2, .inl (e2, 1024, .inr (.inl (lA g2)))), (k3, .inl (e3, 110, .inr (.inl (lA g3))))] → va_S A H0 H locs → lv_has ls 10 [(2, .int (nI (ii))), (1, .int (nI (dd))), (0, .ref k0)] → W p l e R s m args below meth c H locs cells slots Q (F0 m 12 ls []) := by
  intro f
  induction f with
  | zero =>
    intro ii g3 h h1 hI H locs ls hP hD hS hl
    refine lv_iload_n hx hb dX2_beside_12 rfl (lv_at hl 0 rfl) ?_
    refine lv_iload_n hx hb dX2_beside_13 rfl (lv_at hl 1 rfl) ?_
    refine lv_iadd hx hb dX2_beside_14 ?_
    refine w_i (nI_add (ii) (dd)) ?_
    refine lv_aload_n hx hb dX2_beside_15 rfl (lv_at hl 2 rfl) ?_
    refine va_get (D := (dC, dI)) (ci := 2) (v := .int (nI (n))) (C := RX2) (T := TX2) (N := 4) hx hb hts in_X2 hown hK hP 0 rfl rfl 1 (by decide) (hts _ q90) (fun _ h9 => h9) rfl dX2_beside_16 ?_
    refine lv_icmp_gt (tgt := 153) hx hb dX2_beside_19 (by decide) (fun c_19 => ?_) (fun c_19 => ?_)
    · have c_19 : n < ii + dd := ci_lt c_19 (by omega) (by omega)
      exact kk g3 _ _ ls (mb_next hI (by omega)) hP hD hS (lv_sub hl [1, 2] rfl)
    · have c_19 : ii + dd ≤ n := ci_nlt c_19 (by omega) (by omega)
      omega
  | succ f ih =>
    intro ii g3 h h1 hI H locs ls hP hD hS hl
    refine lv_iload_n hx hb dX2_beside_12 rfl (lv_at hl 0 rfl) ?_
    refine lv_iload_n hx hb dX2_beside_13 rfl (lv_at hl 1 rfl) ?_
    refine lv_iadd hx hb dX2_beside_14 ?_
    refine w_i (nI_add (ii) (dd)) ?_
    refine lv_aload_n hx hb dX2_beside_15 rfl (lv_at hl 2 rfl) ?_
    refine va_get (D := (dC, dI)) (ci := 2) (v := .int (nI (n))) (C := RX2) (T := TX2) (N := 4) hx hb hts in_X2 hown hK hP 0 rfl rfl 1 (by decide) (hts _ q90) (fun _ h9 => h9) rfl dX2_beside_16 ?_
    refine lv_icmp_gt (tgt := 153) hx hb dX2_beside_19 (by decide) (fun c_19 => ?_) (fun c_19 => ?_)
    · have c_19 : n < ii + dd := ci_lt c_19 (by omega) (by omega)
      exact kk g3 _ _ ls (mb_next hI (by omega)) hP hD hS (lv_sub hl [1, 2] rfl)
    · have c_19 : ii + dd ≤ n := ci_nlt c_19 (by omega) (by omega)
      refine lv_lconst (v := lN 0) hx hb dX2_beside_22 rfl ?_
      refine lv_lstore_n (lv' := [(3, .long (lN (0))), (2, .int (nI (ii))), (1, .int (nI (dd))), (0, .ref k0)]) hx hb dX2_beside_23 rfl hl (by decide) rfl (fun ls hl => ?_)
      refine lv_ldc2 hx hb hown (hts _ q115) dX2_beside_24 ?_
      refine lv_lstore (lv' := [(5, .long ((-1))), (3, .long (lN (0))), (2, .int (nI (ii))), (1, .int (nI (dd))), (0, .ref k0)]) hx hb dX2_beside_27 hl (by decide) rfl (fun ls hl => ?_)
      refine lv_iload_n hx hb dX2_beside_29 rfl (lv_at hl 2 rfl) ?_
      refine lv_istore (lv' := [(7, .int (nI (ii))), (5, .long ((-1))), (3, .long (lN (0))), (2, .int (nI (ii))), (1, .int (nI (dd))), (0, .ref k0)]) hx hb dX2_beside_30 hl (by decide) rfl (fun ls hl => ?_)
      refine lp_mb_C hx hb hown hts hn hw hK (ii := ii) (dd := dd) (by omega) hP (fun ls hl => ?_) (dd + 1) 0 (by omega) (by omega) ls (lv_sub hl [0, 2, 1, 3, 4, 5] rfl)
      refine lv_iconst (v := nI 1) hx hb dX2_beside_57 (by decide) ?_
      refine lv_istore (lv' := [(7, .int (nI (1))), (3, .long (lN ((sg g1 ii dd).sum))), (5, .long ((-1))), (2, .int (nI (ii))), (1, .int (nI (dd))), (0, .ref k0)]) hx hb dX2_beside_58 hl (by decide) rfl (fun ls hl => ?_)
      refine lp_mb_D hx hb hown hts hn hw hK hd1 (by omega) hI hP (fun ls hd9 hl => ?_) (fun M ls hd9 hseen hl => ?_) dd 1 _ (by omega) (by omega) (by omega) (Or.inl ⟨rfl, rfl⟩) ls (lv_sub hl [0, 2, 1, 3, 4, 5] rfl)
      · have hx9 : gw_D (sg g1 ii dd) 0 := by rw [hd9]; exact mb_one g1 ii
        refine lv_aload_n hx hb dX2_beside_123 rfl (lv_at hl 4 rfl) ?_
        refine va_get (D := (dC, dI)) (ci := 2) (v := .ref k3) (C := RX2) (T := TX2) (N := 4) hx hb hts in_X2 hown hK hP 0 rfl rfl 3 (by decide) (hts _ q92) (fun _ h9 => h9) rfl dX2_beside_124 ?_
        refine lv_bipush (v := nI 11) hx hb dX2_beside_127 (by decide) ?_
        refine lv_iload_n hx hb dX2_beside_129 rfl (lv_at hl 2 rfl) ?_
        refine lv_imul hx hb dX2_beside_130 ?_
        refine w_i (pk_mul (11) (ii)) ?_
        refine lv_iload_n hx hb dX2_beside_131 rfl (lv_at hl 3 rfl) ?_
        refine lv_iadd hx hb dX2_beside_132 ?_
        refine w_i (nI_add (11 * ii) (dd)) ?_
        refine lv_iload_n hx hb dX2_beside_133 rfl (lv_at hl 3 rfl) ?_
        refine lv_iconst (v := nI 1) hx hb dX2_beside_134 (by decide) ?_
        refine lv_icmp_ne (tgt := 142) hx hb dX2_beside_135 (by decide) (fun c_135 => ?_) (fun c_135 => ?_)
        · have c_135 : dd ≠ 1 := ci_ne c_135 (by omega) (by omega)
          omega
        · have c_135 : dd = 1 := ci_eq c_135 (by omega) (by omega)
          refine lv_lconst (v := lN 0) hx hb dX2_beside_138 rfl ?_
          refine lv_goto (tgt := 146) hx hb dX2_beside_139 (by decide) ?_
          refine va_last hx hb hK hP hD hS 3 2 rfl rfl (in_nI (n := 11 * ii + dd) (by omega) (by omega)) dX2_beside_146 (fun H locs hP hD hS => ?_)
          rw [lA_up (g := g3) (k := 11 * ii + dd) (v := 0) (by omega)] at hP hD
          have hP : va_P (dC, dI) vwCl [(k0, .inr (2, [.ref k1, .int (nI (n)), .ref k2, .ref k3])), (k1, .inl (e1, 10, .inl (iA g1))), (k2, .inl (e2, 1024, .inr (.inl (lA g2)))), (k3, .inl (e3, 110, .inr (.inl (lA (nu g3 (11 * ii + dd) (0))))))] H := hP
          have hD : va_D A [(k0, .inr (2, [.ref k1, .int (nI (n)), .ref k2, .ref k3])), (k1, .inl (e1, 10, .inl (iA g1))), (k2, .inl (e2, 1024, .inr (.inl (lA g2)))), (k3, .inl (e3, 110, .inr (.inl (lA (nu g3 (11 * ii + dd) (0))))))] := hD
          refine lv_iinc (v := nI (ii + 1)) (lv' := [(2, .int (nI (ii + 1))), (5, .long ((-1))), (3, .long (lN ((sg g1 ii dd).sum))), (1, .int (nI (dd))), (0, .ref k0)]) hx hb dX2_beside_147 hl (k := 2) rfl (inc_1 (ii)) (by decide) rfl (fun ls hl => ?_)
          refine lv_goto (tgt := 12) hx hb dX2_beside_150 (by decide) ?_
          exact ih (ii + 1) (nu g3 (11 * ii + dd) (0)) (by omega) (by omega) (mb_put hI hn hd1 (by omega) hx9) _ _ ls hP hD hS (lv_sub hl [0, 3, 4] rfl)
      · have hx9 := mb_end hI hd9 (by omega) hseen
        refine lv_aload_n hx hb dX2_beside_123 rfl (lv_at hl 4 rfl) ?_
        refine va_get (D := (dC, dI)) (ci := 2) (v := .ref k3) (C := RX2) (T := TX2) (N := 4) hx hb hts in_X2 hown hK hP 0 rfl rfl 3 (by decide) (hts _ q92) (fun _ h9 => h9) rfl dX2_beside_124 ?_
        refine lv_bipush (v := nI 11) hx hb dX2_beside_127 (by decide) ?_
        refine lv_iload_n hx hb dX2_beside_129 rfl (lv_at hl 2 rfl) ?_
        refine lv_imul hx hb dX2_beside_130 ?_
        refine w_i (pk_mul (11) (ii)) ?_
        refine lv_iload_n hx hb dX2_beside_131 rfl (lv_at hl 3 rfl) ?_
        refine lv_iadd hx hb dX2_beside_132 ?_
        refine w_i (nI_add (11 * ii) (dd)) ?_
        refine lv_iload_n hx hb dX2_beside_133 rfl (lv_at hl 3 rfl) ?_
        refine lv_iconst (v := nI 1) hx hb dX2_beside_134 (by decide) ?_
        refine lv_icmp_ne (tgt := 142) hx hb dX2_beside_135 (by decide) (fun c_135 => ?_) (fun c_135 => ?_)
        · have c_135 : dd ≠ 1 := ci_ne c_135 (by omega) (by omega)
          refine lv_lload hx hb dX2_beside_142 (lv_at hl 0 rfl) ?_
          refine lv_lload_n hx hb dX2_beside_144 rfl (lv_at hl 1 rfl) ?_
          refine lv_ladd hx hb dX2_beside_145 ?_
          refine w_l (lN_add (M) ((sg g1 ii dd).sum)) ?_
          refine va_last hx hb hK hP hD hS 3 2 rfl rfl (in_nI (n := 11 * ii + dd) (by omega) (by omega)) dX2_beside_146 (fun H locs hP hD hS => ?_)
          rw [lA_up (g := g3) (k := 11 * ii + dd) (v := M + (sg g1 ii dd).sum) (by omega)] at hP hD
          have hP : va_P (dC, dI) vwCl [(k0, .inr (2, [.ref k1, .int (nI (n)), .ref k2, .ref k3])), (k1, .inl (e1, 10, .inl (iA g1))), (k2, .inl (e2, 1024, .inr (.inl (lA g2)))), (k3, .inl (e3, 110, .inr (.inl (lA (nu g3 (11 * ii + dd) (M + (sg g1 ii dd).sum))))))] H := hP
          have hD : va_D A [(k0, .inr (2, [.ref k1, .int (nI (n)), .ref k2, .ref k3])), (k1, .inl (e1, 10, .inl (iA g1))), (k2, .inl (e2, 1024, .inr (.inl (lA g2)))), (k3, .inl (e3, 110, .inr (.inl (lA (nu g3 (11 * ii + dd) (M + (sg g1 ii dd).sum))))))] := hD
          refine lv_iinc (v := nI (ii + 1)) (lv' := [(2, .int (nI (ii + 1))), (5, .long (lN (M))), (3, .long (lN ((sg g1 ii dd).sum))), (1, .int (nI (dd))), (0, .ref k0)]) hx hb dX2_beside_147 hl (k := 2) rfl (inc_1 (ii)) (by decide) rfl (fun ls hl => ?_)
          refine lv_goto (tgt := 12) hx hb dX2_beside_150 (by decide) ?_
          exact ih (ii + 1) (nu g3 (11 * ii + dd) (M + (sg g1 ii dd).sum)) (by omega) (by omega) (mb_put hI hn hd1 (by omega) hx9) _ _ ls hP hD hS (lv_sub hl [0, 3, 4] rfl)
        · have c_135 : dd = 1 := ci_eq c_135 (by omega) (by omega)
          omega
set_option maxHeartbeats 4000000 in
set_option maxRecDepth 100000 in
theorem lp_mb_A (hx : p.tables.exec = Jvm.exec) (hb : c.code = cX2_beside) (hown : s.vm.findClass RX2 = some m.cls) (hts : ∀ w ∈ lw_all, w.before args s = true) {k0 k1 k2 k3 : Nat} {e1 e2 e3 : ClassId} {n : Nat} {g1 g2 : Nat → Nat} (hn : n ≤ 8) (hw : ∀ i, i < n → g1 i < 65536) (hK : va_K (dC, dI) vwCl [(e1, .int), (e2, .long), (e3, .long)] s) 
    (kk : ∀ (g3 : Nat → Nat) (H : Heap) (locs : List Loc) (ls : Array Slot), mb_I n g1 g3 (n + 1) 0 → va_P (dC, dI) vwCl [(k0, .inr (2, [.ref k1, .int (nI (n)), .ref k2, .ref k3])), (k1, .inl (e1, 10, .inl (iA g1))), (k2, .inl (e2, 1024, .inr (.inl (lA g2)))), (k3, .inl (e3, 110, .inr (.inl (lA g3))))] H → va_D A [(k0, .inr (2, [.ref k1, .int (nI (n)), .ref k2, .ref k3])), (k1, .inl (e1, 10, .inl (iA g1))), (k2, .inl (e2, 1024, .inr (.inl (lA g2)))), (k3, .inl (e3, 110, .inr (.inl (lA g3))))] → va_S A H0 H locs → lv_has ls 10 [(0, .ref k0)] → W p l e R s m args below meth c H locs cells slots Q (F0 m 159 ls [])) :
    ∀ (f dd : Nat) (g3 : Nat → Nat), n < dd + f → 1 ≤ dd → dd ≤ n + 1 → mb_I n g1 g3 dd 0 → ∀ (H : Heap) (locs : List Loc) (ls : Array Slot), va_P (dC, dI) vwCl [(k0, .inr (2, [.ref k1, .int (nI (n)), .ref k2, .ref k3])), (k1, .inl (e1, 10, .inl (iA g1))), (k2, .inl (e2, 1024, .inr (.inl (lA g2)))), (k3, .inl (e3, 110, .inr (.inl (lA g3))))] H → va_D A [(k0, .inr (2, [.ref k1, .int (nI (n)), .ref k2, .ref k3])), (k1, .inl (e1, 10, .inl (iA g1))), (k2, .inl (e2, 1024, .inr (.inl (lA g2)))), (k3, .inl (e3, 110, .inr (.inl (lA g3))))] → va_S A H0 H locs → lv_has ls 10 [(1, .int (nI (dd))), (0, .ref k0)] → W p l e R s m args below meth c H locs cells slots Q (F0 m 2 ls []) := by
  intro f
  induction f with
  | zero =>
    intro dd g3 h h0 h1 hI H locs ls hP hD hS hl
    refine lv_iload_n hx hb dX2_beside_2 rfl (lv_at hl 0 rfl) ?_
    refine lv_aload_n hx hb dX2_beside_3 rfl (lv_at hl 1 rfl) ?_
    refine va_get (D := (dC, dI)) (ci := 2) (v := .int (nI (n))) (C := RX2) (T := TX2) (N := 4) hx hb hts in_X2 hown hK hP 0 rfl rfl 1 (by decide) (hts _ q90) (fun _ h9 => h9) rfl dX2_beside_4 ?_
    refine lv_icmp_gt (tgt := 159) hx hb dX2_beside_7 (by decide) (fun c_7 => ?_) (fun c_7 => ?_)
    · have c_7 : n < dd := ci_lt c_7 (by omega) (by omega)
      have e : dd = n + 1 := by omega
      rw [e] at hI
      exact kk g3 _ _ ls hI hP hD hS (lv_sub hl [1] rfl)
    · have c_7 : dd ≤ n := ci_nlt c_7 (by omega) (by omega)
      omega
  | succ f ih =>
    intro dd g3 h h0 h1 hI H locs ls hP hD hS hl
    refine lv_iload_n hx hb dX2_beside_2 rfl (lv_at hl 0 rfl) ?_
    refine lv_aload_n hx hb dX2_beside_3 rfl (lv_at hl 1 rfl) ?_
    refine va_get (D := (dC, dI)) (ci := 2) (v := .int (nI (n))) (C := RX2) (T := TX2) (N := 4) hx hb hts in_X2 hown hK hP 0 rfl rfl 1 (by decide) (hts _ q90) (fun _ h9 => h9) rfl dX2_beside_4 ?_
    refine lv_icmp_gt (tgt := 159) hx hb dX2_beside_7 (by decide) (fun c_7 => ?_) (fun c_7 => ?_)
    · have c_7 : n < dd := ci_lt c_7 (by omega) (by omega)
      have e : dd = n + 1 := by omega
      rw [e] at hI
      exact kk g3 _ _ ls hI hP hD hS (lv_sub hl [1] rfl)
    · have c_7 : dd ≤ n := ci_nlt c_7 (by omega) (by omega)
      refine lv_iconst (v := nI 0) hx hb dX2_beside_10 (by decide) ?_
      refine lv_istore_n (lv' := [(2, .int (nI (0))), (1, .int (nI (dd))), (0, .ref k0)]) hx hb dX2_beside_11 rfl hl (by decide) rfl (fun ls hl => ?_)
      refine lp_mb_B hx hb hown hts hn hw hK h0 (by omega) (fun g3b H locs ls hI2 hP hD hS hl => ?_) (n + 1) 0 g3 (by omega) (by omega) hI _ _ ls hP hD hS (lv_sub hl [0, 1, 2] rfl)
      refine lv_iinc (v := nI (dd + 1)) (lv' := [(1, .int (nI (dd + 1))), (0, .ref k0)]) hx hb dX2_beside_153 hl (k := 0) rfl (inc_1 (dd)) (by decide) rfl (fun ls hl => ?_)
      refine lv_goto (tgt := 2) hx hb dX2_beside_156 (by decide) ?_
      exact ih (dd + 1) g3b (by omega) (by omega) (by omega) hI2 _ _ ls hP hD hS (lv_sub hl [0, 1] rfl)
end MBESIDE
set_option maxHeartbeats 4000000 in
set_option maxRecDepth 100000 in
theorem metX2_beside (l : Launch) (dC : Nat → ClassId) (dI : Nat → Nat → Nat) (k0 k1 k2 k3 : Nat) (e1 e2 e3 : ClassId) (sz n : Nat) (g1 g2 g3 : Nat → Nat) (hn : n ≤ 8) (hw : ∀ i, i < n → g1 i < 65536) : Met l yX2_beside (ws_ yX2_beside cX2_beside 10 (some .long)) ({ frames := 0, cells := 0, slots := 0, locals := 0 }) (va_Pc [.ref k0] (fun U => U.heap.size = sz ∧ va_P (dC, dI) vwCl [(k0, .inr (2, [.ref k1, .int (nI (n)), .ref k2, .ref k3])), (k1, .inl (e1, 10, .inl (iA g1))), (k2, .inl (e2, 1024, .inr (.inl (lA g2)))), (k3, .inl (e3, 110, .inr (.inl (lA g3))))] U.heap ∧ va_K (dC, dI) vwCl [(e1, .int), (e2, .long), (e3, .long)] U ∧ va_D (fun _ => True) [(k0, .inr (2, [.ref k1, .int (nI (n)), .ref k2, .ref k3])), (k1, .inl (e1, 10, .inl (iA g1))), (k2, .inl (e2, 1024, .inr (.inl (lA g2)))), (k3, .inl (e3, 110, .inr (.inl (lA g3))))])) (va_Ql (fun (r : Int64) (g' : Nat → Nat) => (n = 0 ∧ r = lN 0) ∨ (0 < n ∧ ∃ x, gw_best (sg g1 0 n) x ∧ r = lN x)) (fun g' t => va_P (dC, dI) vwCl [(k0, .inr (2, [.ref k1, .int (nI (n)), .ref k2, .ref k3])), (k1, .inl (e1, 10, .inl (iA g1))), (k2, .inl (e2, 1024, .inr (.inl (lA g2)))), (k3, .inl (e3, 110, .inr (.inl (lA g'))))] t.heap ∧ va_K (dC, dI) vwCl [(e1, .int), (e2, .long), (e3, .long)] t ∧ va_D (va_A [(k0, .inr (2, [.ref k1, .int (nI (n)), .ref k2, .ref k3])), (k1, .inl (e1, 10, .inl (iA g1))), (k2, .inl (e2, 1024, .inr (.inl (lA g2)))), (k3, .inl (e3, 110, .inr (.inl (lA g3))))] sz) [(k0, .inr (2, [.ref k1, .int (nI (n)), .ref k2, .ref k3])), (k1, .inl (e1, 10, .inl (iA g1))), (k2, .inl (e2, 1024, .inr (.inl (lA g2)))), (k3, .inl (e3, 110, .inr (.inl (lA g'))))]) (va_A [(k0, .inr (2, [.ref k1, .int (nI (n)), .ref k2, .ref k3])), (k1, .inl (e1, 10, .inl (iA g1))), (k2, .inl (e2, 1024, .inr (.inl (lA g2)))), (k3, .inl (e3, 110, .inr (.inl (lA g3))))] sz)) 0 0 (va_A [(k0, .inr (2, [.ref k1, .int (nI (n)), .ref k2, .ref k3])), (k1, .inl (e1, 10, .inl (iA g1))), (k2, .inl (e2, 1024, .inr (.inl (lA g2)))), (k3, .inl (e3, 110, .inr (.inl (lA g3))))] sz) := by
  refine Met.ofW (cc := cX2_beside) (maxL := 10) (ret := (some .long)) (by decide) rfl ?_
  intro p e s m args below meth c s₁ B hml hv
  obtain ⟨rfl, hsz, hP, hK, hD0⟩ := hv
  have hx := B.exec
  have hb := B.bytes
  have hr := B.returns
  have hts := atoms_spec (ws := ws_ yX2_beside cX2_beside 10 (some .long)) B.pre
  have hts : ∀ w ∈ lw_all, w.before _ s = true := fun w h => hts w (List.mem_cons_of_mem _ h)
  have hown : s.vm.findClass RX2 = some m.cls := findClass_of_methodNamed B.named
  have hlocks := B.notSynchronized
  subst hsz
  have hD := hD0.self (sz := s.heap.size)
  generalize hAe : va_A [(k0, .inr (2, [.ref k1, .int (nI (n)), .ref k2, .ref k3])), (k1, .inl (e1, 10, .inl (iA g1))), (k2, .inl (e2, 1024, .inr (.inl (lA g2)))), (k3, .inl (e3, 110, .inr (.inl (lA g3))))] s.heap.size = A at hD ⊢
  have hA : ∀ q : Nat, s.heap.size ≤ q → A q := fun q h => by rw [← hAe]; exact Or.inr h
  have hS : va_S A s.heap s.heap [] := va_S.rf
  have hP : va_P (dC, dI) vwCl [(k0, .inr (2, [.ref k1, .int (nI (n)), .ref k2, .ref k3])), (k1, .inl (e1, 10, .inl (iA g1))), (k2, .inl (e2, 1024, .inr (.inl (lA g2)))), (k3, .inl (e3, 110, .inr (.inl (lA g3))))] s.heap := hP
  have hl := lv_entry ([.ref k0]) (n := 10) (Nat.le_of_ble_eq_true rfl)
  rw [lg_entry_eq]
  generalize (lg_sl ([.ref k0]) ++ List.replicate (10 - (lg_sl ([.ref k0])).length) Slot.unset).toArray = ls at hl ⊢
  have hl : lv_has ls 10 [(0, .ref k0)] := hl
  refine lv_iconst (v := nI 1) hx hb dX2_beside_0 (by decide) ?_
  refine lv_istore_n (lv' := [(1, .int (nI (1))), (0, .ref k0)]) hx hb dX2_beside_1 rfl hl (by decide) rfl (fun ls hl => ?_)
  refine lp_mb_A hx hb hown hts hn hw hK (fun g' H locs ls hI hP hD hS hl => ?_) (n + 1) 1 g3 (by omega) (by omega) (by omega) (mb_0 _ _ _) _ _ ls hP hD hS (lv_sub hl [0, 1] rfl)
  refine lv_aload_n hx hb dX2_beside_159 rfl (lv_at hl 0 rfl) ?_
  refine va_get (D := (dC, dI)) (ci := 2) (v := .int (nI (n))) (C := RX2) (T := TX2) (N := 4) hx hb hts in_X2 hown hK hP 0 rfl rfl 1 (by decide) (hts _ q90) (fun _ h9 => h9) rfl dX2_beside_160 ?_
  refine lv_if_ne (tgt := 170) hx hb dX2_beside_163 (by decide) (fun c_163 => ?_) (fun c_163 => ?_)
  · have c_163 : n ≠ 0 := ci_ne (a := n) (b := 0) c_163 (by omega) (by omega)
    refine lv_aload_n hx hb dX2_beside_170 rfl (lv_at hl 0 rfl) ?_
    refine va_get (D := (dC, dI)) (ci := 2) (v := .ref k3) (C := RX2) (T := TX2) (N := 4) hx hb hts in_X2 hown hK hP 0 rfl rfl 3 (by decide) (hts _ q92) (fun _ h9 => h9) rfl dX2_beside_171 ?_
    refine lv_aload_n hx hb dX2_beside_174 rfl (lv_at hl 0 rfl) ?_
    refine va_get (D := (dC, dI)) (ci := 2) (v := .int (nI (n))) (C := RX2) (T := TX2) (N := 4) hx hb hts in_X2 hown hK hP 0 rfl rfl 1 (by decide) (hts _ q90) (fun _ h9 => h9) rfl dX2_beside_175 ?_
    refine va_lald hx hb hK hP 3 2 rfl rfl (in_nI (n := n) (by omega) (by omega)) dX2_beside_178 ?_
    refine w_l (lA_at (g := g') (k := n) (by omega)) ?_
    have hbest : gw_best (sg g1 0 n) (g' n) := by
      have h9 := (hI 0 n (by omega) (by omega) (Or.inl (by omega))).1
      rwa [show 11 * 0 + n = n by omega] at h9
    have hP9 := hP.sub (ws' := [(k0, .inr (2, [.ref k1, .int (nI (n)), .ref k2, .ref k3])), (k1, .inl (e1, 10, .inl (iA g1))), (k2, .inl (e2, 1024, .inr (.inl (lA g2)))), (k3, .inl (e3, 110, .inr (.inl (lA g'))))]) [0, 1, 2, 3] rfl
    have hD9 := hD.sub (ws' := [(k0, .inr (2, [.ref k1, .int (nI (n)), .ref k2, .ref k3])), (k1, .inl (e1, 10, .inl (iA g1))), (k2, .inl (e2, 1024, .inr (.inl (lA g2)))), (k3, .inl (e3, 110, .inr (.inl (lA g'))))]) [0, 1, 2, 3] (by decide) rfl
    have hK9 := hK.sub (tys' := [(e1, .int), (e2, .long), (e3, .long)]) [0, 1, 2] rfl
    exact W.lret (v := lN (g' n)) hx hb hr (fun t ht hW => ⟨⟨lN (g' n), g', rfl, Or.inr ⟨by omega, _, hbest, rfl⟩, by rw [ht]; exact hP9, va_K.moved hW.alike hK9, hD9⟩, hS.F ht⟩) hS.2.2 dX2_beside_179
  · have c_163 : n = 0 := ci_eq (a := n) (b := 0) c_163 (by omega) (by omega)
    refine lv_lconst (v := lN 0) hx hb dX2_beside_166 rfl ?_
    refine lv_goto (tgt := 179) hx hb dX2_beside_167 (by decide) ?_
    have hP9 := hP.sub (ws' := [(k0, .inr (2, [.ref k1, .int (nI (n)), .ref k2, .ref k3])), (k1, .inl (e1, 10, .inl (iA g1))), (k2, .inl (e2, 1024, .inr (.inl (lA g2)))), (k3, .inl (e3, 110, .inr (.inl (lA g'))))]) [0, 1, 2, 3] rfl
    have hD9 := hD.sub (ws' := [(k0, .inr (2, [.ref k1, .int (nI (n)), .ref k2, .ref k3])), (k1, .inl (e1, 10, .inl (iA g1))), (k2, .inl (e2, 1024, .inr (.inl (lA g2)))), (k3, .inl (e3, 110, .inr (.inl (lA g'))))]) [0, 1, 2, 3] (by decide) rfl
    have hK9 := hK.sub (tys' := [(e1, .int), (e2, .long), (e3, .long)]) [0, 1, 2] rfl
    exact W.lret (v := lN (0)) hx hb hr (fun t ht hW => ⟨⟨lN (0), g', rfl, Or.inl ⟨by omega, rfl⟩, by rw [ht]; exact hP9, va_K.moved hW.alike hK9, hD9⟩, hS.F ht⟩) hS.2.2 dX2_beside_179
end
section
abbrev nwL : Cond := .methodLinkNest "MergeDesk" 15 ⟨"MergeDesk$Least", "<init>", "()V"⟩ "MergeDesk"
set_option maxHeartbeats 4000000 in
set_option maxRecDepth 100000 in
theorem metX0_init (l : Launch) (dC : Nat → ClassId) (dI : Nat → Nat → Nat) (h0 sz : Nat) : Met l yX0_init (ws_ yX0_init cX0_init 1 none) ({ frames := 2, cells := 4, slots := 28, locals := 32 }) (va_Pc [.ref h0] (fun U => U.heap.size = sz ∧ va_P (dC, dI) vwCl [(h0, .inr (0, [.null, .null, .null, .int (nI (0))]))] U.heap ∧ va_K (dC, dI) vwCl [] U ∧ va_D (fun _ => True) [(h0, .inr (0, [.null, .null, .null, .int (nI (0))]))] ∧ va_Nw nwL U)) (va_Qv (fun u : (Nat × Nat × Nat × Nat) × (ClassId × ClassId × ClassId) => True) (fun u t => va_P (dC, dI) vwCl [(h0, .inr (0, [.ref u.1.1, .ref u.1.2.1, .ref u.1.2.2.1, .int (nI (0))])), (u.1.1, .inl (u.2.1, 8, .inl (iA (fun _ => 0)))), (u.1.2.1, .inr (1, [.ref u.1.2.2.2, .int (nI (0))])), (u.1.2.2.1, .inl (u.2.2.1, 8, .inr (.inl (lA (fun _ => 0))))), (u.1.2.2.2, .inl (u.2.2.2, 10, .inr (.inl (lA (fun _ => 0)))))] t.heap ∧ va_K (dC, dI) vwCl [(u.2.1, .int), (u.2.2.1, .long), (u.2.2.2, .long)] t ∧ va_D (va_A [(h0, .inr (0, [.null, .null, .null, .int (nI (0))]))] sz) [(h0, .inr (0, [.ref u.1.1, .ref u.1.2.1, .ref u.1.2.2.1, .int (nI (0))])), (u.1.1, .inl (u.2.1, 8, .inl (iA (fun _ => 0)))), (u.1.2.1, .inr (1, [.ref u.1.2.2.2, .int (nI (0))])), (u.1.2.2.1, .inl (u.2.2.1, 8, .inr (.inl (lA (fun _ => 0))))), (u.1.2.2.2, .inl (u.2.2.2, 10, .inr (.inl (lA (fun _ => 0)))))]) (va_A [(h0, .inr (0, [.null, .null, .null, .int (nI (0))]))] sz)) 4 28 (va_A [(h0, .inr (0, [.null, .null, .null, .int (nI (0))]))] sz) := by
  refine Met.ofW (cc := cX0_init) (maxL := 1) (ret := none) (by decide) rfl ?_
  intro p e s m args below meth c s₁ B hml hv
  obtain ⟨rfl, hsz, hP, hK, hD0, hEx⟩ := hv
  have hx := B.exec
  have hb := B.bytes
  have hr := B.returns
  have hts := atoms_spec (ws := ws_ yX0_init cX0_init 1 none) B.pre
  have hts : ∀ w ∈ lw_all, w.before _ s = true := fun w h => hts w (List.mem_cons_of_mem _ h)
  have hown : s.vm.findClass RX0 = some m.cls := findClass_of_methodNamed B.named
  have hlocks := B.notSynchronized
  have hin : meth.name = "<init>" := (name_of_methodNamed B.named B.method).1
  subst hsz
  have hD := hD0.self (sz := s.heap.size)
  generalize hAe : va_A [(h0, .inr (0, [.null, .null, .null, .int (nI (0))]))] s.heap.size = A at hD ⊢
  have hA : ∀ q : Nat, s.heap.size ≤ q → A q := fun q h => by rw [← hAe]; exact Or.inr h
  have hS : va_S A s.heap s.heap [] := va_S.rf
  have hP : va_P (dC, dI) vwCl [(h0, .inr (0, [.null, .null, .null, .int (nI (0))]))] s.heap := hP
  have hl := lv_entry ([.ref h0]) (n := 1) (Nat.le_of_ble_eq_true rfl)
  rw [lg_entry_eq]
  generalize (lg_sl ([.ref h0]) ++ List.replicate (1 - (lg_sl ([.ref h0])).length) Slot.unset).toArray = ls at hl ⊢
  have hl : lv_has ls 1 [(0, .ref h0)] := hl
  refine lv_aload_n hx hb dX0_init_0 rfl (lv_at hl 0 rfl) ?_
  refine W.objInit hx hb hown (hts _ q11) (hts _ q12) (hts _ q13) rfl (by rw [hml]; exact hl.1) rfl dX0_init_1 (Nat.le_of_ble_eq_true rfl) (Nat.le_of_ble_eq_true rfl) ?_
  refine W.eq (g2 := F0 m 4 ls []) rfl ?_
  refine lv_aload_n hx hb dX0_init_4 rfl (lv_at hl 0 rfl) ?_
  refine lv_bipush (v := nI 8) hx hb dX0_init_5 (by decide) ?_
  refine va_newa (atype := .int) hx hb (hts _ q27) (ty := .int) rfl hK hP hD hS hA (n := nI 8) (N' := 8) (a0 := (8, .inl (iA (fun _ => 0)))) (fun _ => rfl) (by decide) (by decide) (by decide) (Nat.le_of_ble_eq_true rfl) (Nat.le_of_ble_eq_true rfl) dX0_init_7 (fun h1 d1 H hK hP hD hS => ?_)
  have hK : va_K (dC, dI) vwCl [(d1, .int)] s := hK
  have hP : va_P (dC, dI) vwCl [(h0, .inr (0, [.null, .null, .null, .int (nI (0))])), (h1, .inl (d1, 8, .inl (iA (fun _ => 0))))] H := hP
  have hD : va_D A [(h0, .inr (0, [.null, .null, .null, .int (nI (0))])), (h1, .inl (d1, 8, .inl (iA (fun _ => 0))))] := hD
  refine W.widen (k := 1) (n := 8) (by omega) (by omega) ?_
  refine va_putF (D := (dC, dI)) (ci := 0) (v := .ref h1) (ty := .array .int) (C := RX0) (T := TX0) (N := 4) hx hb hts in_X0 tyX0 tyX0_ok nmX0 hown hK hP hD hS 0 rfl rfl 0 (by decide) (hts _ q29) (fun _ h9 => h9) rfl hin rfl (by decide +kernel) rfl rfl (Nat.le_of_ble_eq_true rfl) dX0_init_9 (fun H locs hP hD hS => ?_)
  have hP : va_P (dC, dI) vwCl [(h0, .inr (0, [.ref h1, .null, .null, .int (nI (0))])), (h1, .inl (d1, 8, .inl (iA (fun _ => 0))))] H := hP
  have hD : va_D A [(h0, .inr (0, [.ref h1, .null, .null, .int (nI (0))])), (h1, .inl (d1, 8, .inl (iA (fun _ => 0))))] := hD
  refine lv_aload_n hx hb dX0_init_12 rfl (lv_at hl 0 rfl) ?_
  refine va_new (ci := 1) (fs := [.null, .int (nI 0)]) (C := RX1) (T := TX1) (N := 2) hx hb hts in_X1 tyX1 tyX1_ok hown (hts _ q14) (hts _ q15) (hts _ q4) hK hP hD hS hA rfl (fun j hj => by rcases (show j = 0 ∨ j = 1 by omega) with rfl | rfl <;> rfl) (Nat.le_of_ble_eq_true rfl) (Nat.le_of_ble_eq_true rfl) dX0_init_13 (fun h2 H hP hD hS => ?_)
  have hP : va_P (dC, dI) vwCl [(h0, .inr (0, [.ref h1, .null, .null, .int (nI (0))])), (h1, .inl (d1, 8, .inl (iA (fun _ => 0)))), (h2, .inr (1, [.null, .int (nI (0))]))] H := hP
  have hD : va_D A [(h0, .inr (0, [.ref h1, .null, .null, .int (nI (0))])), (h1, .inl (d1, 8, .inl (iA (fun _ => 0)))), (h2, .inr (1, [.null, .int (nI (0))]))] := hD
  refine W.widen (k := 2) (n := 10) (by omega) (by omega) ?_
  refine lv_dup hx hb dX0_init_16 rfl ?_
  have hPc := hP.sub (ws' := [(h2, .inr (1, [.null, .int (nI (0))]))]) [2] rfl
  have hDc := hD.sub (ws' := [(h2, .inr (1, [.null, .int (nI (0))]))]) [2] (by decide) rfl
  have hKc := hK.sub (tys' := []) [] rfl
  have hFc := va_free (wc := [(h2, .inr (1, [.null, .int (nI (0))]))]) hD hS hA [2] rfl
  refine va_callv (va_runIN (As := []) (rest := [.ref h2, .ref h0]) ⟨hx, hb, hml, hown, hts⟩ (metX1_init l dC dI h2 H.size) ⟨va_cnB 0 hts (lw_meth q18) rfl rfl rfl hEx (hts _ q4) (by decide +kernel) ⟨Nat.le_of_ble_eq_true rfl, Nat.le_of_ble_eq_true rfl⟩, rfl, hts _ q17⟩ ⟨fun a U g mk q => by obtain ⟨q0, q1, qP, qK, qD⟩ := q; exact ⟨q0, q1, qP, va_K.moved (u := U) (U := U.calling g mk a) (Vm.Alike.refl U.vm) qK, qD⟩, fun U hU hW => ⟨rfl, by rw [hU], by rw [hU]; exact hPc, va_K.moved hW.alike hKc, hDc.weaken (fun _ _ _ _ => trivial)⟩⟩ rfl rfl hl.1 rfl (lv_room (Nat.le_of_ble_eq_true rfl)) dX0_init_17 ⟨Nat.le_of_ble_eq_true rfl, Nat.le_of_ble_eq_true rfl⟩) hS (fun q _ h => hFc q h) hFc (fun u1 t H1 locs ht hvm hw1 hB1 hz1 hk1 hS => ?_)
  obtain ⟨h4, d4⟩ := u1
  obtain ⟨hP1, hK1, hD1⟩ := hB1
  rw [ht] at hP1
  have hK1 := va_K.moved hvm.symm hK1
  obtain ⟨hP, hD⟩ := va_join (wr := [(h0, .inr (0, [.ref h1, .null, .null, .int (nI (0))])), (h1, .inl (d1, 8, .inl (iA (fun _ => 0))))]) (w1 := [(h2, .inr (1, [.ref h4, .int (nI (0))])), (h4, .inl (d4, 10, .inr (.inl (lA (fun _ => 0)))))]) hP hD [2] [0, 1] rfl rfl (by decide) (by decide) hk1 hFc hP1 hD1
  have hK := hK.app hK1
  generalize H1 = H at hP hS ⊢
  have hK : va_K (dC, dI) vwCl [(d1, .int), (d4, .long)] s := hK
  have hP : va_P (dC, dI) vwCl [(h0, .inr (0, [.ref h1, .null, .null, .int (nI (0))])), (h1, .inl (d1, 8, .inl (iA (fun _ => 0)))), (h2, .inr (1, [.ref h4, .int (nI (0))])), (h4, .inl (d4, 10, .inr (.inl (lA (fun _ => 0)))))] H := hP
  have hD : va_D A [(h0, .inr (0, [.ref h1, .null, .null, .int (nI (0))])), (h1, .inl (d1, 8, .inl (iA (fun _ => 0)))), (h2, .inr (1, [.ref h4, .int (nI (0))])), (h4, .inl (d4, 10, .inr (.inl (lA (fun _ => 0)))))] := hD
  refine W.widen (k := 3) (n := 20) (by omega) (by omega) ?_
  refine va_putF (D := (dC, dI)) (ci := 0) (v := .ref h2) (ty := .object "MergeDesk$Least") (C := RX0) (T := TX0) (N := 4) hx hb hts in_X0 tyX0 tyX0_ok nmX0 hown hK hP hD hS 0 rfl rfl 1 (by decide) (hts _ q30) (fun _ h9 => h9) rfl hin rfl (by decide +kernel) rfl rfl (Nat.le_of_ble_eq_true rfl) dX0_init_20 (fun H locs hP hD hS => ?_)
  have hP : va_P (dC, dI) vwCl [(h0, .inr (0, [.ref h1, .ref h2, .null, .int (nI (0))])), (h1, .inl (d1, 8, .inl (iA (fun _ => 0)))), (h2, .inr (1, [.ref h4, .int (nI (0))])), (h4, .inl (d4, 10, .inr (.inl (lA (fun _ => 0)))))] H := hP
  have hD : va_D A [(h0, .inr (0, [.ref h1, .ref h2, .null, .int (nI (0))])), (h1, .inl (d1, 8, .inl (iA (fun _ => 0)))), (h2, .inr (1, [.ref h4, .int (nI (0))])), (h4, .inl (d4, 10, .inr (.inl (lA (fun _ => 0)))))] := hD
  refine lv_aload_n hx hb dX0_init_23 rfl (lv_at hl 0 rfl) ?_
  refine lv_bipush (v := nI 8) hx hb dX0_init_24 (by decide) ?_
  refine va_newa (atype := .long) hx hb (hts _ q28) (ty := .long) rfl hK hP hD hS hA (n := nI 8) (N' := 8) (a0 := (8, .inr (.inl (lA (fun _ => 0))))) (fun _ => rfl) (by decide) (by decide) (by decide) (Nat.le_of_ble_eq_true rfl) (Nat.le_of_ble_eq_true rfl) dX0_init_26 (fun h3 d3 H hK hP hD hS => ?_)
  have hK : va_K (dC, dI) vwCl [(d1, .int), (d4, .long), (d3, .long)] s := hK
  have hP : va_P (dC, dI) vwCl [(h0, .inr (0, [.ref h1, .ref h2, .null, .int (nI (0))])), (h1, .inl (d1, 8, .inl (iA (fun _ => 0)))), (h2, .inr (1, [.ref h4, .int (nI (0))])), (h4, .inl (d4, 10, .inr (.inl (lA (fun _ => 0))))), (h3, .inl (d3, 8, .inr (.inl (lA (fun _ => 0)))))] H := hP
  have hD : va_D A [(h0, .inr (0, [.ref h1, .ref h2, .null, .int (nI (0))])), (h1, .inl (d1, 8, .inl (iA (fun _ => 0)))), (h2, .inr (1, [.ref h4, .int (nI (0))])), (h4, .inl (d4, 10, .inr (.inl (lA (fun _ => 0))))), (h3, .inl (d3, 8, .inr (.inl (lA (fun _ => 0)))))] := hD
  refine W.widen (k := 4) (n := 28) (by omega) (by omega) ?_
  refine va_putF (D := (dC, dI)) (ci := 0) (v := .ref h3) (ty := .array .long) (C := RX0) (T := TX0) (N := 4) hx hb hts in_X0 tyX0 tyX0_ok nmX0 hown hK hP hD hS 0 rfl rfl 2 (by decide) (hts _ q31) (fun _ h9 => h9) rfl hin rfl (by decide +kernel) rfl rfl (Nat.le_of_ble_eq_true rfl) dX0_init_28 (fun H locs hP hD hS => ?_)
  have hP : va_P (dC, dI) vwCl [(h0, .inr (0, [.ref h1, .ref h2, .ref h3, .int (nI (0))])), (h1, .inl (d1, 8, .inl (iA (fun _ => 0)))), (h2, .inr (1, [.ref h4, .int (nI (0))])), (h4, .inl (d4, 10, .inr (.inl (lA (fun _ => 0))))), (h3, .inl (d3, 8, .inr (.inl (lA (fun _ => 0)))))] H := hP
  have hD : va_D A [(h0, .inr (0, [.ref h1, .ref h2, .ref h3, .int (nI (0))])), (h1, .inl (d1, 8, .inl (iA (fun _ => 0)))), (h2, .inr (1, [.ref h4, .int (nI (0))])), (h4, .inl (d4, 10, .inr (.inl (lA (fun _ => 0))))), (h3, .inl (d3, 8, .inr (.inl (lA (fun _ => 0)))))] := hD
  have hP9 := hP.sub (ws' := [(h0, .inr (0, [.ref h1, .ref h2, .ref h3, .int (nI (0))])), (h1, .inl (d1, 8, .inl (iA (fun _ => 0)))), (h2, .inr (1, [.ref h4, .int (nI (0))])), (h3, .inl (d3, 8, .inr (.inl (lA (fun _ => 0))))), (h4, .inl (d4, 10, .inr (.inl (lA (fun _ => 0)))))]) [0, 1, 2, 4, 3] rfl
  have hD9 := hD.sub (ws' := [(h0, .inr (0, [.ref h1, .ref h2, .ref h3, .int (nI (0))])), (h1, .inl (d1, 8, .inl (iA (fun _ => 0)))), (h2, .inr (1, [.ref h4, .int (nI (0))])), (h3, .inl (d3, 8, .inr (.inl (lA (fun _ => 0))))), (h4, .inl (d4, 10, .inr (.inl (lA (fun _ => 0)))))]) [0, 1, 2, 4, 3] (by decide) rfl
  have hK9 := hK.sub (tys' := [(d1, .int), (d3, .long), (d4, .long)]) [0, 2, 1] rfl
  exact W.vret hx hb hr (fun t ht hW => ⟨⟨((h1, h2, h3, h4), (d1, d3, d4)), rfl, trivial, by rw [ht]; exact hP9, va_K.moved hW.alike hK9, hD9⟩, hS.F ht⟩) hS.2.2 dX0_init_31
set_option maxHeartbeats 4000000 in
set_option maxRecDepth 100000 in
theorem metX0_put (l : Launch) (dC : Nat → ClassId) (dI : Nat → Nat → Nat) (h0 h1 h2 h3 h4 : Nat) (d1 d3 d4 : ClassId) (sz n k : Nat) (g1 g3 g4 : Nat → Nat) (v : Int32) (hn : n ≤ 8) : Met l yX0_put (ws_ yX0_put cX0_put 2 (some .boolean)) ({ frames := 0, cells := 0, slots := 0, locals := 0 }) (va_Pc [.ref h0, .int v] (fun U => U.heap.size = sz ∧ va_P (dC, dI) vwCl [(h0, .inr (0, [.ref h1, .ref h2, .ref h3, .int (nI (n))])), (h1, .inl (d1, 8, .inl (iA g1))), (h2, .inr (1, [.ref h4, .int (nI (k))])), (h3, .inl (d3, 8, .inr (.inl (lA g3)))), (h4, .inl (d4, 10, .inr (.inl (lA g4))))] U.heap ∧ va_K (dC, dI) vwCl [(d1, .int), (d3, .long), (d4, .long)] U ∧ va_D (fun _ => True) [(h0, .inr (0, [.ref h1, .ref h2, .ref h3, .int (nI (n))])), (h1, .inl (d1, 8, .inl (iA g1))), (h2, .inr (1, [.ref h4, .int (nI (k))])), (h3, .inl (d3, 8, .inr (.inl (lA g3)))), (h4, .inl (d4, 10, .inr (.inl (lA g4))))])) (va_Qi (fun (r : Int32) (u : Nat × (Nat → Nat)) => (n = 8 ∧ r = nI 0 ∧ u = (n, g1)) ∨ (n < 8 ∧ r = nI 1 ∧ u = (n + 1, nu g1 n (v.toBitVec.toNat % 2 ^ 16)))) (fun u t => va_P (dC, dI) vwCl [(h0, .inr (0, [.ref h1, .ref h2, .ref h3, .int (nI (u.1))])), (h1, .inl (d1, 8, .inl (iA u.2))), (h2, .inr (1, [.ref h4, .int (nI (k))])), (h3, .inl (d3, 8, .inr (.inl (lA g3)))), (h4, .inl (d4, 10, .inr (.inl (lA g4))))] t.heap ∧ va_K (dC, dI) vwCl [(d1, .int), (d3, .long), (d4, .long)] t ∧ va_D (va_A [(h0, .inr (0, [.ref h1, .ref h2, .ref h3, .int (nI (n))])), (h1, .inl (d1, 8, .inl (iA g1))), (h2, .inr (1, [.ref h4, .int (nI (k))])), (h3, .inl (d3, 8, .inr (.inl (lA g3)))), (h4, .inl (d4, 10, .inr (.inl (lA g4))))] sz) [(h0, .inr (0, [.ref h1, .ref h2, .ref h3, .int (nI (u.1))])), (h1, .inl (d1, 8, .inl (iA u.2))), (h2, .inr (1, [.ref h4, .int (nI (k))])), (h3, .inl (d3, 8, .inr (.inl (lA g3)))), (h4, .inl (d4, 10, .inr (.inl (lA g4))))]) (va_A [(h0, .inr (0, [.ref h1, .ref h2, .ref h3, .int (nI (n))])), (h1, .inl (d1, 8, .inl (iA g1))), (h2, .inr (1, [.ref h4, .int (nI (k))])), (h3, .inl (d3, 8, .inr (.inl (lA g3)))), (h4, .inl (d4, 10, .inr (.inl (lA g4))))] sz)) 0 0 (va_A [(h0, .inr (0, [.ref h1, .ref h2, .ref h3, .int (nI (n))])), (h1, .inl (d1, 8, .inl (iA g1))), (h2, .inr (1, [.ref h4, .int (nI (k))])), (h3, .inl (d3, 8, .inr (.inl (lA g3)))), (h4, .inl (d4, 10, .inr (.inl (lA g4))))] sz) := by
  refine Met.ofW (cc := cX0_put) (maxL := 2) (ret := (some .boolean)) (by decide) rfl ?_
  intro p e s m args below meth c s₁ B hml hv
  obtain ⟨rfl, hsz, hP, hK, hD0⟩ := hv
  have hx := B.exec
  have hb := B.bytes
  have hr := B.returns
  have hts := atoms_spec (ws := ws_ yX0_put cX0_put 2 (some .boolean)) B.pre
  have hts : ∀ w ∈ lw_all, w.before _ s = true := fun w h => hts w (List.mem_cons_of_mem _ h)
  have hown : s.vm.findClass RX0 = some m.cls := findClass_of_methodNamed B.named
  have hlocks := B.notSynchronized
  subst hsz
  have hD := hD0.self (sz := s.heap.size)
  generalize hAe : va_A [(h0, .inr (0, [.ref h1, .ref h2, .ref h3, .int (nI (n))])), (h1, .inl (d1, 8, .inl (iA g1))), (h2, .inr (1, [.ref h4, .int (nI (k))])), (h3, .inl (d3, 8, .inr (.inl (lA g3)))), (h4, .inl (d4, 10, .inr (.inl (lA g4))))] s.heap.size = A at hD ⊢
  have hA : ∀ q : Nat, s.heap.size ≤ q → A q := fun q h => by rw [← hAe]; exact Or.inr h
  have hS : va_S A s.heap s.heap [] := va_S.rf
  have hP : va_P (dC, dI) vwCl [(h0, .inr (0, [.ref h1, .ref h2, .ref h3, .int (nI (n))])), (h1, .inl (d1, 8, .inl (iA g1))), (h2, .inr (1, [.ref h4, .int (nI (k))])), (h3, .inl (d3, 8, .inr (.inl (lA g3)))), (h4, .inl (d4, 10, .inr (.inl (lA g4))))] s.heap := hP
  have hl := lv_entry ([.ref h0, .int v]) (n := 2) (Nat.le_of_ble_eq_true rfl)
  rw [lg_entry_eq]
  generalize (lg_sl ([.ref h0, .int v]) ++ List.replicate (2 - (lg_sl ([.ref h0, .int v])).length) Slot.unset).toArray = ls at hl ⊢
  have hl : lv_has ls 2 [(0, .ref h0), (1, .int (v))] := hl
  refine lv_aload_n hx hb dX0_put_0 rfl (lv_at hl 0 rfl) ?_
  refine va_get (D := (dC, dI)) (ci := 0) (v := .int (nI (n))) (C := RX0) (T := TX0) (N := 4) hx hb hts in_X0 hown hK hP 0 rfl rfl 3 (by decide) (hts _ q32) (fun _ h9 => h9) rfl dX0_put_1 ?_
  refine lv_bipush (v := nI 8) hx hb dX0_put_4 (by decide) ?_
  refine lv_icmp_ne (tgt := 11) hx hb dX0_put_6 (by decide) (fun c_6 => ?_) (fun c_6 => ?_)
  · have c_6 : n ≠ 8 := ci_ne c_6 (by omega) (by omega)
    have hn8 : n < 8 := by omega
    refine lv_aload_n hx hb dX0_put_11 rfl (lv_at hl 0 rfl) ?_
    refine va_get (D := (dC, dI)) (ci := 0) (v := .ref h1) (C := RX0) (T := TX0) (N := 4) hx hb hts in_X0 hown hK hP 0 rfl rfl 0 (by decide) (hts _ q29) (fun _ h9 => h9) rfl dX0_put_12 ?_
    refine lv_aload_n hx hb dX0_put_15 rfl (lv_at hl 0 rfl) ?_
    refine lv_dup hx hb dX0_put_16 rfl ?_
    refine va_get (D := (dC, dI)) (ci := 0) (v := .int (nI (n))) (C := RX0) (T := TX0) (N := 4) hx hb hts in_X0 hown hK hP 0 rfl rfl 3 (by decide) (hts _ q32) (fun _ h9 => h9) rfl dX0_put_17 ?_
    refine lv_dup_x1 hx hb dX0_put_20 rfl rfl ?_
    refine lv_iconst (v := nI 1) hx hb dX0_put_21 (by decide) ?_
    refine lv_iadd hx hb dX0_put_22 ?_
    refine w_i (nI_add (n) (1)) ?_
    refine va_put (D := (dC, dI)) (ci := 0) (v := .int (nI (n + 1))) (ty := .int) (C := RX0) (T := TX0) (N := 4) hx hb hts in_X0 tyX0 tyX0_ok nmX0 hown hK hP hD hS 0 rfl rfl 3 (by decide) (hts _ q32) (fun _ h9 => h9) rfl (by decide +kernel) rfl rfl (Nat.le_of_ble_eq_true rfl) dX0_put_23 (fun H locs hP hD hS => ?_)
    have hP : va_P (dC, dI) vwCl [(h0, .inr (0, [.ref h1, .ref h2, .ref h3, .int (nI (n + 1))])), (h1, .inl (d1, 8, .inl (iA g1))), (h2, .inr (1, [.ref h4, .int (nI (k))])), (h3, .inl (d3, 8, .inr (.inl (lA g3)))), (h4, .inl (d4, 10, .inr (.inl (lA g4))))] H := hP
    have hD : va_D A [(h0, .inr (0, [.ref h1, .ref h2, .ref h3, .int (nI (n + 1))])), (h1, .inl (d1, 8, .inl (iA g1))), (h2, .inr (1, [.ref h4, .int (nI (k))])), (h3, .inl (d3, 8, .inr (.inl (lA g3)))), (h4, .inl (d4, 10, .inr (.inl (lA g4))))] := hD
    refine lv_iload_n hx hb dX0_put_26 rfl (lv_at hl 1 rfl) ?_
    refine lv_ldc hx hb hown (hts _ q46) dX0_put_27 ?_
    refine w_i (show (65535 : Int32) = nI 65535 by decide) ?_
    refine lv_iand hx hb dX0_put_29 ?_
    refine w_i (pk_and (v) (m := nI 65535) 16 (by decide)) ?_
    refine va_iast hx hb hK hP hD hS 1 0 rfl rfl (in_nI (n := n) (by omega) (by omega)) dX0_put_30 (fun H locs hP hD hS => ?_)
    rw [iA_up (g := g1) (k := n) (v := (v).toBitVec.toNat % 2 ^ 16) (by omega)] at hP hD
    have hP : va_P (dC, dI) vwCl [(h0, .inr (0, [.ref h1, .ref h2, .ref h3, .int (nI (n + 1))])), (h1, .inl (d1, 8, .inl (iA (nu g1 (n) ((v).toBitVec.toNat % 2 ^ 16))))), (h2, .inr (1, [.ref h4, .int (nI (k))])), (h3, .inl (d3, 8, .inr (.inl (lA g3)))), (h4, .inl (d4, 10, .inr (.inl (lA g4))))] H := hP
    have hD : va_D A [(h0, .inr (0, [.ref h1, .ref h2, .ref h3, .int (nI (n + 1))])), (h1, .inl (d1, 8, .inl (iA (nu g1 (n) ((v).toBitVec.toNat % 2 ^ 16))))), (h2, .inr (1, [.ref h4, .int (nI (k))])), (h3, .inl (d3, 8, .inr (.inl (lA g3)))), (h4, .inl (d4, 10, .inr (.inl (lA g4))))] := hD
    refine lv_iconst (v := nI 1) hx hb dX0_put_31 (by decide) ?_
    have hP9 := hP.sub (ws' := [(h0, .inr (0, [.ref h1, .ref h2, .ref h3, .int (nI (n + 1))])), (h1, .inl (d1, 8, .inl (iA (nu g1 n (v.toBitVec.toNat % 2 ^ 16))))), (h2, .inr (1, [.ref h4, .int (nI (k))])), (h3, .inl (d3, 8, .inr (.inl (lA g3)))), (h4, .inl (d4, 10, .inr (.inl (lA g4))))]) [0, 1, 2, 3, 4] rfl
    have hD9 := hD.sub (ws' := [(h0, .inr (0, [.ref h1, .ref h2, .ref h3, .int (nI (n + 1))])), (h1, .inl (d1, 8, .inl (iA (nu g1 n (v.toBitVec.toNat % 2 ^ 16))))), (h2, .inr (1, [.ref h4, .int (nI (k))])), (h3, .inl (d3, 8, .inr (.inl (lA g3)))), (h4, .inl (d4, 10, .inr (.inl (lA g4))))]) [0, 1, 2, 3, 4] (by decide) rfl
    have hK9 := hK.sub (tys' := [(d1, .int), (d3, .long), (d4, .long)]) [0, 1, 2] rfl
    exact W.zret (v := nI (1)) hx hb hr rfl (fun t ht hW => ⟨⟨nI (1), (n + 1, nu g1 n (v.toBitVec.toNat % 2 ^ 16)), rfl, Or.inr ⟨by omega, rfl, rfl⟩, by rw [ht]; exact hP9, va_K.moved hW.alike hK9, hD9⟩, hS.F ht⟩) hS.2.2 dX0_put_32
  · have c_6 : n = 8 := ci_eq c_6 (by omega) (by omega)
    refine lv_iconst (v := nI 0) hx hb dX0_put_9 (by decide) ?_
    have hP9 := hP.sub (ws' := [(h0, .inr (0, [.ref h1, .ref h2, .ref h3, .int (nI (n))])), (h1, .inl (d1, 8, .inl (iA g1))), (h2, .inr (1, [.ref h4, .int (nI (k))])), (h3, .inl (d3, 8, .inr (.inl (lA g3)))), (h4, .inl (d4, 10, .inr (.inl (lA g4))))]) [0, 1, 2, 3, 4] rfl
    have hD9 := hD.sub (ws' := [(h0, .inr (0, [.ref h1, .ref h2, .ref h3, .int (nI (n))])), (h1, .inl (d1, 8, .inl (iA g1))), (h2, .inr (1, [.ref h4, .int (nI (k))])), (h3, .inl (d3, 8, .inr (.inl (lA g3)))), (h4, .inl (d4, 10, .inr (.inl (lA g4))))]) [0, 1, 2, 3, 4] (by decide) rfl
    have hK9 := hK.sub (tys' := [(d1, .int), (d3, .long), (d4, .long)]) [0, 1, 2] rfl
    exact W.zret (v := nI (0)) hx hb hr rfl (fun t ht hW => ⟨⟨nI (0), (n, g1), rfl, Or.inl ⟨by omega, rfl, rfl⟩, by rw [ht]; exact hP9, va_K.moved hW.alike hK9, hD9⟩, hS.F ht⟩) hS.2.2 dX0_put_10
set_option maxHeartbeats 4000000 in
set_option maxRecDepth 100000 in
theorem metX0_drop (l : Launch) (dC : Nat → ClassId) (dI : Nat → Nat → Nat) (h0 h1 h2 h3 h4 : Nat) (d1 d3 d4 : ClassId) (sz n k : Nat) (g1 g3 g4 : Nat → Nat) (hn : n ≤ 8) : Met l yX0_drop (ws_ yX0_drop cX0_drop 1 (some .boolean)) ({ frames := 0, cells := 0, slots := 0, locals := 0 }) (va_Pc [.ref h0] (fun U => U.heap.size = sz ∧ va_P (dC, dI) vwCl [(h0, .inr (0, [.ref h1, .ref h2, .ref h3, .int (nI (n))])), (h1, .inl (d1, 8, .inl (iA g1))), (h2, .inr (1, [.ref h4, .int (nI (k))])), (h3, .inl (d3, 8, .inr (.inl (lA g3)))), (h4, .inl (d4, 10, .inr (.inl (lA g4))))] U.heap ∧ va_K (dC, dI) vwCl [(d1, .int), (d3, .long), (d4, .long)] U ∧ va_D (fun _ => True) [(h0, .inr (0, [.ref h1, .ref h2, .ref h3, .int (nI (n))])), (h1, .inl (d1, 8, .inl (iA g1))), (h2, .inr (1, [.ref h4, .int (nI (k))])), (h3, .inl (d3, 8, .inr (.inl (lA g3)))), (h4, .inl (d4, 10, .inr (.inl (lA g4))))])) (va_Qi (fun (r : Int32) (u : Nat) => (n = 0 ∧ r = nI 0 ∧ u = 0) ∨ (0 < n ∧ r = nI 1 ∧ u = n - 1)) (fun u t => va_P (dC, dI) vwCl [(h0, .inr (0, [.ref h1, .ref h2, .ref h3, .int (nI (u))])), (h1, .inl (d1, 8, .inl (iA g1))), (h2, .inr (1, [.ref h4, .int (nI (k))])), (h3, .inl (d3, 8, .inr (.inl (lA g3)))), (h4, .inl (d4, 10, .inr (.inl (lA g4))))] t.heap ∧ va_K (dC, dI) vwCl [(d1, .int), (d3, .long), (d4, .long)] t ∧ va_D (va_A [(h0, .inr (0, [.ref h1, .ref h2, .ref h3, .int (nI (n))])), (h1, .inl (d1, 8, .inl (iA g1))), (h2, .inr (1, [.ref h4, .int (nI (k))])), (h3, .inl (d3, 8, .inr (.inl (lA g3)))), (h4, .inl (d4, 10, .inr (.inl (lA g4))))] sz) [(h0, .inr (0, [.ref h1, .ref h2, .ref h3, .int (nI (u))])), (h1, .inl (d1, 8, .inl (iA g1))), (h2, .inr (1, [.ref h4, .int (nI (k))])), (h3, .inl (d3, 8, .inr (.inl (lA g3)))), (h4, .inl (d4, 10, .inr (.inl (lA g4))))]) (va_A [(h0, .inr (0, [.ref h1, .ref h2, .ref h3, .int (nI (n))])), (h1, .inl (d1, 8, .inl (iA g1))), (h2, .inr (1, [.ref h4, .int (nI (k))])), (h3, .inl (d3, 8, .inr (.inl (lA g3)))), (h4, .inl (d4, 10, .inr (.inl (lA g4))))] sz)) 0 0 (va_A [(h0, .inr (0, [.ref h1, .ref h2, .ref h3, .int (nI (n))])), (h1, .inl (d1, 8, .inl (iA g1))), (h2, .inr (1, [.ref h4, .int (nI (k))])), (h3, .inl (d3, 8, .inr (.inl (lA g3)))), (h4, .inl (d4, 10, .inr (.inl (lA g4))))] sz) := by
  refine Met.ofW (cc := cX0_drop) (maxL := 1) (ret := (some .boolean)) (by decide) rfl ?_
  intro p e s m args below meth c s₁ B hml hv
  obtain ⟨rfl, hsz, hP, hK, hD0⟩ := hv
  have hx := B.exec
  have hb := B.bytes
  have hr := B.returns
  have hts := atoms_spec (ws := ws_ yX0_drop cX0_drop 1 (some .boolean)) B.pre
  have hts : ∀ w ∈ lw_all, w.before _ s = true := fun w h => hts w (List.mem_cons_of_mem _ h)
  have hown : s.vm.findClass RX0 = some m.cls := findClass_of_methodNamed B.named
  have hlocks := B.notSynchronized
  subst hsz
  have hD := hD0.self (sz := s.heap.size)
  generalize hAe : va_A [(h0, .inr (0, [.ref h1, .ref h2, .ref h3, .int (nI (n))])), (h1, .inl (d1, 8, .inl (iA g1))), (h2, .inr (1, [.ref h4, .int (nI (k))])), (h3, .inl (d3, 8, .inr (.inl (lA g3)))), (h4, .inl (d4, 10, .inr (.inl (lA g4))))] s.heap.size = A at hD ⊢
  have hA : ∀ q : Nat, s.heap.size ≤ q → A q := fun q h => by rw [← hAe]; exact Or.inr h
  have hS : va_S A s.heap s.heap [] := va_S.rf
  have hP : va_P (dC, dI) vwCl [(h0, .inr (0, [.ref h1, .ref h2, .ref h3, .int (nI (n))])), (h1, .inl (d1, 8, .inl (iA g1))), (h2, .inr (1, [.ref h4, .int (nI (k))])), (h3, .inl (d3, 8, .inr (.inl (lA g3)))), (h4, .inl (d4, 10, .inr (.inl (lA g4))))] s.heap := hP
  have hl := lv_entry ([.ref h0]) (n := 1) (Nat.le_of_ble_eq_true rfl)
  rw [lg_entry_eq]
  generalize (lg_sl ([.ref h0]) ++ List.replicate (1 - (lg_sl ([.ref h0])).length) Slot.unset).toArray = ls at hl ⊢
  have hl : lv_has ls 1 [(0, .ref h0)] := hl
  refine lv_aload_n hx hb dX0_drop_0 rfl (lv_at hl 0 rfl) ?_
  refine va_get (D := (dC, dI)) (ci := 0) (v := .int (nI (n))) (C := RX0) (T := TX0) (N := 4) hx hb hts in_X0 hown hK hP 0 rfl rfl 3 (by decide) (hts _ q32) (fun _ h9 => h9) rfl dX0_drop_1 ?_
  refine lv_if_ne (tgt := 9) hx hb dX0_drop_4 (by decide) (fun c_4 => ?_) (fun c_4 => ?_)
  · have c_4 : n ≠ 0 := ci_ne (a := n) (b := 0) c_4 (by omega) (by omega)
    refine lv_aload_n hx hb dX0_drop_9 rfl (lv_at hl 0 rfl) ?_
    refine lv_dup hx hb dX0_drop_10 rfl ?_
    refine va_get (D := (dC, dI)) (ci := 0) (v := .int (nI (n))) (C := RX0) (T := TX0) (N := 4) hx hb hts in_X0 hown hK hP 0 rfl rfl 3 (by decide) (hts _ q32) (fun _ h9 => h9) rfl dX0_drop_11 ?_
    refine lv_iconst (v := nI 1) hx hb dX0_drop_14 (by decide) ?_
    refine lv_isub hx hb dX0_drop_15 ?_
    refine w_i (pk_sub (a := n) (b := 1) (by omega)) ?_
    refine va_put (D := (dC, dI)) (ci := 0) (v := .int (nI (n - 1))) (ty := .int) (C := RX0) (T := TX0) (N := 4) hx hb hts in_X0 tyX0 tyX0_ok nmX0 hown hK hP hD hS 0 rfl rfl 3 (by decide) (hts _ q32) (fun _ h9 => h9) rfl (by decide +kernel) rfl rfl (Nat.le_of_ble_eq_true rfl) dX0_drop_16 (fun H locs hP hD hS => ?_)
    have hP : va_P (dC, dI) vwCl [(h0, .inr (0, [.ref h1, .ref h2, .ref h3, .int (nI (n - 1))])), (h1, .inl (d1, 8, .inl (iA g1))), (h2, .inr (1, [.ref h4, .int (nI (k))])), (h3, .inl (d3, 8, .inr (.inl (lA g3)))), (h4, .inl (d4, 10, .inr (.inl (lA g4))))] H := hP
    have hD : va_D A [(h0, .inr (0, [.ref h1, .ref h2, .ref h3, .int (nI (n - 1))])), (h1, .inl (d1, 8, .inl (iA g1))), (h2, .inr (1, [.ref h4, .int (nI (k))])), (h3, .inl (d3, 8, .inr (.inl (lA g3)))), (h4, .inl (d4, 10, .inr (.inl (lA g4))))] := hD
    refine lv_iconst (v := nI 1) hx hb dX0_drop_19 (by decide) ?_
    have hP9 := hP.sub (ws' := [(h0, .inr (0, [.ref h1, .ref h2, .ref h3, .int (nI (n - 1))])), (h1, .inl (d1, 8, .inl (iA g1))), (h2, .inr (1, [.ref h4, .int (nI (k))])), (h3, .inl (d3, 8, .inr (.inl (lA g3)))), (h4, .inl (d4, 10, .inr (.inl (lA g4))))]) [0, 1, 2, 3, 4] rfl
    have hD9 := hD.sub (ws' := [(h0, .inr (0, [.ref h1, .ref h2, .ref h3, .int (nI (n - 1))])), (h1, .inl (d1, 8, .inl (iA g1))), (h2, .inr (1, [.ref h4, .int (nI (k))])), (h3, .inl (d3, 8, .inr (.inl (lA g3)))), (h4, .inl (d4, 10, .inr (.inl (lA g4))))]) [0, 1, 2, 3, 4] (by decide) rfl
    have hK9 := hK.sub (tys' := [(d1, .int), (d3, .long), (d4, .long)]) [0, 1, 2] rfl
    exact W.zret (v := nI (1)) hx hb hr rfl (fun t ht hW => ⟨⟨nI (1), (n - 1), rfl, Or.inr ⟨by omega, rfl, rfl⟩, by rw [ht]; exact hP9, va_K.moved hW.alike hK9, hD9⟩, hS.F ht⟩) hS.2.2 dX0_drop_20
  · have c_4 : n = 0 := ci_eq (a := n) (b := 0) c_4 (by omega) (by omega)
    refine lv_iconst (v := nI 0) hx hb dX0_drop_7 (by decide) ?_
    have hP9 := hP.sub (ws' := [(h0, .inr (0, [.ref h1, .ref h2, .ref h3, .int (nI (n))])), (h1, .inl (d1, 8, .inl (iA g1))), (h2, .inr (1, [.ref h4, .int (nI (k))])), (h3, .inl (d3, 8, .inr (.inl (lA g3)))), (h4, .inl (d4, 10, .inr (.inl (lA g4))))]) [0, 1, 2, 3, 4] rfl
    have hD9 := hD.sub (ws' := [(h0, .inr (0, [.ref h1, .ref h2, .ref h3, .int (nI (n))])), (h1, .inl (d1, 8, .inl (iA g1))), (h2, .inr (1, [.ref h4, .int (nI (k))])), (h3, .inl (d3, 8, .inr (.inl (lA g3)))), (h4, .inl (d4, 10, .inr (.inl (lA g4))))]) [0, 1, 2, 3, 4] (by decide) rfl
    have hK9 := hK.sub (tys' := [(d1, .int), (d3, .long), (d4, .long)]) [0, 1, 2] rfl
    exact W.zret (v := nI (0)) hx hb hr rfl (fun t ht hW => ⟨⟨nI (0), n, rfl, Or.inl ⟨by omega, rfl, by omega⟩, by rw [ht]; exact hP9, va_K.moved hW.alike hK9, hD9⟩, hS.F ht⟩) hS.2.2 dX0_drop_8
set_option maxHeartbeats 4000000 in
set_option maxRecDepth 100000 in
theorem metX0_heaps (l : Launch) (dC : Nat → ClassId) (dI : Nat → Nat → Nat) (h0 h1 h2 h3 h4 : Nat) (d1 d3 d4 : ClassId) (sz n k : Nat) (g1 g3 g4 : Nat → Nat) : Met l yX0_heaps (ws_ yX0_heaps cX0_heaps 1 (some .int)) ({ frames := 0, cells := 0, slots := 0, locals := 0 }) (va_Pc [.ref h0] (fun U => U.heap.size = sz ∧ va_P (dC, dI) vwCl [(h0, .inr (0, [.ref h1, .ref h2, .ref h3, .int (nI (n))])), (h1, .inl (d1, 8, .inl (iA g1))), (h2, .inr (1, [.ref h4, .int (nI (k))])), (h3, .inl (d3, 8, .inr (.inl (lA g3)))), (h4, .inl (d4, 10, .inr (.inl (lA g4))))] U.heap ∧ va_K (dC, dI) vwCl [(d1, .int), (d3, .long), (d4, .long)] U ∧ va_D (fun _ => True) [(h0, .inr (0, [.ref h1, .ref h2, .ref h3, .int (nI (n))])), (h1, .inl (d1, 8, .inl (iA g1))), (h2, .inr (1, [.ref h4, .int (nI (k))])), (h3, .inl (d3, 8, .inr (.inl (lA g3)))), (h4, .inl (d4, 10, .inr (.inl (lA g4))))])) (va_Qi (fun (r : Int32) (_ : Unit) => r = nI n) (fun _ t => va_P (dC, dI) vwCl [(h0, .inr (0, [.ref h1, .ref h2, .ref h3, .int (nI (n))])), (h1, .inl (d1, 8, .inl (iA g1))), (h2, .inr (1, [.ref h4, .int (nI (k))])), (h3, .inl (d3, 8, .inr (.inl (lA g3)))), (h4, .inl (d4, 10, .inr (.inl (lA g4))))] t.heap ∧ va_K (dC, dI) vwCl [(d1, .int), (d3, .long), (d4, .long)] t ∧ va_D (va_A [(h0, .inr (0, [.ref h1, .ref h2, .ref h3, .int (nI (n))])), (h1, .inl (d1, 8, .inl (iA g1))), (h2, .inr (1, [.ref h4, .int (nI (k))])), (h3, .inl (d3, 8, .inr (.inl (lA g3)))), (h4, .inl (d4, 10, .inr (.inl (lA g4))))] sz) [(h0, .inr (0, [.ref h1, .ref h2, .ref h3, .int (nI (n))])), (h1, .inl (d1, 8, .inl (iA g1))), (h2, .inr (1, [.ref h4, .int (nI (k))])), (h3, .inl (d3, 8, .inr (.inl (lA g3)))), (h4, .inl (d4, 10, .inr (.inl (lA g4))))]) (va_A [(h0, .inr (0, [.ref h1, .ref h2, .ref h3, .int (nI (n))])), (h1, .inl (d1, 8, .inl (iA g1))), (h2, .inr (1, [.ref h4, .int (nI (k))])), (h3, .inl (d3, 8, .inr (.inl (lA g3)))), (h4, .inl (d4, 10, .inr (.inl (lA g4))))] sz)) 0 0 (va_A [(h0, .inr (0, [.ref h1, .ref h2, .ref h3, .int (nI (n))])), (h1, .inl (d1, 8, .inl (iA g1))), (h2, .inr (1, [.ref h4, .int (nI (k))])), (h3, .inl (d3, 8, .inr (.inl (lA g3)))), (h4, .inl (d4, 10, .inr (.inl (lA g4))))] sz) := by
  refine Met.ofW (cc := cX0_heaps) (maxL := 1) (ret := (some .int)) (by decide) rfl ?_
  intro p e s m args below meth c s₁ B hml hv
  obtain ⟨rfl, hsz, hP, hK, hD0⟩ := hv
  have hx := B.exec
  have hb := B.bytes
  have hr := B.returns
  have hts := atoms_spec (ws := ws_ yX0_heaps cX0_heaps 1 (some .int)) B.pre
  have hts : ∀ w ∈ lw_all, w.before _ s = true := fun w h => hts w (List.mem_cons_of_mem _ h)
  have hown : s.vm.findClass RX0 = some m.cls := findClass_of_methodNamed B.named
  have hlocks := B.notSynchronized
  subst hsz
  have hD := hD0.self (sz := s.heap.size)
  generalize hAe : va_A [(h0, .inr (0, [.ref h1, .ref h2, .ref h3, .int (nI (n))])), (h1, .inl (d1, 8, .inl (iA g1))), (h2, .inr (1, [.ref h4, .int (nI (k))])), (h3, .inl (d3, 8, .inr (.inl (lA g3)))), (h4, .inl (d4, 10, .inr (.inl (lA g4))))] s.heap.size = A at hD ⊢
  have hA : ∀ q : Nat, s.heap.size ≤ q → A q := fun q h => by rw [← hAe]; exact Or.inr h
  have hS : va_S A s.heap s.heap [] := va_S.rf
  have hP : va_P (dC, dI) vwCl [(h0, .inr (0, [.ref h1, .ref h2, .ref h3, .int (nI (n))])), (h1, .inl (d1, 8, .inl (iA g1))), (h2, .inr (1, [.ref h4, .int (nI (k))])), (h3, .inl (d3, 8, .inr (.inl (lA g3)))), (h4, .inl (d4, 10, .inr (.inl (lA g4))))] s.heap := hP
  have hl := lv_entry ([.ref h0]) (n := 1) (Nat.le_of_ble_eq_true rfl)
  rw [lg_entry_eq]
  generalize (lg_sl ([.ref h0]) ++ List.replicate (1 - (lg_sl ([.ref h0])).length) Slot.unset).toArray = ls at hl ⊢
  have hl : lv_has ls 1 [(0, .ref h0)] := hl
  refine lv_aload_n hx hb dX0_heaps_0 rfl (lv_at hl 0 rfl) ?_
  refine va_get (D := (dC, dI)) (ci := 0) (v := .int (nI (n))) (C := RX0) (T := TX0) (N := 4) hx hb hts in_X0 hown hK hP 0 rfl rfl 3 (by decide) (hts _ q32) (fun _ h9 => h9) rfl dX0_heaps_1 ?_
  have hP9 := hP.sub (ws' := [(h0, .inr (0, [.ref h1, .ref h2, .ref h3, .int (nI (n))])), (h1, .inl (d1, 8, .inl (iA g1))), (h2, .inr (1, [.ref h4, .int (nI (k))])), (h3, .inl (d3, 8, .inr (.inl (lA g3)))), (h4, .inl (d4, 10, .inr (.inl (lA g4))))]) [0, 1, 2, 3, 4] rfl
  have hD9 := hD.sub (ws' := [(h0, .inr (0, [.ref h1, .ref h2, .ref h3, .int (nI (n))])), (h1, .inl (d1, 8, .inl (iA g1))), (h2, .inr (1, [.ref h4, .int (nI (k))])), (h3, .inl (d3, 8, .inr (.inl (lA g3)))), (h4, .inl (d4, 10, .inr (.inl (lA g4))))]) [0, 1, 2, 3, 4] (by decide) rfl
  have hK9 := hK.sub (tys' := [(d1, .int), (d3, .long), (d4, .long)]) [0, 1, 2] rfl
  exact W.iret (v := nI (n)) hx hb hr (fun t ht hW => ⟨⟨nI (n), (), rfl, rfl, by rw [ht]; exact hP9, va_K.moved hW.alike hK9, hD9⟩, hS.F ht⟩) hS.2.2 dX0_heaps_4
end
section
theorem hf_take_sum : ∀ (j : Nat) (L : List Nat) (S : Nat) (R : List Nat), hf_take j L S R → S + R.sum = L.sum := by
  intro j
  induction j with
  | zero => rintro L S R ⟨rfl, h⟩; rw [h.sum_nat]; omega
  | succ j ih =>
    rintro L S R ⟨x, L', S', h1, h2, h3, rfl⟩
    have h4 := ih _ _ _ h3
    rw [h1.sum_nat, List.sum_cons]
    omega
theorem hf_rel_nil {q : Nat} : ∀ {j c : Nat}, hf_rel (q + 1) j [] c → c = 0 := by
  intro j c h
  cases j with
  | zero => exact h.2
  | succ j =>
    obtain ⟨S, R, c', h1, h2, h3⟩ := h
    have := hf_take_len _ _ _ _ h1
    rw [List.length_nil] at this
    omega
theorem pm_lt {g : Nat → Nat} {k : Nat} {L : List Nat} (h : (mk_all g k).Perm L) (hs : L.sum < 2 ^ 62) : ∀ i, i < k → g i < 2 ^ 62 := by
  intro i hi
  have := mk_le_sum (h.mem_iff.mp (mk_all_in hi))
  omega
theorem mk_all_sumB {w : Nat → Nat} {B : Nat} : ∀ {n : Nat}, (∀ i, i < n → w i ≤ B) → (mk_all w n).sum ≤ n * B := by
  intro n
  induction n with
  | zero => intro _; exact Nat.zero_le _
  | succ n ih =>
    intro h
    have h1 := ih (fun i hi => h i (by omega))
    have h2 := h n (by omega)
    have h3 : (n + 1) * B = n * B + B := Nat.succ_mul n B
    rw [mk_all, List.sum_cons]
    omega
theorem mk_all_sum {w : Nat → Nat} {n : Nat} (hn : n ≤ 8) (hw : ∀ i, i < n → w i < 65536) : (mk_all w n).sum ≤ 524288 := by
  have h1 := mk_all_sumB (B := 65535) (fun i hi => Nat.le_of_lt_succ (hw i hi))
  exact Nat.le_trans h1 (Nat.le_trans (Nat.mul_le_mul_right 65535 hn) (by decide))
theorem jg_mod {qq left : Nat} (hq : qq = 1 ∨ qq = 2) (h : left % qq = 1 % qq) (hl : qq + 1 ≤ left) : (left - (qq + 1 - 1)) % qq = 1 % qq := by
  rcases hq with rfl | rfl <;> omega
theorem jg_ge {qq left : Nat} (hq : qq = 1 ∨ qq = 2) (h : left % qq = 1 % qq) (hl : 1 < left) : qq + 1 ≤ left := by
  rcases hq with rfl | rfl <;> omega
section JOINED
variable {p : Program} {l : Launch} {e : Env} {R : Room} {s : State} {m : MethodId} {args : Array Value} {below : List Frame} {meth : Method} {c : Code} {Q : State → Prop} {cells slots : Nat} {dC : Nat → ClassId} {dI : Nat → Nat → Nat} {A : Nat → Prop} {H0 : Heap}
set_option maxHeartbeats 4000000 in
set_option maxRecDepth 100000 in
theorem lp_jE (hx : p.tables.exec = Jvm.exec) (hb : c.code = cX0_joined) (hown : s.vm.findClass RX0 = some m.cls) (hts : ∀ w ∈ lw_all, w.before args s = true) (hml : c.maxLocals = 8) (hA : ∀ q : Nat, H0.size ≤ q → A q) (hRp : 0 + 1 ≤ R.frames ∧ 8 + (4 + 11) + 0 ≤ R.locals) (hRt : 0 + 1 ≤ R.frames ∧ 8 + (7 + 11) + 0 ≤ R.locals) (hRc : cells + 0 ≤ R.cells ∧ slots + 0 ≤ R.slots) {h0 h1 h2 h3 h4 : Nat} {d1 d3 d4 : ClassId} {n qq : Nat} {g1 g3 : Nat → Nat} (hn : n ≤ 8) (hw : ∀ i, i < n → g1 i < 65536) (hK : va_K (dC, dI) vwCl [(d1, .int), (d3, .long), (d4, .long)] s)
    (kk : ∀ (g4 : Nat → Nat) (H : Heap) (locs : List Loc) (ls : Array Slot), hp_ok g4 n → (mk_all g4 n).Perm (mk_all g1 n) → va_P (dC, dI) vwCl [(h0, .inr (0, [.ref h1, .ref h2, .ref h3, .int (nI (n))])), (h1, .inl (d1, 8, .inl (iA g1))), (h2, .inr (1, [.ref h4, .int (nI (n))])), (h3, .inl (d3, 8, .inr (.inl (lA g3)))), (h4, .inl (d4, 10, .inr (.inl (lA g4))))] H → va_D A [(h0, .inr (0, [.ref h1, .ref h2, .ref h3, .int (nI (n))])), (h1, .inl (d1, 8, .inl (iA g1))), (h2, .inr (1, [.ref h4, .int (nI (n))])), (h3, .inl (d3, 8, .inr (.inl (lA g3)))), (h4, .inl (d4, 10, .inr (.inl (lA g4))))] → va_S A H0 H locs → lv_has ls 8 [(0, .ref h0), (1, .int (nI (qq + 1)))] → W p l e R s m args below meth c H locs cells slots Q (F0 m 37 ls [])) :
    ∀ (f i : Nat) (g4 : Nat → Nat), n < i + f → i ≤ n → hp_ok g4 i → (mk_all g4 i).Perm (mk_all g1 i) → ∀ (H : Heap) (locs : List Loc) (ls : Array Slot), va_P (dC, dI) vwCl [(h0, .inr (0, [.ref h1, .ref h2, .ref h3, .int (nI (n))])), (h1, .inl (d1, 8, .inl (iA g1))), (h2, .inr (1, [.ref h4, .int (nI (i))])), (h3, .inl (d3, 8, .inr (.inl (lA g3)))), (h4, .inl (d4, 10, .inr (.inl (lA g4))))] H → va_D A [(h0, .inr (0, [.ref h1, .ref h2, .ref h3, .int (nI (n))])), (h1, .inl (d1, 8, .inl (iA g1))), (h2, .inr (1, [.ref h4, .int (nI (i))])), (h3, .inl (d3, 8, .inr (.inl (lA g3)))), (h4, .inl (d4, 10, .inr (.inl (lA g4))))] → va_S A H0 H locs → lv_has ls 8 [(2, .int (nI (i))), (0, .ref h0), (1, .int (nI (qq + 1)))] → W p l e R s m args below meth c H locs cells slots Q (F0 m 9 ls []) := by
  intro f
  induction f with
  | zero => intro i g4 h h1; omega
  | succ f ih =>
    intro i g4 hif hin hh hpm H locs ls hP hD hS hl
    have hbd := pm_lt hpm (by have := mk_all_sum (w := g1) (n := i) (by omega) (fun j hj => hw j (by omega)); omega)
    refine lv_iload_n hx hb dX0_joined_9 rfl (lv_at hl 0 rfl) ?_
    refine lv_aload_n hx hb dX0_joined_10 rfl (lv_at hl 1 rfl) ?_
    refine va_get (D := (dC, dI)) (ci := 0) (v := .int (nI (n))) (C := RX0) (T := TX0) (N := 4) hx hb hts in_X0 hown hK hP 0 rfl rfl 3 (by decide) (hts _ q32) (fun _ h9 => h9) rfl dX0_joined_11 ?_
    refine lv_icmp_ge (tgt := 37) hx hb dX0_joined_14 (by decide) (fun c_14 => ?_) (fun c_14 => ?_)
    · have c_14 : n ≤ i := ci_le c_14 (by omega) (by omega)
      have e : i = n := by omega
      subst e
      exact kk g4 _ _ ls hh hpm hP hD hS (lv_sub hl [1, 2] rfl)
    · have c_14 : i < n := ci_nle c_14 (by omega) (by omega)
      refine lv_aload_n hx hb dX0_joined_17 rfl (lv_at hl 1 rfl) ?_
      refine va_get (D := (dC, dI)) (ci := 0) (v := .ref h2) (C := RX0) (T := TX0) (N := 4) hx hb hts in_X0 hown hK hP 0 rfl rfl 1 (by decide) (hts _ q30) (fun _ h9 => h9) rfl dX0_joined_18 ?_
      refine lv_aload_n hx hb dX0_joined_21 rfl (lv_at hl 1 rfl) ?_
      refine va_get (D := (dC, dI)) (ci := 0) (v := .ref h1) (C := RX0) (T := TX0) (N := 4) hx hb hts in_X0 hown hK hP 0 rfl rfl 0 (by decide) (hts _ q29) (fun _ h9 => h9) rfl dX0_joined_22 ?_
      refine lv_iload_n hx hb dX0_joined_25 rfl (lv_at hl 0 rfl) ?_
      refine va_iald hx hb hK hP 1 0 rfl rfl (in_nI (n := i) (by omega) (by omega)) dX0_joined_26 ?_
      refine w_i (iA_at (g := g1) (k := i) (by omega)) ?_
      have b_26 : g1 i < 65536 := hw _ (by omega)
      refine lv_i2l (v := lN (g1 i)) hx hb dX0_joined_27 (nI_l (by omega)) ?_
      have hPc := hP.sub (ws' := [(h2, .inr (1, [.ref h4, .int (nI (i))])), (h4, .inl (d4, 10, .inr (.inl (lA g4))))]) [2, 4] rfl
      have hDc := hD.sub (ws' := [(h2, .inr (1, [.ref h4, .int (nI (i))])), (h4, .inl (d4, 10, .inr (.inl (lA g4))))]) [2, 4] (by decide) rfl
      have hKc := hK.sub (tys' := [(d4, .long)]) [2] rfl
      have hFc := va_free (wc := [(h2, .inr (1, [.ref h4, .int (nI (i))])), (h4, .inl (d4, 10, .inr (.inl (lA g4))))]) hD hS hA [2, 4] rfl
      refine va_callv (va_runV (As := [.long (lN (g1 i))]) (rest := []) ⟨hx, hb, hml, hown, hts⟩ (metX1_put l dC dI h2 h4 d4 H.size i (g1 i) g4 (by omega) (by omega) hbd hh) (cwV 1 hts (lw_V q63 q64 q65 q4 q66) rfl rfl rfl (by decide +kernel) hRp) ⟨fun a U g mk q => by obtain ⟨q0, q1, qP, qK, qD⟩ := q; exact ⟨q0, q1, qP, va_K.moved (u := U) (U := U.calling g mk a) (Vm.Alike.refl U.vm) qK, qD⟩, va_recv hKc hPc (ci := 1) (q0 := 0) rfl rfl, fun U hU hW => ⟨rfl, by rw [hU], by rw [hU]; exact hPc, va_K.moved hW.alike hKc, hDc.weaken (fun _ _ _ _ => trivial)⟩⟩ rfl rfl hl.1 rfl (lv_room (Nat.le_of_ble_eq_true rfl)) dX0_joined_28 hRc) hS (fun q _ h => hFc q h) hFc (fun g4b t H1 locs ht hvm hw1 hB1 hz1 hk1 hS => ?_)
      obtain ⟨hP1, hK1, hD1⟩ := hB1
      rw [ht] at hP1
      have hK1 := va_K.moved hvm.symm hK1
      obtain ⟨hP, hD⟩ := va_join (wr := [(h0, .inr (0, [.ref h1, .ref h2, .ref h3, .int (nI (n))])), (h1, .inl (d1, 8, .inl (iA g1))), (h3, .inl (d3, 8, .inr (.inl (lA g3))))]) (w1 := [(h2, .inr (1, [.ref h4, .int (nI (i + 1))])), (h4, .inl (d4, 10, .inr (.inl (lA g4b))))]) hP hD [2, 4] [0, 1, 3] rfl rfl (by decide) (by decide) hk1 hFc hP1 hD1
      generalize H1 = H at hP hS ⊢
      have hP := hP.sub (ws' := [(h0, .inr (0, [.ref h1, .ref h2, .ref h3, .int (nI (n))])), (h1, .inl (d1, 8, .inl (iA g1))), (h2, .inr (1, [.ref h4, .int (nI (i + 1))])), (h3, .inl (d3, 8, .inr (.inl (lA g3)))), (h4, .inl (d4, 10, .inr (.inl (lA g4b))))]) [0, 1, 3, 2, 4] rfl
      have hD := hD.sub (ws' := [(h0, .inr (0, [.ref h1, .ref h2, .ref h3, .int (nI (n))])), (h1, .inl (d1, 8, .inl (iA g1))), (h2, .inr (1, [.ref h4, .int (nI (i + 1))])), (h3, .inl (d3, 8, .inr (.inl (lA g3)))), (h4, .inl (d4, 10, .inr (.inl (lA g4b))))]) [0, 1, 3, 2, 4] (by decide) rfl
      refine W.widen (k := cells) (n := slots) (Nat.le_refl _) (Nat.le_refl _) ?_
      refine lv_iinc (v := nI (i + 1)) (lv' := [(2, .int (nI (i + 1))), (0, .ref h0), (1, .int (nI (qq + 1)))]) hx hb dX0_joined_31 hl (k := 0) rfl (inc_1 (i)) (by decide) rfl (fun ls hl => ?_)
      refine lv_goto (tgt := 9) hx hb dX0_joined_34 (by decide) ?_
      exact ih (i + 1) g4b (by omega) (by omega) hw1.1 (hw1.2.trans (hpm.cons (g1 i))) _ _ ls hP hD hS (lv_sub hl [0, 1, 2] rfl)
set_option maxHeartbeats 4000000 in
set_option maxRecDepth 100000 in
theorem lp_jF (hx : p.tables.exec = Jvm.exec) (hb : c.code = cX0_joined) (hown : s.vm.findClass RX0 = some m.cls) (hts : ∀ w ∈ lw_all, w.before args s = true) (hml : c.maxLocals = 8) (hA : ∀ q : Nat, H0.size ≤ q → A q) (hRp : 0 + 1 ≤ R.frames ∧ 8 + (4 + 11) + 0 ≤ R.locals) (hRt : 0 + 1 ≤ R.frames ∧ 8 + (7 + 11) + 0 ≤ R.locals) (hRc : cells + 0 ≤ R.cells ∧ slots + 0 ≤ R.slots) {h0 h1 h2 h3 h4 : Nat} {d1 d3 d4 : ClassId} {n qq : Nat} {g1 g3 : Nat → Nat} (hn : n ≤ 8) (hw : ∀ i, i < n → g1 i < 65536) (hK : va_K (dC, dI) vwCl [(d1, .int), (d3, .long), (d4, .long)] s) (hq : qq = 1 ∨ qq = 2)
    (kk : ∀ (pad : Nat) (g4 : Nat → Nat) (H : Heap) (locs : List Loc) (ls : Array Slot), pad ≤ 1 → (pad = 1 → qq = 2 ∧ 2 ≤ n) → (n + pad = 0 ∨ (n + pad) % qq = 1 % qq) → hp_ok g4 (n + pad) → (mk_all g4 (n + pad)).Perm (List.replicate pad 0 ++ mk_all g1 n) → va_P (dC, dI) vwCl [(h0, .inr (0, [.ref h1, .ref h2, .ref h3, .int (nI (n))])), (h1, .inl (d1, 8, .inl (iA g1))), (h2, .inr (1, [.ref h4, .int (nI (n + pad))])), (h3, .inl (d3, 8, .inr (.inl (lA g3)))), (h4, .inl (d4, 10, .inr (.inl (lA g4))))] H → va_D A [(h0, .inr (0, [.ref h1, .ref h2, .ref h3, .int (nI (n))])), (h1, .inl (d1, 8, .inl (iA g1))), (h2, .inr (1, [.ref h4, .int (nI (n + pad))])), (h3, .inl (d3, 8, .inr (.inl (lA g3)))), (h4, .inl (d4, 10, .inr (.inl (lA g4))))] → va_S A H0 H locs → lv_has ls 8 [(2, .int (nI (n + pad))), (0, .ref h0), (1, .int (nI (qq + 1)))] → W p l e R s m args below meth c H locs cells slots Q (F0 m 71 ls [])) :
    ∀ (f pad : Nat) (g4 : Nat → Nat), 2 ≤ f + pad → pad ≤ 1 → (pad = 1 → (qq = 2 ∧ 2 ≤ n) ∧ n % 2 = 0) → hp_ok g4 (n + pad) → (mk_all g4 (n + pad)).Perm (List.replicate pad 0 ++ mk_all g1 n) → ∀ (H : Heap) (locs : List Loc) (ls : Array Slot), va_P (dC, dI) vwCl [(h0, .inr (0, [.ref h1, .ref h2, .ref h3, .int (nI (n))])), (h1, .inl (d1, 8, .inl (iA g1))), (h2, .inr (1, [.ref h4, .int (nI (n + pad))])), (h3, .inl (d3, 8, .inr (.inl (lA g3)))), (h4, .inl (d4, 10, .inr (.inl (lA g4))))] H → va_D A [(h0, .inr (0, [.ref h1, .ref h2, .ref h3, .int (nI (n))])), (h1, .inl (d1, 8, .inl (iA g1))), (h2, .inr (1, [.ref h4, .int (nI (n + pad))])), (h3, .inl (d3, 8, .inr (.inl (lA g3)))), (h4, .inl (d4, 10, .inr (.inl (lA g4))))] → va_S A H0 H locs → lv_has ls 8 [(2, .int (nI (n + pad))), (0, .ref h0), (1, .int (nI (qq + 1)))] → W p l e R s m args below meth c H locs cells slots Q (F0 m 42 ls []) := by
  have hsum := mk_all_sum hn hw
  rcases hq with rfl | rfl
  · intro f
    induction f with
    | zero => intro pad g4 h h1; omega
    | succ f ih =>
      intro pad g4 hpf hp1 hpd hh hpm H locs ls hP hD hS hl
      refine lv_iload_n hx hb dX0_joined_42 rfl (lv_at hl 0 rfl) ?_
      refine lv_iconst (v := nI 1) hx hb dX0_joined_43 (by decide) ?_
      refine lv_icmp_le (tgt := 71) hx hb dX0_joined_44 (by decide) (fun c_44 => ?_) (fun c_44 => ?_)
      · have c_44 : n + pad ≤ 1 := ci_le c_44 (by omega) (by omega)
        exact kk pad g4 _ _ ls hp1 (fun h => (hpd h).1) (by omega) hh hpm hP hD hS (lv_sub hl [0, 1, 2] rfl)
      · have c_44 : 1 < n + pad := ci_nle c_44 (by omega) (by omega)
        refine lv_iload_n hx hb dX0_joined_47 rfl (lv_at hl 0 rfl) ?_
        refine lv_iconst (v := nI 1) hx hb dX0_joined_48 (by decide) ?_
        refine lv_isub hx hb dX0_joined_49 ?_
        refine w_i (pk_sub (a := n + pad) (b := 1) (by omega)) ?_
        refine lv_iload_n hx hb dX0_joined_50 rfl (lv_at hl 2 rfl) ?_
        refine lv_iconst (v := nI 1) hx hb dX0_joined_51 (by decide) ?_
        refine lv_isub hx hb dX0_joined_52 ?_
        refine w_i (pk_sub (a := 1 + 1) (b := 1) (by omega)) ?_
        refine lv_irem hx hb dX0_joined_53 (nI_ne0 (by omega) (by omega)) ?_
        refine w_i (pk_rem (a := (n + pad) - 1) (d := (1 + 1) - 1) (by omega) (by omega) (by omega)) ?_
        refine lv_if_eq (tgt := 71) hx hb dX0_joined_54 (by decide) (fun c_54 => ?_) (fun c_54 => ?_)
        · have c_54 : ((n + pad) - 1) % ((1 + 1) - 1) = 0 := ci_eq (a := ((n + pad) - 1) % ((1 + 1) - 1)) (b := 0) c_54 (by omega) (by omega)
          exact kk pad g4 _ _ ls hp1 (fun h => (hpd h).1) (by omega) hh hpm hP hD hS (lv_sub hl [0, 1, 2] rfl)
        · have c_54 : ((n + pad) - 1) % ((1 + 1) - 1) ≠ 0 := ci_ne (a := ((n + pad) - 1) % ((1 + 1) - 1)) (b := 0) c_54 (by omega) (by omega)
          omega
  · intro f
    induction f with
    | zero => intro pad g4 h h1; omega
    | succ f ih =>
      intro pad g4 hpf hp1 hpd hh hpm H locs ls hP hD hS hl
      refine lv_iload_n hx hb dX0_joined_42 rfl (lv_at hl 0 rfl) ?_
      refine lv_iconst (v := nI 1) hx hb dX0_joined_43 (by decide) ?_
      refine lv_icmp_le (tgt := 71) hx hb dX0_joined_44 (by decide) (fun c_44 => ?_) (fun c_44 => ?_)
      · have c_44 : n + pad ≤ 1 := ci_le c_44 (by omega) (by omega)
        exact kk pad g4 _ _ ls hp1 (fun h => (hpd h).1) (by omega) hh hpm hP hD hS (lv_sub hl [0, 1, 2] rfl)
      · have c_44 : 1 < n + pad := ci_nle c_44 (by omega) (by omega)
        refine lv_iload_n hx hb dX0_joined_47 rfl (lv_at hl 0 rfl) ?_
        refine lv_iconst (v := nI 1) hx hb dX0_joined_48 (by decide) ?_
        refine lv_isub hx hb dX0_joined_49 ?_
        refine w_i (pk_sub (a := n + pad) (b := 1) (by omega)) ?_
        refine lv_iload_n hx hb dX0_joined_50 rfl (lv_at hl 2 rfl) ?_
        refine lv_iconst (v := nI 1) hx hb dX0_joined_51 (by decide) ?_
        refine lv_isub hx hb dX0_joined_52 ?_
        refine w_i (pk_sub (a := 2 + 1) (b := 1) (by omega)) ?_
        refine lv_irem hx hb dX0_joined_53 (nI_ne0 (by omega) (by omega)) ?_
        refine w_i (pk_rem (a := (n + pad) - 1) (d := (2 + 1) - 1) (by omega) (by omega) (by omega)) ?_
        refine lv_if_eq (tgt := 71) hx hb dX0_joined_54 (by decide) (fun c_54 => ?_) (fun c_54 => ?_)
        · have c_54 : ((n + pad) - 1) % ((2 + 1) - 1) = 0 := ci_eq (a := ((n + pad) - 1) % ((2 + 1) - 1)) (b := 0) c_54 (by omega) (by omega)
          exact kk pad g4 _ _ ls hp1 (fun h => (hpd h).1) (by omega) hh hpm hP hD hS (lv_sub hl [0, 1, 2] rfl)
        · have c_54 : ((n + pad) - 1) % ((2 + 1) - 1) ≠ 0 := ci_ne (a := ((n + pad) - 1) % ((2 + 1) - 1)) (b := 0) c_54 (by omega) (by omega)
          have hpad : pad = 0 := by omega
          have hbd := pm_lt hpm (by rw [hpad]; show (mk_all g1 n).sum < 2 ^ 62; omega)
          refine lv_aload_n hx hb dX0_joined_57 rfl (lv_at hl 1 rfl) ?_
          refine va_get (D := (dC, dI)) (ci := 0) (v := .ref h2) (C := RX0) (T := TX0) (N := 4) hx hb hts in_X0 hown hK hP 0 rfl rfl 1 (by decide) (hts _ q30) (fun _ h9 => h9) rfl dX0_joined_58 ?_
          refine lv_lconst (v := lN 0) hx hb dX0_joined_61 rfl ?_
          have hPc := hP.sub (ws' := [(h2, .inr (1, [.ref h4, .int (nI (n + pad))])), (h4, .inl (d4, 10, .inr (.inl (lA g4))))]) [2, 4] rfl
          have hDc := hD.sub (ws' := [(h2, .inr (1, [.ref h4, .int (nI (n + pad))])), (h4, .inl (d4, 10, .inr (.inl (lA g4))))]) [2, 4] (by decide) rfl
          have hKc := hK.sub (tys' := [(d4, .long)]) [2] rfl
          have hFc := va_free (wc := [(h2, .inr (1, [.ref h4, .int (nI (n + pad))])), (h4, .inl (d4, 10, .inr (.inl (lA g4))))]) hD hS hA [2, 4] rfl
          refine va_callv (va_runV (As := [.long (lN (0))]) (rest := []) ⟨hx, hb, hml, hown, hts⟩ (metX1_put l dC dI h2 h4 d4 H.size (n + pad) 0 g4 (by omega) (by omega) hbd hh) (cwV 1 hts (lw_V q63 q64 q65 q4 q66) rfl rfl rfl (by decide +kernel) hRp) ⟨fun a U g mk q => by obtain ⟨q0, q1, qP, qK, qD⟩ := q; exact ⟨q0, q1, qP, va_K.moved (u := U) (U := U.calling g mk a) (Vm.Alike.refl U.vm) qK, qD⟩, va_recv hKc hPc (ci := 1) (q0 := 0) rfl rfl, fun U hU hW => ⟨rfl, by rw [hU], by rw [hU]; exact hPc, va_K.moved hW.alike hKc, hDc.weaken (fun _ _ _ _ => trivial)⟩⟩ rfl rfl hl.1 rfl (lv_room (Nat.le_of_ble_eq_true rfl)) dX0_joined_62 hRc) hS (fun q _ h => hFc q h) hFc (fun g4b t H1 locs ht hvm hw1 hB1 hz1 hk1 hS => ?_)
          obtain ⟨hP1, hK1, hD1⟩ := hB1
          rw [ht] at hP1
          have hK1 := va_K.moved hvm.symm hK1
          obtain ⟨hP, hD⟩ := va_join (wr := [(h0, .inr (0, [.ref h1, .ref h2, .ref h3, .int (nI (n))])), (h1, .inl (d1, 8, .inl (iA g1))), (h3, .inl (d3, 8, .inr (.inl (lA g3))))]) (w1 := [(h2, .inr (1, [.ref h4, .int (nI (n + pad + 1))])), (h4, .inl (d4, 10, .inr (.inl (lA g4b))))]) hP hD [2, 4] [0, 1, 3] rfl rfl (by decide) (by decide) hk1 hFc hP1 hD1
          generalize H1 = H at hP hS ⊢
          have hP := hP.sub (ws' := [(h0, .inr (0, [.ref h1, .ref h2, .ref h3, .int (nI (n))])), (h1, .inl (d1, 8, .inl (iA g1))), (h2, .inr (1, [.ref h4, .int (nI (n + pad + 1))])), (h3, .inl (d3, 8, .inr (.inl (lA g3)))), (h4, .inl (d4, 10, .inr (.inl (lA g4b))))]) [0, 1, 3, 2, 4] rfl
          have hD := hD.sub (ws' := [(h0, .inr (0, [.ref h1, .ref h2, .ref h3, .int (nI (n))])), (h1, .inl (d1, 8, .inl (iA g1))), (h2, .inr (1, [.ref h4, .int (nI (n + pad + 1))])), (h3, .inl (d3, 8, .inr (.inl (lA g3)))), (h4, .inl (d4, 10, .inr (.inl (lA g4b))))]) [0, 1, 3, 2, 4] (by decide) rfl
          refine W.widen (k := cells) (n := slots) (Nat.le_refl _) (Nat.le_refl _) ?_
          refine lv_iinc (v := nI (n + pad + 1)) (lv' := [(2, .int (nI (n + pad + 1))), (0, .ref h0), (1, .int (nI (2 + 1)))]) hx hb dX0_joined_65 hl (k := 0) rfl (inc_1 (n + pad)) (by decide) rfl (fun ls hl => ?_)
          refine lv_goto (tgt := 42) hx hb dX0_joined_68 (by decide) ?_
          subst hpad
          exact ih 1 g4b (by omega) (by omega) (fun _ => ⟨⟨rfl, by omega⟩, by omega⟩) hw1.1 (hw1.2.trans (hpm.cons 0)) _ _ ls hP hD hS (lv_sub hl [0, 1, 2] rfl)
set_option maxHeartbeats 4000000 in
set_option maxRecDepth 100000 in
theorem lp_jH (hx : p.tables.exec = Jvm.exec) (hb : c.code = cX0_joined) (hown : s.vm.findClass RX0 = some m.cls) (hts : ∀ w ∈ lw_all, w.before args s = true) (hml : c.maxLocals = 8) (hA : ∀ q : Nat, H0.size ≤ q → A q) (hRp : 0 + 1 ≤ R.frames ∧ 8 + (4 + 11) + 0 ≤ R.locals) (hRt : 0 + 1 ≤ R.frames ∧ 8 + (7 + 11) + 0 ≤ R.locals) (hRc : cells + 0 ≤ R.cells ∧ slots + 0 ≤ R.slots) {h0 h1 h2 h3 h4 : Nat} {d1 d3 d4 : ClassId} {n qq : Nat} {g1 g3 : Nat → Nat} (hn : n ≤ 8) (hw : ∀ i, i < n → g1 i < 65536) (hK : va_K (dC, dI) vwCl [(d1, .int), (d3, .long), (d4, .long)] s) {left CC : Nat} (hq2 : qq ≤ 2) (hl1 : qq + 1 ≤ left) (hl9 : left ≤ 9) (LL : List Nat) (hLs : LL.sum < 2 ^ 62)
    (kk : ∀ (S : Nat) (g4 : Nat → Nat) (H : Heap) (locs : List Loc) (ls : Array Slot), hp_ok g4 (left - (qq + 1)) → hf_take (qq + 1) LL S (mk_all g4 (left - (qq + 1))) → va_P (dC, dI) vwCl [(h0, .inr (0, [.ref h1, .ref h2, .ref h3, .int (nI (n))])), (h1, .inl (d1, 8, .inl (iA g1))), (h2, .inr (1, [.ref h4, .int (nI (left - (qq + 1)))])), (h3, .inl (d3, 8, .inr (.inl (lA g3)))), (h4, .inl (d4, 10, .inr (.inl (lA g4))))] H → va_D A [(h0, .inr (0, [.ref h1, .ref h2, .ref h3, .int (nI (n))])), (h1, .inl (d1, 8, .inl (iA g1))), (h2, .inr (1, [.ref h4, .int (nI (left - (qq + 1)))])), (h3, .inl (d3, 8, .inr (.inl (lA g3)))), (h4, .inl (d4, 10, .inr (.inl (lA g4))))] → va_S A H0 H locs → lv_has ls 8 [(5, .long (lN (S))), (3, .long (lN (CC))), (2, .int (nI (left))), (0, .ref h0), (1, .int (nI (qq + 1)))] → W p l e R s m args below meth c H locs cells slots Q (F0 m 108 ls [])) :
    ∀ (f i S : Nat) (g4 : Nat → Nat), qq + 1 < i + f → i ≤ qq + 1 → hp_ok g4 (left - i) → hf_take i LL S (mk_all g4 (left - i)) → ∀ (H : Heap) (locs : List Loc) (ls : Array Slot), va_P (dC, dI) vwCl [(h0, .inr (0, [.ref h1, .ref h2, .ref h3, .int (nI (n))])), (h1, .inl (d1, 8, .inl (iA g1))), (h2, .inr (1, [.ref h4, .int (nI (left - i))])), (h3, .inl (d3, 8, .inr (.inl (lA g3)))), (h4, .inl (d4, 10, .inr (.inl (lA g4))))] H → va_D A [(h0, .inr (0, [.ref h1, .ref h2, .ref h3, .int (nI (n))])), (h1, .inl (d1, 8, .inl (iA g1))), (h2, .inr (1, [.ref h4, .int (nI (left - i))])), (h3, .inl (d3, 8, .inr (.inl (lA g3)))), (h4, .inl (d4, 10, .inr (.inl (lA g4))))] → va_S A H0 H locs → lv_has ls 8 [(7, .int (nI (i))), (5, .long (lN (S))), (3, .long (lN (CC))), (2, .int (nI (left))), (0, .ref h0), (1, .int (nI (qq + 1)))] → W p l e R s m args below meth c H locs cells slots Q (F0 m 84 ls []) := by
  intro f
  induction f with
  | zero => intro i S g4 h h1; omega
  | succ f ih =>
    intro i S g4 hif hiq hh htk H locs ls hP hD hS hl
    have hbd := pm_lt (List.Perm.refl (mk_all g4 (left - i))) (by have := hf_take_sum _ _ _ _ htk; omega)
    refine lv_iload hx hb dX0_joined_84 (lv_at hl 0 rfl) ?_
    refine lv_iload_n hx hb dX0_joined_86 rfl (lv_at hl 5 rfl) ?_
    refine lv_icmp_ge (tgt := 108) hx hb dX0_joined_87 (by decide) (fun c_87 => ?_) (fun c_87 => ?_)
    · have c_87 : qq + 1 ≤ i := ci_le c_87 (by omega) (by omega)
      have e : i = qq + 1 := by omega
      subst e
      exact kk S g4 _ _ ls hh htk hP hD hS (lv_sub hl [1, 2, 3, 4, 5] rfl)
    · have c_87 : i < qq + 1 := ci_nle c_87 (by omega) (by omega)
      refine lv_lload hx hb dX0_joined_90 (lv_at hl 1 rfl) ?_
      refine lv_aload_n hx hb dX0_joined_92 rfl (lv_at hl 4 rfl) ?_
      refine va_get (D := (dC, dI)) (ci := 0) (v := .ref h2) (C := RX0) (T := TX0) (N := 4) hx hb hts in_X0 hown hK hP 0 rfl rfl 1 (by decide) (hts _ q30) (fun _ h9 => h9) rfl dX0_joined_93 ?_
      have hPc := hP.sub (ws' := [(h2, .inr (1, [.ref h4, .int (nI (left - i))])), (h4, .inl (d4, 10, .inr (.inl (lA g4))))]) [2, 4] rfl
      have hDc := hD.sub (ws' := [(h2, .inr (1, [.ref h4, .int (nI (left - i))])), (h4, .inl (d4, 10, .inr (.inl (lA g4))))]) [2, 4] (by decide) rfl
      have hKc := hK.sub (tys' := [(d4, .long)]) [2] rfl
      have hFc := va_free (wc := [(h2, .inr (1, [.ref h4, .int (nI (left - i))])), (h4, .inl (d4, 10, .inr (.inl (lA g4))))]) hD hS hA [2, 4] rfl
      refine va_calll (va_runV (As := []) (rest := [.long (lN (S))]) ⟨hx, hb, hml, hown, hts⟩ (metX1_take l dC dI h2 h4 d4 H.size (left - i) g4 (by omega) (by omega) hbd hh) (cwV 0 hts (lw_V q67 q68 q69 q4 q70) rfl rfl rfl (by decide +kernel) hRt) ⟨fun a U g mk q => by obtain ⟨q0, q1, qP, qK, qD⟩ := q; exact ⟨q0, q1, qP, va_K.moved (u := U) (U := U.calling g mk a) (Vm.Alike.refl U.vm) qK, qD⟩, va_recv hKc hPc (ci := 1) (q0 := 0) rfl rfl, fun U hU hW => ⟨rfl, by rw [hU], by rw [hU]; exact hPc, va_K.moved hW.alike hKc, hDc.weaken (fun _ _ _ _ => trivial)⟩⟩ rfl rfl hl.1 rfl (lv_room (Nat.le_of_ble_eq_true rfl)) dX0_joined_96 hRc) hS (fun q _ h => hFc q h) hFc (fun r1 g4b t H1 locs ht hvm hw1 hB1 hz1 hk1 hS => ?_)
      obtain ⟨hP1, hK1, hD1⟩ := hB1
      rw [ht] at hP1
      have hK1 := va_K.moved hvm.symm hK1
      obtain ⟨hP, hD⟩ := va_join (wr := [(h0, .inr (0, [.ref h1, .ref h2, .ref h3, .int (nI (n))])), (h1, .inl (d1, 8, .inl (iA g1))), (h3, .inl (d3, 8, .inr (.inl (lA g3))))]) (w1 := [(h2, .inr (1, [.ref h4, .int (nI (left - i - 1))])), (h4, .inl (d4, 10, .inr (.inl (lA g4b))))]) hP hD [2, 4] [0, 1, 3] rfl rfl (by decide) (by decide) hk1 hFc hP1 hD1
      generalize H1 = H at hP hS ⊢
      have hP := hP.sub (ws' := [(h0, .inr (0, [.ref h1, .ref h2, .ref h3, .int (nI (n))])), (h1, .inl (d1, 8, .inl (iA g1))), (h2, .inr (1, [.ref h4, .int (nI (left - i - 1))])), (h3, .inl (d3, 8, .inr (.inl (lA g3)))), (h4, .inl (d4, 10, .inr (.inl (lA g4b))))]) [0, 1, 3, 2, 4] rfl
      have hD := hD.sub (ws' := [(h0, .inr (0, [.ref h1, .ref h2, .ref h3, .int (nI (n))])), (h1, .inl (d1, 8, .inl (iA g1))), (h2, .inr (1, [.ref h4, .int (nI (left - i - 1))])), (h3, .inl (d3, 8, .inr (.inl (lA g3)))), (h4, .inl (d4, 10, .inr (.inl (lA g4b))))]) [0, 1, 3, 2, 4] (by decide) rfl
      refine W.widen (k := cells) (n := slots) (Nat.le_refl _) (Nat.le_refl _) ?_
      obtain ⟨rfl, hw2, hw3, hw4⟩ := hw1
      refine lv_ladd hx hb dX0_joined_99 ?_
      refine w_l (lN_add (S) (g4 0)) ?_
      refine lv_lstore (lv' := [(5, .long (lN (S + g4 0))), (7, .int (nI (i))), (3, .long (lN (CC))), (2, .int (nI (left))), (0, .ref h0), (1, .int (nI (qq + 1)))]) hx hb dX0_joined_100 hl (by decide) rfl (fun ls hl => ?_)
      refine lv_iinc (v := nI (i + 1)) (lv' := [(7, .int (nI (i + 1))), (5, .long (lN (S + g4 0))), (3, .long (lN (CC))), (2, .int (nI (left))), (0, .ref h0), (1, .int (nI (qq + 1)))]) hx hb dX0_joined_102 hl (k := 1) rfl (inc_1 (i)) (by decide) rfl (fun ls hl => ?_)
      refine lv_goto (tgt := 84) hx hb dX0_joined_105 (by decide) ?_
      have e9 : left - i - 1 = left - (i + 1) := by omega
      rw [e9] at hP hD hw2 hw3 hw4
      exact ih (i + 1) (S + g4 0) g4b (by omega) (by omega) hw2 (hf_take_snoc _ _ _ _ _ _ htk hw3 hw4) _ _ ls hP hD hS (lv_sub hl [0, 1, 2, 3, 4, 5] rfl)
set_option maxHeartbeats 4000000 in
set_option maxRecDepth 100000 in
theorem lp_jG (hx : p.tables.exec = Jvm.exec) (hb : c.code = cX0_joined) (hown : s.vm.findClass RX0 = some m.cls) (hts : ∀ w ∈ lw_all, w.before args s = true) (hml : c.maxLocals = 8) (hA : ∀ q : Nat, H0.size ≤ q → A q) (hRp : 0 + 1 ≤ R.frames ∧ 8 + (4 + 11) + 0 ≤ R.locals) (hRt : 0 + 1 ≤ R.frames ∧ 8 + (7 + 11) + 0 ≤ R.locals) (hRc : cells + 0 ≤ R.cells ∧ slots + 0 ≤ R.slots) {h0 h1 h2 h3 h4 : Nat} {d1 d3 d4 : ClassId} {n qq : Nat} {g1 g3 : Nat → Nat} (hn : n ≤ 8) (hw : ∀ i, i < n → g1 i < 65536) (hK : va_K (dC, dI) vwCl [(d1, .int), (d3, .long), (d4, .long)] s) (hq : qq = 1 ∨ qq = 2) (L0 : List Nat)
    (kk : ∀ (left CC : Nat) (g4 : Nat → Nat) (H : Heap) (locs : List Loc) (ls : Array Slot), (∃ j, hf_rel (qq + 1) j L0 CC) → va_P (dC, dI) vwCl [(h0, .inr (0, [.ref h1, .ref h2, .ref h3, .int (nI (n))])), (h1, .inl (d1, 8, .inl (iA g1))), (h2, .inr (1, [.ref h4, .int (nI (left))])), (h3, .inl (d3, 8, .inr (.inl (lA g3)))), (h4, .inl (d4, 10, .inr (.inl (lA g4))))] H → va_D A [(h0, .inr (0, [.ref h1, .ref h2, .ref h3, .int (nI (n))])), (h1, .inl (d1, 8, .inl (iA g1))), (h2, .inr (1, [.ref h4, .int (nI (left))])), (h3, .inl (d3, 8, .inr (.inl (lA g3)))), (h4, .inl (d4, 10, .inr (.inl (lA g4))))] → va_S A H0 H locs → lv_has ls 8 [(3, .long (lN (CC)))] → W p l e R s m args below meth c H locs cells slots Q (F0 m 131 ls [])) :
    ∀ (f left CC : Nat) (LL : List Nat) (g4 : Nat → Nat), left < f → (left = 0 ∨ left % qq = 1 % qq) → left ≤ 9 → LL.length = left → LL.sum < 2 ^ 62 → hp_ok g4 left → (mk_all g4 left).Perm LL → (∀ j c', hf_rel (qq + 1) j LL c' → ∃ j', hf_rel (qq + 1) j' L0 (CC + c')) → ∀ (H : Heap) (locs : List Loc) (ls : Array Slot), va_P (dC, dI) vwCl [(h0, .inr (0, [.ref h1, .ref h2, .ref h3, .int (nI (n))])), (h1, .inl (d1, 8, .inl (iA g1))), (h2, .inr (1, [.ref h4, .int (nI (left))])), (h3, .inl (d3, 8, .inr (.inl (lA g3)))), (h4, .inl (d4, 10, .inr (.inl (lA g4))))] H → va_D A [(h0, .inr (0, [.ref h1, .ref h2, .ref h3, .int (nI (n))])), (h1, .inl (d1, 8, .inl (iA g1))), (h2, .inr (1, [.ref h4, .int (nI (left))])), (h3, .inl (d3, 8, .inr (.inl (lA g3)))), (h4, .inl (d4, 10, .inr (.inl (lA g4))))] → va_S A H0 H locs → lv_has ls 8 [(2, .int (nI (left))), (3, .long (lN (CC))), (0, .ref h0), (1, .int (nI (qq + 1)))] → W p l e R s m args below meth c H locs cells slots Q (F0 m 73 ls []) := by
  intro f
  induction f with
  | zero => intro left CC LL g4 h; omega
  | succ f ih =>
    intro left CC LL g4 hlf hlm hl9 hlen hsum hh hpm hrel H locs ls hP hD hS hl
    refine lv_iload_n hx hb dX0_joined_73 rfl (lv_at hl 0 rfl) ?_
    refine lv_iconst (v := nI 1) hx hb dX0_joined_74 (by decide) ?_
    refine lv_icmp_le (tgt := 131) hx hb dX0_joined_75 (by decide) (fun c_75 => ?_) (fun c_75 => ?_)
    · have c_75 : left ≤ 1 := ci_le c_75 (by omega) (by omega)
      have hr0 : hf_rel (qq + 1) 0 LL 0 := ⟨by omega, rfl⟩
      exact kk left CC g4 _ _ ls (hrel 0 0 hr0) hP hD hS (lv_sub hl [1] rfl)
    · have c_75 : 1 < left := ci_nle c_75 (by omega) (by omega)
      have hge : qq + 1 ≤ left := jg_ge hq (by omega) c_75
      have hq2 : qq ≤ 2 := by omega
      have hq1 : 1 ≤ qq := by omega
      refine lv_lconst (v := lN 0) hx hb dX0_joined_78 rfl ?_
      refine lv_lstore (lv' := [(5, .long (lN (0))), (2, .int (nI (left))), (3, .long (lN (CC))), (0, .ref h0), (1, .int (nI (qq + 1)))]) hx hb dX0_joined_79 hl (by decide) rfl (fun ls hl => ?_)
      refine lv_iconst (v := nI 0) hx hb dX0_joined_81 (by decide) ?_
      refine lv_istore (lv' := [(7, .int (nI (0))), (5, .long (lN (0))), (2, .int (nI (left))), (3, .long (lN (CC))), (0, .ref h0), (1, .int (nI (qq + 1)))]) hx hb dX0_joined_82 hl (by decide) rfl (fun ls hl => ?_)
      refine lp_jH hx hb hown hts hml hA hRp hRt hRc hn hw hK hq2 hge hl9 LL hsum (fun S g4b H locs ls hh2 htk hP hD hS hl => ?_) (qq + 2) 0 0 g4 (by omega) (by omega) hh ⟨rfl, hpm.symm⟩ _ _ ls hP hD hS (lv_sub hl [0, 1, 3, 2, 4, 5] rfl)
      have hts9 := hf_take_sum _ _ _ _ htk
      have hbd := pm_lt (List.Perm.refl (mk_all g4b (left - (qq + 1)))) (by omega)
      refine lv_lload_n hx hb dX0_joined_108 rfl (lv_at hl 1 rfl) ?_
      refine lv_lload hx hb dX0_joined_109 (lv_at hl 0 rfl) ?_
      refine lv_ladd hx hb dX0_joined_111 ?_
      refine w_l (lN_add (CC) (S)) ?_
      refine lv_lstore_n (lv' := [(3, .long (lN (CC + S))), (5, .long (lN (S))), (2, .int (nI (left))), (0, .ref h0), (1, .int (nI (qq + 1)))]) hx hb dX0_joined_112 rfl hl (by decide) rfl (fun ls hl => ?_)
      refine lv_aload_n hx hb dX0_joined_113 rfl (lv_at hl 3 rfl) ?_
      refine va_get (D := (dC, dI)) (ci := 0) (v := .ref h2) (C := RX0) (T := TX0) (N := 4) hx hb hts in_X0 hown hK hP 0 rfl rfl 1 (by decide) (hts _ q30) (fun _ h9 => h9) rfl dX0_joined_114 ?_
      refine lv_lload hx hb dX0_joined_117 (lv_at hl 1 rfl) ?_
      have hPc := hP.sub (ws' := [(h2, .inr (1, [.ref h4, .int (nI (left - (qq + 1)))])), (h4, .inl (d4, 10, .inr (.inl (lA g4b))))]) [2, 4] rfl
      have hDc := hD.sub (ws' := [(h2, .inr (1, [.ref h4, .int (nI (left - (qq + 1)))])), (h4, .inl (d4, 10, .inr (.inl (lA g4b))))]) [2, 4] (by decide) rfl
      have hKc := hK.sub (tys' := [(d4, .long)]) [2] rfl
      have hFc := va_free (wc := [(h2, .inr (1, [.ref h4, .int (nI (left - (qq + 1)))])), (h4, .inl (d4, 10, .inr (.inl (lA g4b))))]) hD hS hA [2, 4] rfl
      refine va_callv (va_runV (As := [.long (lN (S))]) (rest := []) ⟨hx, hb, hml, hown, hts⟩ (metX1_put l dC dI h2 h4 d4 H.size (left - (qq + 1)) S g4b (by omega) (by omega) hbd hh2) (cwV 1 hts (lw_V q63 q64 q65 q4 q66) rfl rfl rfl (by decide +kernel) hRp) ⟨fun a U g mk q => by obtain ⟨q0, q1, qP, qK, qD⟩ := q; exact ⟨q0, q1, qP, va_K.moved (u := U) (U := U.calling g mk a) (Vm.Alike.refl U.vm) qK, qD⟩, va_recv hKc hPc (ci := 1) (q0 := 0) rfl rfl, fun U hU hW => ⟨rfl, by rw [hU], by rw [hU]; exact hPc, va_K.moved hW.alike hKc, hDc.weaken (fun _ _ _ _ => trivial)⟩⟩ rfl rfl hl.1 rfl (lv_room (Nat.le_of_ble_eq_true rfl)) dX0_joined_119 hRc) hS (fun q _ h => hFc q h) hFc (fun g4c t H1 locs ht hvm hw1 hB1 hz1 hk1 hS => ?_)
      obtain ⟨hP1, hK1, hD1⟩ := hB1
      rw [ht] at hP1
      have hK1 := va_K.moved hvm.symm hK1
      obtain ⟨hP, hD⟩ := va_join (wr := [(h0, .inr (0, [.ref h1, .ref h2, .ref h3, .int (nI (n))])), (h1, .inl (d1, 8, .inl (iA g1))), (h3, .inl (d3, 8, .inr (.inl (lA g3))))]) (w1 := [(h2, .inr (1, [.ref h4, .int (nI (left - (qq + 1) + 1))])), (h4, .inl (d4, 10, .inr (.inl (lA g4c))))]) hP hD [2, 4] [0, 1, 3] rfl rfl (by decide) (by decide) hk1 hFc hP1 hD1
      generalize H1 = H at hP hS ⊢
      have hP := hP.sub (ws' := [(h0, .inr (0, [.ref h1, .ref h2, .ref h3, .int (nI (n))])), (h1, .inl (d1, 8, .inl (iA g1))), (h2, .inr (1, [.ref h4, .int (nI (left - (qq + 1) + 1))])), (h3, .inl (d3, 8, .inr (.inl (lA g3)))), (h4, .inl (d4, 10, .inr (.inl (lA g4c))))]) [0, 1, 3, 2, 4] rfl
      have hD := hD.sub (ws' := [(h0, .inr (0, [.ref h1, .ref h2, .ref h3, .int (nI (n))])), (h1, .inl (d1, 8, .inl (iA g1))), (h2, .inr (1, [.ref h4, .int (nI (left - (qq + 1) + 1))])), (h3, .inl (d3, 8, .inr (.inl (lA g3)))), (h4, .inl (d4, 10, .inr (.inl (lA g4c))))]) [0, 1, 3, 2, 4] (by decide) rfl
      refine W.widen (k := cells) (n := slots) (Nat.le_refl _) (Nat.le_refl _) ?_
      refine lv_iload_n hx hb dX0_joined_122 rfl (lv_at hl 2 rfl) ?_
      refine lv_iload_n hx hb dX0_joined_123 rfl (lv_at hl 4 rfl) ?_
      refine lv_iconst (v := nI 1) hx hb dX0_joined_124 (by decide) ?_
      refine lv_isub hx hb dX0_joined_125 ?_
      refine w_i (pk_sub (a := qq + 1) (b := 1) (by omega)) ?_
      refine lv_isub hx hb dX0_joined_126 ?_
      refine w_i (pk_sub (a := left) (b := (qq + 1) - 1) (by omega)) ?_
      refine lv_istore_n (lv' := [(2, .int (nI (left - ((qq + 1) - 1)))), (3, .long (lN (CC + S))), (5, .long (lN (S))), (0, .ref h0), (1, .int (nI (qq + 1)))]) hx hb dX0_joined_127 rfl hl (by decide) rfl (fun ls hl => ?_)
      refine lv_goto (tgt := 73) hx hb dX0_joined_128 (by decide) ?_
      have e9 : left - (qq + 1) + 1 = left - ((qq + 1) - 1) := by omega
      rw [e9] at hP hD hw1
      exact ih (left - ((qq + 1) - 1)) (CC + S) (S :: mk_all g4b (left - (qq + 1))) g4c (by omega) (Or.inr (jg_mod hq (by omega) hge)) (by omega) (by rw [List.length_cons, mk_all_len]; omega) (by rw [List.sum_cons]; omega) hw1.1 hw1.2 (fun j c' hj => by
        obtain ⟨j', h9⟩ := hrel (j + 1) (c' + S) ⟨S, _, c', htk, hj, rfl⟩
        exact ⟨j', by rwa [show CC + S + c' = CC + (c' + S) by omega]⟩) _ _ ls hP hD hS (lv_sub hl [0, 1, 3, 4] rfl)
end JOINED
set_option maxHeartbeats 4000000 in
set_option maxRecDepth 100000 in
theorem metX0_joined (l : Launch) (dC : Nat → ClassId) (dI : Nat → Nat → Nat) (h0 h1 h2 h3 h4 : Nat) (d1 d3 d4 : ClassId) (sz n k : Nat) (g1 g3 g4 : Nat → Nat) (qq : Nat) (hq : qq = 1 ∨ qq = 2) (hn : n ≤ 8) (hw : ∀ i, i < n → g1 i < 65536) : Met l yX0_joined (ws_ yX0_joined cX0_joined 8 (some .long)) ({ frames := 1, cells := 0, slots := 0, locals := 26 }) (va_Pc [.ref h0, .int (nI (qq + 1))] (fun U => U.heap.size = sz ∧ va_P (dC, dI) vwCl [(h0, .inr (0, [.ref h1, .ref h2, .ref h3, .int (nI (n))])), (h1, .inl (d1, 8, .inl (iA g1))), (h2, .inr (1, [.ref h4, .int (nI (k))])), (h3, .inl (d3, 8, .inr (.inl (lA g3)))), (h4, .inl (d4, 10, .inr (.inl (lA g4))))] U.heap ∧ va_K (dC, dI) vwCl [(d1, .int), (d3, .long), (d4, .long)] U ∧ va_D (fun _ => True) [(h0, .inr (0, [.ref h1, .ref h2, .ref h3, .int (nI (n))])), (h1, .inl (d1, 8, .inl (iA g1))), (h2, .inr (1, [.ref h4, .int (nI (k))])), (h3, .inl (d3, 8, .inr (.inl (lA g3)))), (h4, .inl (d4, 10, .inr (.inl (lA g4))))])) (va_Ql (fun (r : Int64) (u : Nat × (Nat → Nat)) => (n = 0 ∧ r = lN 0) ∨ (0 < n ∧ ∃ j L c, hf_rel (qq + 1) j L c ∧ L.length % qq = 1 % qq ∧ (L.Perm (mk_all g1 n) ∨ (qq = 2 ∧ L.Perm (0 :: mk_all g1 n))) ∧ r = lN c)) (fun u t => va_P (dC, dI) vwCl [(h0, .inr (0, [.ref h1, .ref h2, .ref h3, .int (nI (n))])), (h1, .inl (d1, 8, .inl (iA g1))), (h2, .inr (1, [.ref h4, .int (nI (u.1))])), (h3, .inl (d3, 8, .inr (.inl (lA g3)))), (h4, .inl (d4, 10, .inr (.inl (lA u.2))))] t.heap ∧ va_K (dC, dI) vwCl [(d1, .int), (d3, .long), (d4, .long)] t ∧ va_D (va_A [(h0, .inr (0, [.ref h1, .ref h2, .ref h3, .int (nI (n))])), (h1, .inl (d1, 8, .inl (iA g1))), (h2, .inr (1, [.ref h4, .int (nI (k))])), (h3, .inl (d3, 8, .inr (.inl (lA g3)))), (h4, .inl (d4, 10, .inr (.inl (lA g4))))] sz) [(h0, .inr (0, [.ref h1, .ref h2, .ref h3, .int (nI (n))])), (h1, .inl (d1, 8, .inl (iA g1))), (h2, .inr (1, [.ref h4, .int (nI (u.1))])), (h3, .inl (d3, 8, .inr (.inl (lA g3)))), (h4, .inl (d4, 10, .inr (.inl (lA u.2))))]) (va_A [(h0, .inr (0, [.ref h1, .ref h2, .ref h3, .int (nI (n))])), (h1, .inl (d1, 8, .inl (iA g1))), (h2, .inr (1, [.ref h4, .int (nI (k))])), (h3, .inl (d3, 8, .inr (.inl (lA g3)))), (h4, .inl (d4, 10, .inr (.inl (lA g4))))] sz)) 0 0 (va_A [(h0, .inr (0, [.ref h1, .ref h2, .ref h3, .int (nI (n))])), (h1, .inl (d1, 8, .inl (iA g1))), (h2, .inr (1, [.ref h4, .int (nI (k))])), (h3, .inl (d3, 8, .inr (.inl (lA g3)))), (h4, .inl (d4, 10, .inr (.inl (lA g4))))] sz) := by
  refine Met.ofW (cc := cX0_joined) (maxL := 8) (ret := (some .long)) (by decide) rfl ?_
  intro p e s m args below meth c s₁ B hml hv
  obtain ⟨rfl, hsz, hP, hK, hD0⟩ := hv
  have hx := B.exec
  have hb := B.bytes
  have hr := B.returns
  have hts := atoms_spec (ws := ws_ yX0_joined cX0_joined 8 (some .long)) B.pre
  have hts : ∀ w ∈ lw_all, w.before _ s = true := fun w h => hts w (List.mem_cons_of_mem _ h)
  have hown : s.vm.findClass RX0 = some m.cls := findClass_of_methodNamed B.named
  have hlocks := B.notSynchronized
  subst hsz
  have hD := hD0.self (sz := s.heap.size)
  generalize hAe : va_A [(h0, .inr (0, [.ref h1, .ref h2, .ref h3, .int (nI (n))])), (h1, .inl (d1, 8, .inl (iA g1))), (h2, .inr (1, [.ref h4, .int (nI (k))])), (h3, .inl (d3, 8, .inr (.inl (lA g3)))), (h4, .inl (d4, 10, .inr (.inl (lA g4))))] s.heap.size = A at hD ⊢
  have hA : ∀ q : Nat, s.heap.size ≤ q → A q := fun q h => by rw [← hAe]; exact Or.inr h
  have hS : va_S A s.heap s.heap [] := va_S.rf
  have hP : va_P (dC, dI) vwCl [(h0, .inr (0, [.ref h1, .ref h2, .ref h3, .int (nI (n))])), (h1, .inl (d1, 8, .inl (iA g1))), (h2, .inr (1, [.ref h4, .int (nI (k))])), (h3, .inl (d3, 8, .inr (.inl (lA g3)))), (h4, .inl (d4, 10, .inr (.inl (lA g4))))] s.heap := hP
  have hl := lv_entry ([.ref h0, .int (nI (qq + 1))]) (n := 8) (Nat.le_of_ble_eq_true rfl)
  rw [lg_entry_eq]
  generalize (lg_sl ([.ref h0, .int (nI (qq + 1))]) ++ List.replicate (8 - (lg_sl ([.ref h0, .int (nI (qq + 1))])).length) Slot.unset).toArray = ls at hl ⊢
  have hl : lv_has ls 8 [(0, .ref h0), (1, .int (nI (qq + 1)))] := hl
  have hRp : 0 + 1 ≤ (headSpec (ws_ yX0_joined cX0_joined 8 (some .long)) ({ frames := 1, cells := 0, slots := 0, locals := 26 })).room.frames ∧ 8 + (4 + 11) + 0 ≤ (headSpec (ws_ yX0_joined cX0_joined 8 (some .long)) ({ frames := 1, cells := 0, slots := 0, locals := 26 })).room.locals := ⟨Nat.le_of_ble_eq_true rfl, Nat.le_of_ble_eq_true rfl⟩
  have hRt : 0 + 1 ≤ (headSpec (ws_ yX0_joined cX0_joined 8 (some .long)) ({ frames := 1, cells := 0, slots := 0, locals := 26 })).room.frames ∧ 8 + (7 + 11) + 0 ≤ (headSpec (ws_ yX0_joined cX0_joined 8 (some .long)) ({ frames := 1, cells := 0, slots := 0, locals := 26 })).room.locals := ⟨Nat.le_of_ble_eq_true rfl, Nat.le_of_ble_eq_true rfl⟩
  have hRc : 0 + 0 ≤ (headSpec (ws_ yX0_joined cX0_joined 8 (some .long)) ({ frames := 1, cells := 0, slots := 0, locals := 26 })).room.cells ∧ 0 + 0 ≤ (headSpec (ws_ yX0_joined cX0_joined 8 (some .long)) ({ frames := 1, cells := 0, slots := 0, locals := 26 })).room.slots := ⟨Nat.le_of_ble_eq_true rfl, Nat.le_of_ble_eq_true rfl⟩
  have hsum := mk_all_sum hn hw
  refine lv_aload_n hx hb dX0_joined_0 rfl (lv_at hl 0 rfl) ?_
  refine va_get (D := (dC, dI)) (ci := 0) (v := .ref h2) (C := RX0) (T := TX0) (N := 4) hx hb hts in_X0 hown hK hP 0 rfl rfl 1 (by decide) (hts _ q30) (fun _ h9 => h9) rfl dX0_joined_1 ?_
  have hPc := hP.sub (ws' := [(h2, .inr (1, [.ref h4, .int (nI (k))])), (h4, .inl (d4, 10, .inr (.inl (lA g4))))]) [2, 4] rfl
  have hDc := hD.sub (ws' := [(h2, .inr (1, [.ref h4, .int (nI (k))])), (h4, .inl (d4, 10, .inr (.inl (lA g4))))]) [2, 4] (by decide) rfl
  have hKc := hK.sub (tys' := [(d4, .long)]) [2] rfl
  have hFc := va_free (wc := [(h2, .inr (1, [.ref h4, .int (nI (k))])), (h4, .inl (d4, 10, .inr (.inl (lA g4))))]) hD hS hA [2, 4] rfl
  refine va_callv (va_runV (As := []) (rest := []) ⟨hx, hb, hml, hown, hts⟩ (metX1_clear l dC dI h2 h4 d4 s.heap.size k g4) (cwV 0 hts (lw_V q59 q60 q61 q4 q62) rfl rfl rfl (by decide +kernel) ⟨Nat.le_of_ble_eq_true rfl, Nat.le_of_ble_eq_true rfl⟩) ⟨fun a U g mk q => by obtain ⟨q0, q1, qP, qK, qD⟩ := q; exact ⟨q0, q1, qP, va_K.moved (u := U) (U := U.calling g mk a) (Vm.Alike.refl U.vm) qK, qD⟩, va_recv hKc hPc (ci := 1) (q0 := 0) rfl rfl, fun U hU hW => ⟨rfl, by rw [hU], by rw [hU]; exact hPc, va_K.moved hW.alike hKc, hDc.weaken (fun _ _ _ _ => trivial)⟩⟩ rfl rfl hl.1 rfl (lv_room (Nat.le_of_ble_eq_true rfl)) dX0_joined_4 hRc) hS (fun q _ h => hFc q h) hFc (fun u0 t H1 locs ht hvm hw0 hB1 hz1 hk1 hS => ?_)
  obtain ⟨hP1, hK1, hD1⟩ := hB1
  rw [ht] at hP1
  have hK1 := va_K.moved hvm.symm hK1
  obtain ⟨hP, hD⟩ := va_join (wr := [(h0, .inr (0, [.ref h1, .ref h2, .ref h3, .int (nI (n))])), (h1, .inl (d1, 8, .inl (iA g1))), (h3, .inl (d3, 8, .inr (.inl (lA g3))))]) (w1 := [(h2, .inr (1, [.ref h4, .int (nI (0))])), (h4, .inl (d4, 10, .inr (.inl (lA g4))))]) hP hD [2, 4] [0, 1, 3] rfl rfl (by decide) (by decide) hk1 hFc hP1 hD1
  generalize H1 = H at hP hS ⊢
  have hP := hP.sub (ws' := [(h0, .inr (0, [.ref h1, .ref h2, .ref h3, .int (nI (n))])), (h1, .inl (d1, 8, .inl (iA g1))), (h2, .inr (1, [.ref h4, .int (nI (0))])), (h3, .inl (d3, 8, .inr (.inl (lA g3)))), (h4, .inl (d4, 10, .inr (.inl (lA g4))))]) [0, 1, 3, 2, 4] rfl
  have hD := hD.sub (ws' := [(h0, .inr (0, [.ref h1, .ref h2, .ref h3, .int (nI (n))])), (h1, .inl (d1, 8, .inl (iA g1))), (h2, .inr (1, [.ref h4, .int (nI (0))])), (h3, .inl (d3, 8, .inr (.inl (lA g3)))), (h4, .inl (d4, 10, .inr (.inl (lA g4))))]) [0, 1, 3, 2, 4] (by decide) rfl
  refine W.widen (k := 0) (n := 0) (Nat.le_refl _) (Nat.le_refl _) ?_
  refine lv_iconst (v := nI 0) hx hb dX0_joined_7 (by decide) ?_
  refine lv_istore_n (lv' := [(2, .int (nI (0))), (0, .ref h0), (1, .int (nI (qq + 1)))]) hx hb dX0_joined_8 rfl hl (by decide) rfl (fun ls hl => ?_)
  refine lp_jE hx hb hown hts hml hA hRp hRt hRc hn hw hK (fun g4b H locs ls hhb hpmb hP hD hS hl => ?_) (n + 1) 0 g4 (by omega) (by omega) (fun i h1 h2 => by omega) (List.Perm.refl _) _ _ ls hP hD hS (lv_sub hl [0, 1, 2] rfl)
  refine lv_aload_n hx hb dX0_joined_37 rfl (lv_at hl 0 rfl) ?_
  refine va_get (D := (dC, dI)) (ci := 0) (v := .int (nI (n))) (C := RX0) (T := TX0) (N := 4) hx hb hts in_X0 hown hK hP 0 rfl rfl 3 (by decide) (hts _ q32) (fun _ h9 => h9) rfl dX0_joined_38 ?_
  refine lv_istore_n (lv' := [(2, .int (nI (n))), (0, .ref h0), (1, .int (nI (qq + 1)))]) hx hb dX0_joined_41 rfl hl (by decide) rfl (fun ls hl => ?_)
  refine lp_jF hx hb hown hts hml hA hRp hRt hRc hn hw hK hq (fun pad g4c H locs ls hp1 hpd hmod hhc hpmc hP hD hS hl => ?_) 2 0 g4b (by omega) (by omega) (fun h => by omega) hhb hpmb _ _ ls hP hD hS (lv_sub hl [0, 1, 2] rfl)
  refine lv_lconst (v := lN 0) hx hb dX0_joined_71 rfl ?_
  refine lv_lstore_n (lv' := [(3, .long (lN (0))), (2, .int (nI (n + pad))), (0, .ref h0), (1, .int (nI (qq + 1)))]) hx hb dX0_joined_72 rfl hl (by decide) rfl (fun ls hl => ?_)
  refine lp_jG hx hb hown hts hml hA hRp hRt hRc hn hw hK hq (List.replicate pad 0 ++ mk_all g1 n) (fun left CC g4d H locs ls hj hP hD hS hl => ?_) (n + pad + 1) (n + pad) 0 (List.replicate pad 0 ++ mk_all g1 n) g4c (by omega) hmod (by omega) (by rw [List.length_append, List.length_replicate, mk_all_len]; omega) (by rw [List.sum_append, List.sum_replicate_nat]; omega) hhc hpmc (fun j c' h9 => ⟨j, by rwa [Nat.zero_add]⟩) _ _ ls hP hD hS (lv_sub hl [1, 0, 2, 3] rfl)
  have hpost : (fun (r : Int64) (u : Nat × (Nat → Nat)) => (n = 0 ∧ r = lN 0) ∨ (0 < n ∧ ∃ j L c, hf_rel (qq + 1) j L c ∧ L.length % qq = 1 % qq ∧ (L.Perm (mk_all g1 n) ∨ (qq = 2 ∧ L.Perm (0 :: mk_all g1 n))) ∧ r = lN c)) (lN CC) (left, g4d) := by
    obtain ⟨j, hj⟩ := hj
    rcases Nat.eq_zero_or_pos n with hz | hz
    · have hpad : pad = 0 := by
        rcases (by omega : pad = 0 ∨ pad = 1) with q | q
        · exact q
        · have := hpd q; omega
      rw [hz, hpad] at hj
      exact Or.inl ⟨hz, by rw [hf_rel_nil hj]⟩
    · refine Or.inr ⟨hz, j, _, CC, hj, ?_, ?_, rfl⟩
      · rw [List.length_append, List.length_replicate, mk_all_len]
        rcases hmod with q | q
        · omega
        · rw [Nat.add_comm]; exact q
      · rcases (by omega : pad = 0 ∨ pad = 1) with q | q
        · rw [q]; exact Or.inl (List.Perm.refl _)
        · refine Or.inr ⟨(hpd q).1, ?_⟩
          rw [q]; exact List.Perm.refl _
  refine lv_lload_n hx hb dX0_joined_131 rfl (lv_at hl 0 rfl) ?_
  have hP9 := hP.sub (ws' := [(h0, .inr (0, [.ref h1, .ref h2, .ref h3, .int (nI (n))])), (h1, .inl (d1, 8, .inl (iA g1))), (h2, .inr (1, [.ref h4, .int (nI (left))])), (h3, .inl (d3, 8, .inr (.inl (lA g3)))), (h4, .inl (d4, 10, .inr (.inl (lA g4d))))]) [0, 1, 2, 3, 4] rfl
  have hD9 := hD.sub (ws' := [(h0, .inr (0, [.ref h1, .ref h2, .ref h3, .int (nI (n))])), (h1, .inl (d1, 8, .inl (iA g1))), (h2, .inr (1, [.ref h4, .int (nI (left))])), (h3, .inl (d3, 8, .inr (.inl (lA g3)))), (h4, .inl (d4, 10, .inr (.inl (lA g4d))))]) [0, 1, 2, 3, 4] (by decide) rfl
  have hK9 := hK.sub (tys' := [(d1, .int), (d3, .long), (d4, .long)]) [0, 1, 2] rfl
  exact W.lret (v := lN (CC)) hx hb hr (fun t ht hW => ⟨⟨lN (CC), (left, g4d), rfl, hpost, by rw [ht]; exact hP9, va_K.moved hW.alike hK9, hD9⟩, hS.F ht⟩) hS.2.2 dX0_joined_132
set_option maxHeartbeats 4000000 in
set_option maxRecDepth 100000 in
theorem metX0_any (l : Launch) (dC : Nat → ClassId) (dI : Nat → Nat → Nat) (h0 h1 h2 h3 h4 : Nat) (d1 d3 d4 : ClassId) (sz n k : Nat) (g1 g3 g4 : Nat → Nat) (hn : n ≤ 8) (hw : ∀ i, i < n → g1 i < 65536) : Met l yX0_any (ws_ yX0_any cX0_any 1 (some .long)) ({ frames := 2, cells := 0, slots := 0, locals := 53 }) (va_Pc [.ref h0] (fun U => U.heap.size = sz ∧ va_P (dC, dI) vwCl [(h0, .inr (0, [.ref h1, .ref h2, .ref h3, .int (nI (n))])), (h1, .inl (d1, 8, .inl (iA g1))), (h2, .inr (1, [.ref h4, .int (nI (k))])), (h3, .inl (d3, 8, .inr (.inl (lA g3)))), (h4, .inl (d4, 10, .inr (.inl (lA g4))))] U.heap ∧ va_K (dC, dI) vwCl [(d1, .int), (d3, .long), (d4, .long)] U ∧ va_D (fun _ => True) [(h0, .inr (0, [.ref h1, .ref h2, .ref h3, .int (nI (n))])), (h1, .inl (d1, 8, .inl (iA g1))), (h2, .inr (1, [.ref h4, .int (nI (k))])), (h3, .inl (d3, 8, .inr (.inl (lA g3)))), (h4, .inl (d4, 10, .inr (.inl (lA g4))))])) (va_Ql (fun (r : Int64) (u : Nat × (Nat → Nat)) => (n = 0 ∧ r = lN 0) ∨ (0 < n ∧ ∃ j L c, hf_rel (1 + 1) j L c ∧ L.length % 1 = 1 % 1 ∧ (L.Perm (mk_all g1 n) ∨ (1 = 2 ∧ L.Perm (0 :: mk_all g1 n))) ∧ r = lN c)) (fun u t => va_P (dC, dI) vwCl [(h0, .inr (0, [.ref h1, .ref h2, .ref h3, .int (nI (n))])), (h1, .inl (d1, 8, .inl (iA g1))), (h2, .inr (1, [.ref h4, .int (nI (u.1))])), (h3, .inl (d3, 8, .inr (.inl (lA g3)))), (h4, .inl (d4, 10, .inr (.inl (lA u.2))))] t.heap ∧ va_K (dC, dI) vwCl [(d1, .int), (d3, .long), (d4, .long)] t ∧ va_D (va_A [(h0, .inr (0, [.ref h1, .ref h2, .ref h3, .int (nI (n))])), (h1, .inl (d1, 8, .inl (iA g1))), (h2, .inr (1, [.ref h4, .int (nI (k))])), (h3, .inl (d3, 8, .inr (.inl (lA g3)))), (h4, .inl (d4, 10, .inr (.inl (lA g4))))] sz) [(h0, .inr (0, [.ref h1, .ref h2, .ref h3, .int (nI (n))])), (h1, .inl (d1, 8, .inl (iA g1))), (h2, .inr (1, [.ref h4, .int (nI (u.1))])), (h3, .inl (d3, 8, .inr (.inl (lA g3)))), (h4, .inl (d4, 10, .inr (.inl (lA u.2))))]) (va_A [(h0, .inr (0, [.ref h1, .ref h2, .ref h3, .int (nI (n))])), (h1, .inl (d1, 8, .inl (iA g1))), (h2, .inr (1, [.ref h4, .int (nI (k))])), (h3, .inl (d3, 8, .inr (.inl (lA g3)))), (h4, .inl (d4, 10, .inr (.inl (lA g4))))] sz)) 0 0 (va_A [(h0, .inr (0, [.ref h1, .ref h2, .ref h3, .int (nI (n))])), (h1, .inl (d1, 8, .inl (iA g1))), (h2, .inr (1, [.ref h4, .int (nI (k))])), (h3, .inl (d3, 8, .inr (.inl (lA g3)))), (h4, .inl (d4, 10, .inr (.inl (lA g4))))] sz) := by
  refine Met.ofW (cc := cX0_any) (maxL := 1) (ret := (some .long)) (by decide) rfl ?_
  intro p e s m args below meth c s₁ B hml hv
  obtain ⟨rfl, hsz, hP, hK, hD0⟩ := hv
  have hx := B.exec
  have hb := B.bytes
  have hr := B.returns
  have hts := atoms_spec (ws := ws_ yX0_any cX0_any 1 (some .long)) B.pre
  have hts : ∀ w ∈ lw_all, w.before _ s = true := fun w h => hts w (List.mem_cons_of_mem _ h)
  have hown : s.vm.findClass RX0 = some m.cls := findClass_of_methodNamed B.named
  have hlocks := B.notSynchronized
  subst hsz
  have hD := hD0.self (sz := s.heap.size)
  generalize hAe : va_A [(h0, .inr (0, [.ref h1, .ref h2, .ref h3, .int (nI (n))])), (h1, .inl (d1, 8, .inl (iA g1))), (h2, .inr (1, [.ref h4, .int (nI (k))])), (h3, .inl (d3, 8, .inr (.inl (lA g3)))), (h4, .inl (d4, 10, .inr (.inl (lA g4))))] s.heap.size = A at hD ⊢
  have hA : ∀ q : Nat, s.heap.size ≤ q → A q := fun q h => by rw [← hAe]; exact Or.inr h
  have hS : va_S A s.heap s.heap [] := va_S.rf
  have hP : va_P (dC, dI) vwCl [(h0, .inr (0, [.ref h1, .ref h2, .ref h3, .int (nI (n))])), (h1, .inl (d1, 8, .inl (iA g1))), (h2, .inr (1, [.ref h4, .int (nI (k))])), (h3, .inl (d3, 8, .inr (.inl (lA g3)))), (h4, .inl (d4, 10, .inr (.inl (lA g4))))] s.heap := hP
  have hl := lv_entry ([.ref h0]) (n := 1) (Nat.le_of_ble_eq_true rfl)
  rw [lg_entry_eq]
  generalize (lg_sl ([.ref h0]) ++ List.replicate (1 - (lg_sl ([.ref h0])).length) Slot.unset).toArray = ls at hl ⊢
  have hl : lv_has ls 1 [(0, .ref h0)] := hl
  refine lv_aload_n hx hb dX0_any_0 rfl (lv_at hl 0 rfl) ?_
  refine lv_iconst (v := nI 2) hx hb dX0_any_1 (by decide) ?_
  have hPc := hP.sub (ws' := [(h0, .inr (0, [.ref h1, .ref h2, .ref h3, .int (nI (n))])), (h1, .inl (d1, 8, .inl (iA g1))), (h2, .inr (1, [.ref h4, .int (nI (k))])), (h3, .inl (d3, 8, .inr (.inl (lA g3)))), (h4, .inl (d4, 10, .inr (.inl (lA g4))))]) [0, 1, 2, 3, 4] rfl
  have hDc := hD.sub (ws' := [(h0, .inr (0, [.ref h1, .ref h2, .ref h3, .int (nI (n))])), (h1, .inl (d1, 8, .inl (iA g1))), (h2, .inr (1, [.ref h4, .int (nI (k))])), (h3, .inl (d3, 8, .inr (.inl (lA g3)))), (h4, .inl (d4, 10, .inr (.inl (lA g4))))]) [0, 1, 2, 3, 4] (by decide) rfl
  have hKc := hK.sub (tys' := [(d1, .int), (d3, .long), (d4, .long)]) [0, 1, 2] rfl
  have hFc := va_free (wc := [(h0, .inr (0, [.ref h1, .ref h2, .ref h3, .int (nI (n))])), (h1, .inl (d1, 8, .inl (iA g1))), (h2, .inr (1, [.ref h4, .int (nI (k))])), (h3, .inl (d3, 8, .inr (.inl (lA g3)))), (h4, .inl (d4, 10, .inr (.inl (lA g4))))]) hD hS hA [0, 1, 2, 3, 4] rfl
  refine va_calll (va_runV (As := [.int (nI (2))]) (rest := []) ⟨hx, hb, hml, hown, hts⟩ (metX0_joined l dC dI h0 h1 h2 h3 h4 d1 d3 d4 s.heap.size n k g1 g3 g4 1 (by omega) hn hw) (cwV 1 hts (lw_V q55 q57 qs0 q3 q58) rfl rfl rfl (by decide +kernel) ⟨Nat.le_of_ble_eq_true rfl, Nat.le_of_ble_eq_true rfl⟩) ⟨fun a U g mk q => by obtain ⟨q0, q1, qP, qK, qD⟩ := q; exact ⟨q0, q1, qP, va_K.moved (u := U) (U := U.calling g mk a) (Vm.Alike.refl U.vm) qK, qD⟩, va_recv hKc hPc (ci := 0) (q0 := 0) rfl rfl, fun U hU hW => ⟨rfl, by rw [hU], by rw [hU]; exact hPc, va_K.moved hW.alike hKc, hDc.weaken (fun _ _ _ _ => trivial)⟩⟩ rfl rfl hl.1 rfl (lv_room (Nat.le_of_ble_eq_true rfl)) dX0_any_2 ⟨Nat.le_refl _, Nat.le_refl _⟩) hS (fun q _ h => hFc q h) hFc (fun r1 u0 t H1 locs ht hvm hw0 hB1 hz1 hk1 hS => ?_)
  obtain ⟨ka, g4a⟩ := u0
  obtain ⟨hP1, hK1, hD1⟩ := hB1
  rw [ht] at hP1
  have hK1 := va_K.moved hvm.symm hK1
  obtain ⟨hP, hD⟩ := va_join (wr := []) (w1 := [(h0, .inr (0, [.ref h1, .ref h2, .ref h3, .int (nI (n))])), (h1, .inl (d1, 8, .inl (iA g1))), (h2, .inr (1, [.ref h4, .int (nI (ka))])), (h3, .inl (d3, 8, .inr (.inl (lA g3)))), (h4, .inl (d4, 10, .inr (.inl (lA g4a))))]) hP hD [0, 1, 2, 3, 4] [] rfl rfl (by decide) (by decide) hk1 hFc hP1 hD1
  generalize H1 = H at hP hS ⊢
  have hP := hP.sub (ws' := [(h0, .inr (0, [.ref h1, .ref h2, .ref h3, .int (nI (n))])), (h1, .inl (d1, 8, .inl (iA g1))), (h2, .inr (1, [.ref h4, .int (nI (ka))])), (h3, .inl (d3, 8, .inr (.inl (lA g3)))), (h4, .inl (d4, 10, .inr (.inl (lA g4a))))]) [0, 1, 2, 3, 4] rfl
  have hD := hD.sub (ws' := [(h0, .inr (0, [.ref h1, .ref h2, .ref h3, .int (nI (n))])), (h1, .inl (d1, 8, .inl (iA g1))), (h2, .inr (1, [.ref h4, .int (nI (ka))])), (h3, .inl (d3, 8, .inr (.inl (lA g3)))), (h4, .inl (d4, 10, .inr (.inl (lA g4a))))]) [0, 1, 2, 3, 4] (by decide) rfl
  refine W.widen (k := 0) (n := 0) (Nat.le_refl _) (Nat.le_refl _) ?_
  have hP9 := hP.sub (ws' := [(h0, .inr (0, [.ref h1, .ref h2, .ref h3, .int (nI (n))])), (h1, .inl (d1, 8, .inl (iA g1))), (h2, .inr (1, [.ref h4, .int (nI (ka))])), (h3, .inl (d3, 8, .inr (.inl (lA g3)))), (h4, .inl (d4, 10, .inr (.inl (lA g4a))))]) [0, 1, 2, 3, 4] rfl
  have hD9 := hD.sub (ws' := [(h0, .inr (0, [.ref h1, .ref h2, .ref h3, .int (nI (n))])), (h1, .inl (d1, 8, .inl (iA g1))), (h2, .inr (1, [.ref h4, .int (nI (ka))])), (h3, .inl (d3, 8, .inr (.inl (lA g3)))), (h4, .inl (d4, 10, .inr (.inl (lA g4a))))]) [0, 1, 2, 3, 4] (by decide) rfl
  have hK9 := hK.sub (tys' := [(d1, .int), (d3, .long), (d4, .long)]) [0, 1, 2] rfl
  exact W.lret (v := r1) hx hb hr (fun t ht hW => ⟨⟨r1, (ka, g4a), rfl, hw0, by rw [ht]; exact hP9, va_K.moved hW.alike hK9, hD9⟩, hS.F ht⟩) hS.2.2 dX0_any_5
set_option maxHeartbeats 4000000 in
set_option maxRecDepth 100000 in
theorem metX0_three (l : Launch) (dC : Nat → ClassId) (dI : Nat → Nat → Nat) (h0 h1 h2 h3 h4 : Nat) (d1 d3 d4 : ClassId) (sz n k : Nat) (g1 g3 g4 : Nat → Nat) (hn : n ≤ 8) (hw : ∀ i, i < n → g1 i < 65536) : Met l yX0_three (ws_ yX0_three cX0_three 1 (some .long)) ({ frames := 2, cells := 0, slots := 0, locals := 53 }) (va_Pc [.ref h0] (fun U => U.heap.size = sz ∧ va_P (dC, dI) vwCl [(h0, .inr (0, [.ref h1, .ref h2, .ref h3, .int (nI (n))])), (h1, .inl (d1, 8, .inl (iA g1))), (h2, .inr (1, [.ref h4, .int (nI (k))])), (h3, .inl (d3, 8, .inr (.inl (lA g3)))), (h4, .inl (d4, 10, .inr (.inl (lA g4))))] U.heap ∧ va_K (dC, dI) vwCl [(d1, .int), (d3, .long), (d4, .long)] U ∧ va_D (fun _ => True) [(h0, .inr (0, [.ref h1, .ref h2, .ref h3, .int (nI (n))])), (h1, .inl (d1, 8, .inl (iA g1))), (h2, .inr (1, [.ref h4, .int (nI (k))])), (h3, .inl (d3, 8, .inr (.inl (lA g3)))), (h4, .inl (d4, 10, .inr (.inl (lA g4))))])) (va_Ql (fun (r : Int64) (u : Nat × (Nat → Nat)) => (n = 0 ∧ r = lN 0) ∨ (0 < n ∧ ∃ j L c, hf_rel (2 + 1) j L c ∧ L.length % 2 = 1 % 2 ∧ (L.Perm (mk_all g1 n) ∨ (2 = 2 ∧ L.Perm (0 :: mk_all g1 n))) ∧ r = lN c)) (fun u t => va_P (dC, dI) vwCl [(h0, .inr (0, [.ref h1, .ref h2, .ref h3, .int (nI (n))])), (h1, .inl (d1, 8, .inl (iA g1))), (h2, .inr (1, [.ref h4, .int (nI (u.1))])), (h3, .inl (d3, 8, .inr (.inl (lA g3)))), (h4, .inl (d4, 10, .inr (.inl (lA u.2))))] t.heap ∧ va_K (dC, dI) vwCl [(d1, .int), (d3, .long), (d4, .long)] t ∧ va_D (va_A [(h0, .inr (0, [.ref h1, .ref h2, .ref h3, .int (nI (n))])), (h1, .inl (d1, 8, .inl (iA g1))), (h2, .inr (1, [.ref h4, .int (nI (k))])), (h3, .inl (d3, 8, .inr (.inl (lA g3)))), (h4, .inl (d4, 10, .inr (.inl (lA g4))))] sz) [(h0, .inr (0, [.ref h1, .ref h2, .ref h3, .int (nI (n))])), (h1, .inl (d1, 8, .inl (iA g1))), (h2, .inr (1, [.ref h4, .int (nI (u.1))])), (h3, .inl (d3, 8, .inr (.inl (lA g3)))), (h4, .inl (d4, 10, .inr (.inl (lA u.2))))]) (va_A [(h0, .inr (0, [.ref h1, .ref h2, .ref h3, .int (nI (n))])), (h1, .inl (d1, 8, .inl (iA g1))), (h2, .inr (1, [.ref h4, .int (nI (k))])), (h3, .inl (d3, 8, .inr (.inl (lA g3)))), (h4, .inl (d4, 10, .inr (.inl (lA g4))))] sz)) 0 0 (va_A [(h0, .inr (0, [.ref h1, .ref h2, .ref h3, .int (nI (n))])), (h1, .inl (d1, 8, .inl (iA g1))), (h2, .inr (1, [.ref h4, .int (nI (k))])), (h3, .inl (d3, 8, .inr (.inl (lA g3)))), (h4, .inl (d4, 10, .inr (.inl (lA g4))))] sz) := by
  refine Met.ofW (cc := cX0_three) (maxL := 1) (ret := (some .long)) (by decide) rfl ?_
  intro p e s m args below meth c s₁ B hml hv
  obtain ⟨rfl, hsz, hP, hK, hD0⟩ := hv
  have hx := B.exec
  have hb := B.bytes
  have hr := B.returns
  have hts := atoms_spec (ws := ws_ yX0_three cX0_three 1 (some .long)) B.pre
  have hts : ∀ w ∈ lw_all, w.before _ s = true := fun w h => hts w (List.mem_cons_of_mem _ h)
  have hown : s.vm.findClass RX0 = some m.cls := findClass_of_methodNamed B.named
  have hlocks := B.notSynchronized
  subst hsz
  have hD := hD0.self (sz := s.heap.size)
  generalize hAe : va_A [(h0, .inr (0, [.ref h1, .ref h2, .ref h3, .int (nI (n))])), (h1, .inl (d1, 8, .inl (iA g1))), (h2, .inr (1, [.ref h4, .int (nI (k))])), (h3, .inl (d3, 8, .inr (.inl (lA g3)))), (h4, .inl (d4, 10, .inr (.inl (lA g4))))] s.heap.size = A at hD ⊢
  have hA : ∀ q : Nat, s.heap.size ≤ q → A q := fun q h => by rw [← hAe]; exact Or.inr h
  have hS : va_S A s.heap s.heap [] := va_S.rf
  have hP : va_P (dC, dI) vwCl [(h0, .inr (0, [.ref h1, .ref h2, .ref h3, .int (nI (n))])), (h1, .inl (d1, 8, .inl (iA g1))), (h2, .inr (1, [.ref h4, .int (nI (k))])), (h3, .inl (d3, 8, .inr (.inl (lA g3)))), (h4, .inl (d4, 10, .inr (.inl (lA g4))))] s.heap := hP
  have hl := lv_entry ([.ref h0]) (n := 1) (Nat.le_of_ble_eq_true rfl)
  rw [lg_entry_eq]
  generalize (lg_sl ([.ref h0]) ++ List.replicate (1 - (lg_sl ([.ref h0])).length) Slot.unset).toArray = ls at hl ⊢
  have hl : lv_has ls 1 [(0, .ref h0)] := hl
  refine lv_aload_n hx hb dX0_three_0 rfl (lv_at hl 0 rfl) ?_
  refine lv_iconst (v := nI 3) hx hb dX0_three_1 (by decide) ?_
  have hPc := hP.sub (ws' := [(h0, .inr (0, [.ref h1, .ref h2, .ref h3, .int (nI (n))])), (h1, .inl (d1, 8, .inl (iA g1))), (h2, .inr (1, [.ref h4, .int (nI (k))])), (h3, .inl (d3, 8, .inr (.inl (lA g3)))), (h4, .inl (d4, 10, .inr (.inl (lA g4))))]) [0, 1, 2, 3, 4] rfl
  have hDc := hD.sub (ws' := [(h0, .inr (0, [.ref h1, .ref h2, .ref h3, .int (nI (n))])), (h1, .inl (d1, 8, .inl (iA g1))), (h2, .inr (1, [.ref h4, .int (nI (k))])), (h3, .inl (d3, 8, .inr (.inl (lA g3)))), (h4, .inl (d4, 10, .inr (.inl (lA g4))))]) [0, 1, 2, 3, 4] (by decide) rfl
  have hKc := hK.sub (tys' := [(d1, .int), (d3, .long), (d4, .long)]) [0, 1, 2] rfl
  have hFc := va_free (wc := [(h0, .inr (0, [.ref h1, .ref h2, .ref h3, .int (nI (n))])), (h1, .inl (d1, 8, .inl (iA g1))), (h2, .inr (1, [.ref h4, .int (nI (k))])), (h3, .inl (d3, 8, .inr (.inl (lA g3)))), (h4, .inl (d4, 10, .inr (.inl (lA g4))))]) hD hS hA [0, 1, 2, 3, 4] rfl
  refine va_calll (va_runV (As := [.int (nI (3))]) (rest := []) ⟨hx, hb, hml, hown, hts⟩ (metX0_joined l dC dI h0 h1 h2 h3 h4 d1 d3 d4 s.heap.size n k g1 g3 g4 2 (by omega) hn hw) (cwV 1 hts (lw_V q55 q57 qs0 q3 q58) rfl rfl rfl (by decide +kernel) ⟨Nat.le_of_ble_eq_true rfl, Nat.le_of_ble_eq_true rfl⟩) ⟨fun a U g mk q => by obtain ⟨q0, q1, qP, qK, qD⟩ := q; exact ⟨q0, q1, qP, va_K.moved (u := U) (U := U.calling g mk a) (Vm.Alike.refl U.vm) qK, qD⟩, va_recv hKc hPc (ci := 0) (q0 := 0) rfl rfl, fun U hU hW => ⟨rfl, by rw [hU], by rw [hU]; exact hPc, va_K.moved hW.alike hKc, hDc.weaken (fun _ _ _ _ => trivial)⟩⟩ rfl rfl hl.1 rfl (lv_room (Nat.le_of_ble_eq_true rfl)) dX0_three_2 ⟨Nat.le_refl _, Nat.le_refl _⟩) hS (fun q _ h => hFc q h) hFc (fun r1 u0 t H1 locs ht hvm hw0 hB1 hz1 hk1 hS => ?_)
  obtain ⟨ka, g4a⟩ := u0
  obtain ⟨hP1, hK1, hD1⟩ := hB1
  rw [ht] at hP1
  have hK1 := va_K.moved hvm.symm hK1
  obtain ⟨hP, hD⟩ := va_join (wr := []) (w1 := [(h0, .inr (0, [.ref h1, .ref h2, .ref h3, .int (nI (n))])), (h1, .inl (d1, 8, .inl (iA g1))), (h2, .inr (1, [.ref h4, .int (nI (ka))])), (h3, .inl (d3, 8, .inr (.inl (lA g3)))), (h4, .inl (d4, 10, .inr (.inl (lA g4a))))]) hP hD [0, 1, 2, 3, 4] [] rfl rfl (by decide) (by decide) hk1 hFc hP1 hD1
  generalize H1 = H at hP hS ⊢
  have hP := hP.sub (ws' := [(h0, .inr (0, [.ref h1, .ref h2, .ref h3, .int (nI (n))])), (h1, .inl (d1, 8, .inl (iA g1))), (h2, .inr (1, [.ref h4, .int (nI (ka))])), (h3, .inl (d3, 8, .inr (.inl (lA g3)))), (h4, .inl (d4, 10, .inr (.inl (lA g4a))))]) [0, 1, 2, 3, 4] rfl
  have hD := hD.sub (ws' := [(h0, .inr (0, [.ref h1, .ref h2, .ref h3, .int (nI (n))])), (h1, .inl (d1, 8, .inl (iA g1))), (h2, .inr (1, [.ref h4, .int (nI (ka))])), (h3, .inl (d3, 8, .inr (.inl (lA g3)))), (h4, .inl (d4, 10, .inr (.inl (lA g4a))))]) [0, 1, 2, 3, 4] (by decide) rfl
  refine W.widen (k := 0) (n := 0) (Nat.le_refl _) (Nat.le_refl _) ?_
  have hP9 := hP.sub (ws' := [(h0, .inr (0, [.ref h1, .ref h2, .ref h3, .int (nI (n))])), (h1, .inl (d1, 8, .inl (iA g1))), (h2, .inr (1, [.ref h4, .int (nI (ka))])), (h3, .inl (d3, 8, .inr (.inl (lA g3)))), (h4, .inl (d4, 10, .inr (.inl (lA g4a))))]) [0, 1, 2, 3, 4] rfl
  have hD9 := hD.sub (ws' := [(h0, .inr (0, [.ref h1, .ref h2, .ref h3, .int (nI (n))])), (h1, .inl (d1, 8, .inl (iA g1))), (h2, .inr (1, [.ref h4, .int (nI (ka))])), (h3, .inl (d3, 8, .inr (.inl (lA g3)))), (h4, .inl (d4, 10, .inr (.inl (lA g4a))))]) [0, 1, 2, 3, 4] (by decide) rfl
  have hK9 := hK.sub (tys' := [(d1, .int), (d3, .long), (d4, .long)]) [0, 1, 2] rfl
  exact W.lret (v := r1) hx hb hr (fun t ht hW => ⟨⟨r1, (ka, g4a), rfl, hw0, by rw [ht]; exact hP9, va_K.moved hW.alike hK9, hD9⟩, hS.F ht⟩) hS.2.2 dX0_three_5
end
section
/-! ONE ROUND OF THE ROW, plain -/
theorem sg_mem {w : Nat → Nat} : ∀ {d i x : Nat}, x ∈ sg w i d → ∃ t, i ≤ t ∧ t < i + d ∧ x = w t := by
  intro d
  induction d with
  | zero => intro i x h; cases h
  | succ d ih =>
    intro i x h
    rcases List.mem_cons.mp h with rfl | h
    · exact ⟨i, Nat.le_refl _, by omega, rfl⟩
    · obtain ⟨t, h1, h2, h3⟩ := ih h
      exact ⟨t, by omega, by omega, h3⟩
theorem sg_in {w : Nat → Nat} : ∀ {d i t : Nat}, i ≤ t → t < i + d → w t ∈ sg w i d := by
  intro d
  induction d with
  | zero => intro i t h1 h2; omega
  | succ d ih =>
    intro i t h1 h2
    by_cases e : t = i
    · rw [e]; exact List.mem_cons_self
    · exact List.mem_cons_of_mem _ (ih (by omega) (by omega))
theorem sg_congr {w w' : Nat → Nat} : ∀ {d i i' : Nat}, (∀ t, t < d → w (i + t) = w' (i' + t)) → sg w i d = sg w' i' d := by
  intro d
  induction d with
  | zero => intro i i' _; rfl
  | succ d ih =>
    intro i i' h
    have h0 := h 0 (by omega)
    rw [sg, sg, ih (i := i + 1) (i' := i' + 1) (fun t ht => by
      have := h (t + 1) (by omega)
      rwa [show i + (t + 1) = i + 1 + t by omega, show i' + (t + 1) = i' + 1 + t by omega] at this)]
    have h0 : w i = w' i' := h0
    rw [h0]
theorem sg_lt {g : Nat → Nat} {N B : Nat} (h : (sg g 0 N).sum < B) : ∀ t, t < N → g t < B := by
  intro t ht
  have := mk_le_sum (sg_in (w := g) (i := 0) (d := N) (Nat.zero_le t) (by omega))
  omega
theorem sg_cut {g : Nat → Nat} {N i j : Nat} (hj : j ≤ i) (hi : i + 2 ≤ N) : sg g 0 N = sg g 0 j ++ (sg g j (i - j) ++ g i :: g (i + 1) :: sg g (i + 2) (N - i - 2)) := by
  have h1 : N = j + ((i - j) + ((N - i - 2) + 2)) := by omega
  have h2 : sg g 0 N = sg g 0 (j + ((i - j) + ((N - i - 2) + 2))) := congrArg (sg g 0) h1
  rw [h2, sg_app, sg_app, Nat.zero_add, show j + (i - j) = i by omega]
  rfl
theorem sg_D2 {g : Nat → Nat} {i j : Nat} (hj : j ≤ i) (hR : ∀ t, t < i → g (t + 2) < g t) : gw_D2 (sg g 0 j ++ (sg g j (i - j) ++ [g i, g (i + 1)])) := by
  have h := sg_cut (g := g) hj (Nat.le_refl (i + 2))
  rw [show i + 2 - i - 2 = 0 by omega] at h
  have h : sg g 0 (i + 2) = sg g 0 j ++ (sg g j (i - j) ++ [g i, g (i + 1)]) := h
  rw [← h]
  intro A v y z B e
  obtain ⟨e1, e2, e3⟩ := sg_split e
  simp only [List.length_cons] at e3
  obtain ⟨m, hm⟩ : ∃ m, i + 2 - A.length = m + 3 := ⟨i + 2 - A.length - 3, by omega⟩
  rw [hm, Nat.zero_add] at e2
  simp only [sg, List.cons.injEq] at e2
  obtain ⟨a1, a2, a3, a4⟩ := e2
  rw [a1, a3]
  exact hR A.length (by omega)
theorem gs_new {g ge : Nat → Nat} {N i j x : Nat} (hj : j ≤ i) (hi : i + 2 ≤ N) (s1 : ∀ t, t < j → ge t = g t) (s2 : ge j = x) (s3 : ∀ t, j < t → t ≤ i → ge t = g (t - 1)) (s4 : ∀ t, i < t → t < N - 1 → ge t = g (t + 1)) : sg ge 0 (N - 1) = sg g 0 j ++ x :: (sg g j (i - j) ++ sg g (i + 2) (N - i - 2)) := by
  have h1 : N - 1 = j + (((i - j) + (N - i - 2)) + 1) := by omega
  have h2 : sg ge 0 (N - 1) = sg ge 0 (j + (((i - j) + (N - i - 2)) + 1)) := congrArg (sg ge 0) h1
  rw [h2, sg_app, Nat.zero_add, sg, sg_app, s2, show j + 1 + (i - j) = i + 1 by omega]
  rw [sg_congr (w := ge) (w' := g) (i := 0) (i' := 0) (fun t ht => by rw [Nat.zero_add]; exact s1 t ht)]
  rw [sg_congr (w := ge) (w' := g) (i := j + 1) (i' := j) (fun t ht => by
    have := s3 (j + 1 + t) (by omega) (by omega)
    rwa [show j + 1 + t - 1 = j + t by omega] at this)]
  rw [sg_congr (w := ge) (w' := g) (i := i + 1) (i' := i + 2) (fun t ht => by
    have := s4 (i + 1 + t) (by omega) (by omega)
    rwa [show i + 1 + t + 1 = i + 2 + t by omega] at this)]
theorem gs_step {g ge : Nat → Nat} {N i j : Nat} (hj : j ≤ i) (hi : i + 2 ≤ N) (hR : ∀ t, t < i → g (t + 2) < g t) (hE : i + 2 < N → g i ≤ g (i + 2)) (hU : ∀ t, j ≤ t → t < i → g t < g i + g (i + 1)) (hJ : j = 0 ∨ g i + g (i + 1) ≤ g (j - 1)) (s1 : ∀ t, t < j → ge t = g t) (s2 : ge j = g i + g (i + 1)) (s3 : ∀ t, j < t → t ≤ i → ge t = g (t - 1)) (s4 : ∀ t, i < t → t < N - 1 → ge t = g (t + 1)) : (sg ge 0 (N - 1)).sum = (sg g 0 N).sum ∧ ∀ k c', gw_rel k (sg ge 0 (N - 1)) c' → gw_rel (k + 1) (sg g 0 N) (c' + (g i + g (i + 1))) := by
  have hn := gs_new hj hi s1 s2 s3 s4
  have ho := sg_cut (g := g) hj hi
  constructor
  · rw [hn, ho]
    simp only [List.sum_append, List.sum_cons]
    omega
  · intro k c' h
    rw [hn] at h
    refine ⟨sg g 0 j, sg g j (i - j), g i, g (i + 1), sg g (i + 2) (N - i - 2), c', ho, sg_D2 hj hR, ?_, ?_, ?_, h, rfl⟩
    · intro c B' e
      rcases (by omega : N - i - 2 = 0 ∨ 0 < N - i - 2) with q | q
      · rw [q] at e; cases e
      · obtain ⟨r, hr⟩ : ∃ r, N - i - 2 = r + 1 := ⟨N - i - 2 - 1, by omega⟩
        rw [hr, sg, List.cons.injEq] at e
        rw [← e.1]; exact hE (by omega)
    · intro u hu
      obtain ⟨t, t1, t2, t3⟩ := sg_mem hu
      rw [t3]; exact hU t t1 (by omega)
    · intro A' v e
      obtain ⟨e1, e2, e3⟩ := sg_split e
      simp only [List.length_cons, List.length_nil] at e3
      rw [show j - A'.length = 1 by omega, Nat.zero_add] at e2
      have e2 : [v] = [g A'.length] := e2
      rw [List.cons.injEq] at e2
      rw [e2.1, show A'.length = j - 1 by omega]
      rcases hJ with q | q
      · omega
      · exact q
end
section
section BESIDE
variable {p : Program} {l : Launch} {e : Env} {R : Room} {s : State} {m : MethodId} {args : Array Value} {below : List Frame} {meth : Method} {c : Code} {Q : State → Prop} {cells slots : Nat} {dC : Nat → ClassId} {dI : Nat → Nat → Nat} {A : Nat → Prop} {H0 : Heap}
set_option maxHeartbeats 4000000 in
set_option maxRecDepth 100000 in
theorem lp_bP (hx : p.tables.exec = Jvm.exec) (hb : c.code = cX0_beside) (hown : s.vm.findClass RX0 = some m.cls) (hts : ∀ w ∈ lw_all, w.before args s = true) {h0 h1 h2 h3 h4 : Nat} {d1 d3 d4 : ClassId} {n k : Nat} {g1 g4 : Nat → Nat} (hn : n ≤ 8) (hK : va_K (dC, dI) vwCl [(d1, .int), (d3, .long), (d4, .long)] s) (hw : ∀ i, i < n → g1 i < 65536)
    (kk : ∀ (g : Nat → Nat) (H : Heap) (locs : List Loc) (ls : Array Slot), (∀ t, t < n → g t = g1 t) → va_P (dC, dI) vwCl [(h0, .inr (0, [.ref h1, .ref h2, .ref h3, .int (nI (n))])), (h1, .inl (d1, 8, .inl (iA g1))), (h2, .inr (1, [.ref h4, .int (nI (k))])), (h3, .inl (d3, 8, .inr (.inl (lA g)))), (h4, .inl (d4, 10, .inr (.inl (lA g4))))] H → va_D A [(h0, .inr (0, [.ref h1, .ref h2, .ref h3, .int (nI (n))])), (h1, .inl (d1, 8, .inl (iA g1))), (h2, .inr (1, [.ref h4, .int (nI (k))])), (h3, .inl (d3, 8, .inr (.inl (lA g)))), (h4, .inl (d4, 10, .inr (.inl (lA g4))))] → va_S A H0 H locs → lv_has ls 8 [(2, .long (lN (0))), (1, .int (nI (n))), (0, .ref h0)] → W p l e R s m args below meth c H locs cells slots Q (F0 m 37 ls [])) :
    ∀ (f i : Nat) (g : Nat → Nat), n < i + f → i ≤ n → (∀ t, t < i → g t = g1 t) → ∀ (H : Heap) (locs : List Loc) (ls : Array Slot), va_P (dC, dI) vwCl [(h0, .inr (0, [.ref h1, .ref h2, .ref h3, .int (nI (n))])), (h1, .inl (d1, 8, .inl (iA g1))), (h2, .inr (1, [.ref h4, .int (nI (k))])), (h3, .inl (d3, 8, .inr (.inl (lA g)))), (h4, .inl (d4, 10, .inr (.inl (lA g4))))] H → va_D A [(h0, .inr (0, [.ref h1, .ref h2, .ref h3, .int (nI (n))])), (h1, .inl (d1, 8, .inl (iA g1))), (h2, .inr (1, [.ref h4, .int (nI (k))])), (h3, .inl (d3, 8, .inr (.inl (lA g)))), (h4, .inl (d4, 10, .inr (.inl (lA g4))))] → va_S A H0 H locs → lv_has ls 8 [(4, .int (nI (i))), (2, .long (lN (0))), (1, .int (nI (n))), (0, .ref h0)] → W p l e R s m args below meth c H locs cells slots Q (F0 m 10 ls []) := by
  intro f
  induction f with
  | zero => intro i g h h1; omega
  | succ f ih =>
    intro i g hif hin hg H locs ls hP hD hS hl
    refine lv_iload hx hb dX0_beside_10 (lv_at hl 0 rfl) ?_
    refine lv_iload_n hx hb dX0_beside_12 rfl (lv_at hl 2 rfl) ?_
    refine lv_icmp_ge (tgt := 37) hx hb dX0_beside_13 (by decide) (fun c_13 => ?_) (fun c_13 => ?_)
    · have c_13 : n ≤ i := ci_le c_13 (by omega) (by omega)
      exact kk g _ _ ls (fun t ht => hg t (by omega)) hP hD hS (lv_sub hl [1, 2, 3] rfl)
    · have c_13 : i < n := ci_nle c_13 (by omega) (by omega)
      refine lv_aload_n hx hb dX0_beside_16 rfl (lv_at hl 3 rfl) ?_
      refine va_get (D := (dC, dI)) (ci := 0) (v := .ref h3) (C := RX0) (T := TX0) (N := 4) hx hb hts in_X0 hown hK hP 0 rfl rfl 2 (by decide) (hts _ q31) (fun _ h9 => h9) rfl dX0_beside_17 ?_
      refine lv_iload hx hb dX0_beside_20 (lv_at hl 0 rfl) ?_
      refine lv_aload_n hx hb dX0_beside_22 rfl (lv_at hl 3 rfl) ?_
      refine va_get (D := (dC, dI)) (ci := 0) (v := .ref h1) (C := RX0) (T := TX0) (N := 4) hx hb hts in_X0 hown hK hP 0 rfl rfl 0 (by decide) (hts _ q29) (fun _ h9 => h9) rfl dX0_beside_23 ?_
      refine lv_iload hx hb dX0_beside_26 (lv_at hl 0 rfl) ?_
      refine va_iald hx hb hK hP 1 0 rfl rfl (in_nI (n := i) (by omega) (by omega)) dX0_beside_28 ?_
      refine w_i (iA_at (g := g1) (k := i) (by omega)) ?_
      have b_28 : g1 i < 65536 := hw _ (by omega)
      refine lv_i2l (v := lN (g1 i)) hx hb dX0_beside_29 (nI_l (by omega)) ?_
      refine va_last hx hb hK hP hD hS 3 1 rfl rfl (in_nI (n := i) (by omega) (by omega)) dX0_beside_30 (fun H locs hP hD hS => ?_)
      rw [lA_up (g := g) (k := i) (v := g1 i) (by omega)] at hP hD
      have hP : va_P (dC, dI) vwCl [(h0, .inr (0, [.ref h1, .ref h2, .ref h3, .int (nI (n))])), (h1, .inl (d1, 8, .inl (iA g1))), (h2, .inr (1, [.ref h4, .int (nI (k))])), (h3, .inl (d3, 8, .inr (.inl (lA (nu g (i) (g1 i)))))), (h4, .inl (d4, 10, .inr (.inl (lA g4))))] H := hP
      have hD : va_D A [(h0, .inr (0, [.ref h1, .ref h2, .ref h3, .int (nI (n))])), (h1, .inl (d1, 8, .inl (iA g1))), (h2, .inr (1, [.ref h4, .int (nI (k))])), (h3, .inl (d3, 8, .inr (.inl (lA (nu g (i) (g1 i)))))), (h4, .inl (d4, 10, .inr (.inl (lA g4))))] := hD
      refine lv_iinc (v := nI (i + 1)) (lv' := [(4, .int (nI (i + 1))), (2, .long (lN (0))), (1, .int (nI (n))), (0, .ref h0)]) hx hb dX0_beside_31 hl (k := 0) rfl (inc_1 (i)) (by decide) rfl (fun ls hl => ?_)
      refine lv_goto (tgt := 10) hx hb dX0_beside_34 (by decide) ?_
      exact ih (i + 1) (nu g (i) (g1 i)) (by omega) (by omega) (fun t ht => by
        by_cases q : t = i
        · rw [q, nu_s]
        · rw [nu_n q]; exact hg t (by omega)) _ _ ls hP hD hS (lv_sub hl [0, 1, 2, 3] rfl)
set_option maxHeartbeats 4000000 in
set_option maxRecDepth 100000 in
theorem lp_bR (hx : p.tables.exec = Jvm.exec) (hb : c.code = cX0_beside) (hown : s.vm.findClass RX0 = some m.cls) (hts : ∀ w ∈ lw_all, w.before args s = true) {h0 h1 h2 h3 h4 : Nat} {d1 d3 d4 : ClassId} {n k : Nat} {g1 g4 : Nat → Nat} (hn : n ≤ 8) (hK : va_K (dC, dI) vwCl [(d1, .int), (d3, .long), (d4, .long)] s) {N CC : Nat} {g : Nat → Nat} (hN : N ≤ 8) (hbd : ∀ t, t < N → g t < 2 ^ 30) {H : Heap} {locs : List Loc} (hP : va_P (dC, dI) vwCl [(h0, .inr (0, [.ref h1, .ref h2, .ref h3, .int (nI (n))])), (h1, .inl (d1, 8, .inl (iA g1))), (h2, .inr (1, [.ref h4, .int (nI (k))])), (h3, .inl (d3, 8, .inr (.inl (lA g)))), (h4, .inl (d4, 10, .inr (.inl (lA g4))))] H)
    (kk : ∀ (i : Nat) (ls : Array Slot), i + 2 ≤ N → (∀ t, t < i → g (t + 2) < g t) → (i + 2 < N → g i ≤ g (i + 2)) → lv_has ls 8 [(4, .int (nI (i))), (2, .long (lN (CC))), (1, .int (nI (N))), (0, .ref h0)] → W p l e R s m args below meth c H locs cells slots Q (F0 m 79 ls [])) :
    ∀ (f i : Nat), N < i + 2 + f → i + 2 ≤ N → (∀ t, t < i → g (t + 2) < g t) → ∀ (ls : Array Slot), lv_has ls 8 [(4, .int (nI (i))), (2, .long (lN (CC))), (1, .int (nI (N))), (0, .ref h0)] → W p l e R s m args below meth c H locs cells slots Q (F0 m 45 ls []) := by
  intro f
  induction f with
  | zero => intro i h h1; omega
  | succ f ih =>
    intro i hif hin hR ls hl
    refine lv_iload hx hb dX0_beside_45 (lv_at hl 0 rfl) ?_
    refine lv_iconst (v := nI 2) hx hb dX0_beside_47 (by decide) ?_
    refine lv_iadd hx hb dX0_beside_48 ?_
    refine w_i (nI_add (i) (2)) ?_
    refine lv_iload_n hx hb dX0_beside_49 rfl (lv_at hl 2 rfl) ?_
    refine lv_icmp_ge (tgt := 79) hx hb dX0_beside_50 (by decide) (fun c_50 => ?_) (fun c_50 => ?_)
    · have c_50 : N ≤ i + 2 := ci_le c_50 (by omega) (by omega)
      exact kk i ls hin hR (fun h9 => by omega) (lv_sub hl [0, 1, 2, 3] rfl)
    · have c_50 : i + 2 < N := ci_nle c_50 (by omega) (by omega)
      refine lv_aload_n hx hb dX0_beside_53 rfl (lv_at hl 3 rfl) ?_
      refine va_get (D := (dC, dI)) (ci := 0) (v := .ref h3) (C := RX0) (T := TX0) (N := 4) hx hb hts in_X0 hown hK hP 0 rfl rfl 2 (by decide) (hts _ q31) (fun _ h9 => h9) rfl dX0_beside_54 ?_
      refine lv_iload hx hb dX0_beside_57 (lv_at hl 0 rfl) ?_
      refine va_lald hx hb hK hP 3 1 rfl rfl (in_nI (n := i) (by omega) (by omega)) dX0_beside_59 ?_
      refine w_l (lA_at (g := g) (k := i) (by omega)) ?_
      have b_59 : g i < 2 ^ 30 := hbd _ (by omega)
      refine lv_aload_n hx hb dX0_beside_60 rfl (lv_at hl 3 rfl) ?_
      refine va_get (D := (dC, dI)) (ci := 0) (v := .ref h3) (C := RX0) (T := TX0) (N := 4) hx hb hts in_X0 hown hK hP 0 rfl rfl 2 (by decide) (hts _ q31) (fun _ h9 => h9) rfl dX0_beside_61 ?_
      refine lv_iload hx hb dX0_beside_64 (lv_at hl 0 rfl) ?_
      refine lv_iconst (v := nI 2) hx hb dX0_beside_66 (by decide) ?_
      refine lv_iadd hx hb dX0_beside_67 ?_
      refine w_i (nI_add (i) (2)) ?_
      refine va_lald hx hb hK hP 3 1 rfl rfl (in_nI (n := i + 2) (by omega) (by omega)) dX0_beside_68 ?_
      refine w_l (lA_at (g := g) (k := i + 2) (by omega)) ?_
      have b_68 : g (i + 2) < 2 ^ 30 := hbd _ (by omega)
      refine W.lcmp hx hb dX0_beside_69 ?_
      refine lv_if_le (tgt := 79) hx hb dX0_beside_70 (by decide) (fun c_70 => ?_) (fun c_70 => ?_)
      · have c_70 : g i ≤ g (i + 2) := cl_le c_70 (by omega) (by omega)
        exact kk i ls hin hR (fun h9 => by omega) (lv_sub hl [0, 1, 2, 3] rfl)
      · have c_70 : g (i + 2) < g i := cl_nle c_70 (by omega) (by omega)
        refine lv_iinc (v := nI (i + 1)) (lv' := [(4, .int (nI (i + 1))), (2, .long (lN (CC))), (1, .int (nI (N))), (0, .ref h0)]) hx hb dX0_beside_73 hl (k := 0) rfl (inc_1 (i)) (by decide) rfl (fun ls hl => ?_)
        refine lv_goto (tgt := 45) hx hb dX0_beside_76 (by decide) ?_
        exact ih (i + 1) (by omega) (by omega) (fun t ht => by
          rcases (by omega : t = i ∨ t < i) with q | q
          · rw [q]; exact c_70
          · exact hR t q) ls (lv_sub hl [0, 1, 2, 3] rfl)
set_option maxHeartbeats 4000000 in
set_option maxRecDepth 100000 in
theorem lp_bS (hx : p.tables.exec = Jvm.exec) (hb : c.code = cX0_beside) (hown : s.vm.findClass RX0 = some m.cls) (hts : ∀ w ∈ lw_all, w.before args s = true) {h0 h1 h2 h3 h4 : Nat} {d1 d3 d4 : ClassId} {n k : Nat} {g1 g4 : Nat → Nat} (hn : n ≤ 8) (hK : va_K (dC, dI) vwCl [(d1, .int), (d3, .long), (d4, .long)] s) {NN CC ii x1 : Nat} {g : Nat → Nat} (hN : NN + 1 ≤ 8) 
    (kk : ∀ (gc : Nat → Nat) (H : Heap) (locs : List Loc) (ls : Array Slot), (∀ t, t < ii + 1 → gc t = g t) → (∀ t, ii + 1 ≤ t → t < NN → gc t = g (t + 1)) → va_P (dC, dI) vwCl [(h0, .inr (0, [.ref h1, .ref h2, .ref h3, .int (nI (n))])), (h1, .inl (d1, 8, .inl (iA g1))), (h2, .inr (1, [.ref h4, .int (nI (k))])), (h3, .inl (d3, 8, .inr (.inl (lA gc)))), (h4, .inl (d4, 10, .inr (.inl (lA g4))))] H → va_D A [(h0, .inr (0, [.ref h1, .ref h2, .ref h3, .int (nI (n))])), (h1, .inl (d1, 8, .inl (iA g1))), (h2, .inr (1, [.ref h4, .int (nI (k))])), (h3, .inl (d3, 8, .inr (.inl (lA gc)))), (h4, .inl (d4, 10, .inr (.inl (lA g4))))] → va_S A H0 H locs → lv_has ls 8 [(5, .long (lN (x1))), (4, .int (nI (ii))), (2, .long (lN (CC))), (1, .int (nI (NN))), (0, .ref h0)] → W p l e R s m args below meth c H locs cells slots Q (F0 m 140 ls [])) :
    ∀ (f q : Nat) (gc : Nat → Nat), NN < q + f → ii + 1 ≤ q → q ≤ NN → (∀ t, t < ii + 1 → gc t = g t) → (∀ t, ii + 1 ≤ t → t < q → gc t = g (t + 1)) → (∀ t, q ≤ t → gc t = g t) → ∀ (H : Heap) (locs : List Loc) (ls : Array Slot), va_P (dC, dI) vwCl [(h0, .inr (0, [.ref h1, .ref h2, .ref h3, .int (nI (n))])), (h1, .inl (d1, 8, .inl (iA g1))), (h2, .inr (1, [.ref h4, .int (nI (k))])), (h3, .inl (d3, 8, .inr (.inl (lA gc)))), (h4, .inl (d4, 10, .inr (.inl (lA g4))))] H → va_D A [(h0, .inr (0, [.ref h1, .ref h2, .ref h3, .int (nI (n))])), (h1, .inl (d1, 8, .inl (iA g1))), (h2, .inr (1, [.ref h4, .int (nI (k))])), (h3, .inl (d3, 8, .inr (.inl (lA gc)))), (h4, .inl (d4, 10, .inr (.inl (lA g4))))] → va_S A H0 H locs → lv_has ls 8 [(7, .int (nI (q))), (5, .long (lN (x1))), (4, .int (nI (ii))), (2, .long (lN (CC))), (1, .int (nI (NN))), (0, .ref h0)] → W p l e R s m args below meth c H locs cells slots Q (F0 m 112 ls []) := by
  intro f
  induction f with
  | zero => intro q gc h h0 h1; omega
  | succ f ih =>
    intro q gc hqf hq1 hqN s1 s2 s3 H locs ls hP hD hS hl
    refine lv_iload hx hb dX0_beside_112 (lv_at hl 0 rfl) ?_
    refine lv_iload_n hx hb dX0_beside_114 rfl (lv_at hl 4 rfl) ?_
    refine lv_icmp_ge (tgt := 140) hx hb dX0_beside_115 (by decide) (fun c_115 => ?_) (fun c_115 => ?_)
    · have c_115 : NN ≤ q := ci_le c_115 (by omega) (by omega)
      exact kk gc _ _ ls s1 (fun t h1 h2 => s2 t h1 (by omega)) hP hD hS (lv_sub hl [1, 2, 3, 4, 5] rfl)
    · have c_115 : q < NN := ci_nle c_115 (by omega) (by omega)
      refine lv_aload_n hx hb dX0_beside_118 rfl (lv_at hl 5 rfl) ?_
      refine va_get (D := (dC, dI)) (ci := 0) (v := .ref h3) (C := RX0) (T := TX0) (N := 4) hx hb hts in_X0 hown hK hP 0 rfl rfl 2 (by decide) (hts _ q31) (fun _ h9 => h9) rfl dX0_beside_119 ?_
      refine lv_iload hx hb dX0_beside_122 (lv_at hl 0 rfl) ?_
      refine lv_aload_n hx hb dX0_beside_124 rfl (lv_at hl 5 rfl) ?_
      refine va_get (D := (dC, dI)) (ci := 0) (v := .ref h3) (C := RX0) (T := TX0) (N := 4) hx hb hts in_X0 hown hK hP 0 rfl rfl 2 (by decide) (hts _ q31) (fun _ h9 => h9) rfl dX0_beside_125 ?_
      refine lv_iload hx hb dX0_beside_128 (lv_at hl 0 rfl) ?_
      refine lv_iconst (v := nI 1) hx hb dX0_beside_130 (by decide) ?_
      refine lv_iadd hx hb dX0_beside_131 ?_
      refine w_i (nI_add (q) (1)) ?_
      refine va_lald hx hb hK hP 3 1 rfl rfl (in_nI (n := q + 1) (by omega) (by omega)) dX0_beside_132 ?_
      refine w_l (lA_at (g := gc) (k := q + 1) (by omega)) ?_
      refine va_last hx hb hK hP hD hS 3 1 rfl rfl (in_nI (n := q) (by omega) (by omega)) dX0_beside_133 (fun H locs hP hD hS => ?_)
      rw [lA_up (g := gc) (k := q) (v := gc (q + 1)) (by omega)] at hP hD
      have hP : va_P (dC, dI) vwCl [(h0, .inr (0, [.ref h1, .ref h2, .ref h3, .int (nI (n))])), (h1, .inl (d1, 8, .inl (iA g1))), (h2, .inr (1, [.ref h4, .int (nI (k))])), (h3, .inl (d3, 8, .inr (.inl (lA (nu gc (q) (gc (q + 1))))))), (h4, .inl (d4, 10, .inr (.inl (lA g4))))] H := hP
      have hD : va_D A [(h0, .inr (0, [.ref h1, .ref h2, .ref h3, .int (nI (n))])), (h1, .inl (d1, 8, .inl (iA g1))), (h2, .inr (1, [.ref h4, .int (nI (k))])), (h3, .inl (d3, 8, .inr (.inl (lA (nu gc (q) (gc (q + 1))))))), (h4, .inl (d4, 10, .inr (.inl (lA g4))))] := hD
      refine lv_iinc (v := nI (q + 1)) (lv' := [(7, .int (nI (q + 1))), (5, .long (lN (x1))), (4, .int (nI (ii))), (2, .long (lN (CC))), (1, .int (nI (NN))), (0, .ref h0)]) hx hb dX0_beside_134 hl (k := 0) rfl (inc_1 (q)) (by decide) rfl (fun ls hl => ?_)
      refine lv_goto (tgt := 112) hx hb dX0_beside_137 (by decide) ?_
      exact ih (q + 1) (nu gc (q) (gc (q + 1))) (by omega) (by omega) (by omega) (fun t ht => by rw [nu_n (by omega)]; exact s1 t ht) (fun t h1 h2 => by
        by_cases e : t = q
        · rw [e, nu_s]; exact s3 (q + 1) (by omega)
        · rw [nu_n e]; exact s2 t h1 (by omega)) (fun t ht => by rw [nu_n (by omega)]; exact s3 t (by omega)) _ _ ls hP hD hS (lv_sub hl [0, 1, 2, 3, 4, 5] rfl)
set_option maxHeartbeats 4000000 in
set_option maxRecDepth 100000 in
theorem lp_bU (hx : p.tables.exec = Jvm.exec) (hb : c.code = cX0_beside) (hown : s.vm.findClass RX0 = some m.cls) (hts : ∀ w ∈ lw_all, w.before args s = true) {h0 h1 h2 h3 h4 : Nat} {d1 d3 d4 : ClassId} {n k : Nat} {g1 g4 : Nat → Nat} (hn : n ≤ 8) (hK : va_K (dC, dI) vwCl [(d1, .int), (d3, .long), (d4, .long)] s) {NN CC ii x1 : Nat} {g : Nat → Nat} (hN : NN + 1 ≤ 8) (hi : ii < NN) (hx1 : x1 < 2 ^ 62) (hbd : ∀ t, t < ii → g t < 2 ^ 30)
    (kk : ∀ (j : Nat) (gd : Nat → Nat) (H : Heap) (locs : List Loc) (ls : Array Slot), j ≤ ii → (∀ t, t < j → gd t = g t) → (∀ t, j < t → t ≤ ii → gd t = g (t - 1)) → (∀ t, ii < t → t < NN → gd t = g (t + 1)) → (∀ t, j ≤ t → t < ii → g t < x1) → (j = 0 ∨ x1 ≤ g (j - 1)) → va_P (dC, dI) vwCl [(h0, .inr (0, [.ref h1, .ref h2, .ref h3, .int (nI (n))])), (h1, .inl (d1, 8, .inl (iA g1))), (h2, .inr (1, [.ref h4, .int (nI (k))])), (h3, .inl (d3, 8, .inr (.inl (lA gd)))), (h4, .inl (d4, 10, .inr (.inl (lA g4))))] H → va_D A [(h0, .inr (0, [.ref h1, .ref h2, .ref h3, .int (nI (n))])), (h1, .inl (d1, 8, .inl (iA g1))), (h2, .inr (1, [.ref h4, .int (nI (k))])), (h3, .inl (d3, 8, .inr (.inl (lA gd)))), (h4, .inl (d4, 10, .inr (.inl (lA g4))))] → va_S A H0 H locs → lv_has ls 8 [(7, .int (nI (j))), (5, .long (lN (x1))), (2, .long (lN (CC))), (1, .int (nI (NN))), (0, .ref h0)] → W p l e R s m args below meth c H locs cells slots Q (F0 m 186 ls [])) :
    ∀ (f j : Nat) (gd : Nat → Nat), j < f → j ≤ ii → (∀ t, t < j → gd t = g t) → (∀ t, j < t → t ≤ ii → gd t = g (t - 1)) → (∀ t, ii < t → t < NN → gd t = g (t + 1)) → (∀ t, j ≤ t → t < ii → g t < x1) → ∀ (H : Heap) (locs : List Loc) (ls : Array Slot), va_P (dC, dI) vwCl [(h0, .inr (0, [.ref h1, .ref h2, .ref h3, .int (nI (n))])), (h1, .inl (d1, 8, .inl (iA g1))), (h2, .inr (1, [.ref h4, .int (nI (k))])), (h3, .inl (d3, 8, .inr (.inl (lA gd)))), (h4, .inl (d4, 10, .inr (.inl (lA g4))))] H → va_D A [(h0, .inr (0, [.ref h1, .ref h2, .ref h3, .int (nI (n))])), (h1, .inl (d1, 8, .inl (iA g1))), (h2, .inr (1, [.ref h4, .int (nI (k))])), (h3, .inl (d3, 8, .inr (.inl (lA gd)))), (h4, .inl (d4, 10, .inr (.inl (lA g4))))] → va_S A H0 H locs → lv_has ls 8 [(7, .int (nI (j))), (5, .long (lN (x1))), (2, .long (lN (CC))), (1, .int (nI (NN))), (0, .ref h0)] → W p l e R s m args below meth c H locs cells slots Q (F0 m 144 ls []) := by
  intro f
  induction f with
  | zero => intro j gd h; omega
  | succ f ih =>
    intro j gd hjf hji s1 s3 s4 s5 H locs ls hP hD hS hl
    refine lv_iload hx hb dX0_beside_144 (lv_at hl 0 rfl) ?_
    refine lv_if_le (tgt := 186) hx hb dX0_beside_146 (by decide) (fun c_146 => ?_) (fun c_146 => ?_)
    · have c_146 : j ≤ 0 := ci_le (a := j) (b := 0) c_146 (by omega) (by omega)
      exact kk j gd _ _ ls hji s1 s3 s4 s5 (by omega) hP hD hS (lv_sub hl [0, 1, 2, 3, 4] rfl)
    · have c_146 : 0 < j := ci_nle (a := j) (b := 0) c_146 (by omega) (by omega)
      refine lv_aload_n hx hb dX0_beside_149 rfl (lv_at hl 4 rfl) ?_
      refine va_get (D := (dC, dI)) (ci := 0) (v := .ref h3) (C := RX0) (T := TX0) (N := 4) hx hb hts in_X0 hown hK hP 0 rfl rfl 2 (by decide) (hts _ q31) (fun _ h9 => h9) rfl dX0_beside_150 ?_
      refine lv_iload hx hb dX0_beside_153 (lv_at hl 0 rfl) ?_
      refine lv_iconst (v := nI 1) hx hb dX0_beside_155 (by decide) ?_
      refine lv_isub hx hb dX0_beside_156 ?_
      refine w_i (pk_sub (a := j) (b := 1) (by omega)) ?_
      refine va_lald hx hb hK hP 3 1 rfl rfl (in_nI (n := j - 1) (by omega) (by omega)) dX0_beside_157 ?_
      refine w_l (lA_at (g := gd) (k := j - 1) (by omega)) ?_
      have e_157 : gd (j - 1) = g (j - 1) := s1 _ (by omega)
      have b_157 : gd (j - 1) < 2 ^ 62 := by
        have := hbd (j - 1) (by omega)
        omega
      refine lv_lload hx hb dX0_beside_158 (lv_at hl 1 rfl) ?_
      refine W.lcmp hx hb dX0_beside_160 ?_
      refine lv_if_ge (tgt := 186) hx hb dX0_beside_161 (by decide) (fun c_161 => ?_) (fun c_161 => ?_)
      · have c_161 : x1 ≤ gd (j - 1) := cl_ge c_161 (by omega) (by omega)
        exact kk j gd _ _ ls hji s1 s3 s4 s5 (by omega) hP hD hS (lv_sub hl [0, 1, 2, 3, 4] rfl)
      · have c_161 : gd (j - 1) < x1 := cl_nge c_161 (by omega) (by omega)
        refine lv_aload_n hx hb dX0_beside_164 rfl (lv_at hl 4 rfl) ?_
        refine va_get (D := (dC, dI)) (ci := 0) (v := .ref h3) (C := RX0) (T := TX0) (N := 4) hx hb hts in_X0 hown hK hP 0 rfl rfl 2 (by decide) (hts _ q31) (fun _ h9 => h9) rfl dX0_beside_165 ?_
        refine lv_iload hx hb dX0_beside_168 (lv_at hl 0 rfl) ?_
        refine lv_aload_n hx hb dX0_beside_170 rfl (lv_at hl 4 rfl) ?_
        refine va_get (D := (dC, dI)) (ci := 0) (v := .ref h3) (C := RX0) (T := TX0) (N := 4) hx hb hts in_X0 hown hK hP 0 rfl rfl 2 (by decide) (hts _ q31) (fun _ h9 => h9) rfl dX0_beside_171 ?_
        refine lv_iload hx hb dX0_beside_174 (lv_at hl 0 rfl) ?_
        refine lv_iconst (v := nI 1) hx hb dX0_beside_176 (by decide) ?_
        refine lv_isub hx hb dX0_beside_177 ?_
        refine w_i (pk_sub (a := j) (b := 1) (by omega)) ?_
        refine va_lald hx hb hK hP 3 1 rfl rfl (in_nI (n := j - 1) (by omega) (by omega)) dX0_beside_178 ?_
        refine w_l (lA_at (g := gd) (k := j - 1) (by omega)) ?_
        have e_178 : gd (j - 1) = g (j - 1) := s1 _ (by omega)
        have b_178 : gd (j - 1) < 2 ^ 62 := by
          have := hbd (j - 1) (by omega)
          omega
        refine va_last hx hb hK hP hD hS 3 1 rfl rfl (in_nI (n := j) (by omega) (by omega)) dX0_beside_179 (fun H locs hP hD hS => ?_)
        rw [lA_up (g := gd) (k := j) (v := gd (j - 1)) (by omega)] at hP hD
        have hP : va_P (dC, dI) vwCl [(h0, .inr (0, [.ref h1, .ref h2, .ref h3, .int (nI (n))])), (h1, .inl (d1, 8, .inl (iA g1))), (h2, .inr (1, [.ref h4, .int (nI (k))])), (h3, .inl (d3, 8, .inr (.inl (lA (nu gd (j) (gd (j - 1))))))), (h4, .inl (d4, 10, .inr (.inl (lA g4))))] H := hP
        have hD : va_D A [(h0, .inr (0, [.ref h1, .ref h2, .ref h3, .int (nI (n))])), (h1, .inl (d1, 8, .inl (iA g1))), (h2, .inr (1, [.ref h4, .int (nI (k))])), (h3, .inl (d3, 8, .inr (.inl (lA (nu gd (j) (gd (j - 1))))))), (h4, .inl (d4, 10, .inr (.inl (lA g4))))] := hD
        refine lv_iinc (v := nI (j - 1)) (lv' := [(7, .int (nI (j - 1))), (5, .long (lN (x1))), (2, .long (lN (CC))), (1, .int (nI (NN))), (0, .ref h0)]) hx hb dX0_beside_180 hl (k := 0) rfl (inc_m (by omega)) (by decide) rfl (fun ls hl => ?_)
        refine lv_goto (tgt := 144) hx hb dX0_beside_183 (by decide) ?_
        exact ih (j - 1) (nu gd (j) (gd (j - 1))) (by omega) (by omega) (fun t ht => by rw [nu_n (by omega)]; exact s1 t (by omega)) (fun t h1 h2 => by
          by_cases e : t = j
          · rw [e, nu_s]; exact s1 _ (by omega)
          · rw [nu_n e]; exact s3 t (by omega) h2) (fun t h1 h2 => by rw [nu_n (by omega)]; exact s4 t h1 h2) (fun t h1 h2 => by
          rcases (by omega : t = j - 1 ∨ j ≤ t) with q | q
          · rw [q]; omega
          · exact s5 t q h2) _ _ ls hP hD hS (lv_sub hl [0, 1, 2, 3, 4] rfl)
set_option maxHeartbeats 4000000 in
set_option maxRecDepth 100000 in
theorem lp_bQ (hx : p.tables.exec = Jvm.exec) (hb : c.code = cX0_beside) (hown : s.vm.findClass RX0 = some m.cls) (hts : ∀ w ∈ lw_all, w.before args s = true) {h0 h1 h2 h3 h4 : Nat} {d1 d3 d4 : ClassId} {n k : Nat} {g1 g4 : Nat → Nat} (hn : n ≤ 8) (hK : va_K (dC, dI) vwCl [(d1, .int), (d3, .long), (d4, .long)] s) (L0 : List Nat)
    (kk : ∀ (CC : Nat) (g : Nat → Nat) (H : Heap) (locs : List Loc) (ls : Array Slot), ((n = 0 ∧ CC = 0) ∨ (0 < n ∧ ∃ j, gw_rel j L0 CC)) → va_P (dC, dI) vwCl [(h0, .inr (0, [.ref h1, .ref h2, .ref h3, .int (nI (n))])), (h1, .inl (d1, 8, .inl (iA g1))), (h2, .inr (1, [.ref h4, .int (nI (k))])), (h3, .inl (d3, 8, .inr (.inl (lA g)))), (h4, .inl (d4, 10, .inr (.inl (lA g4))))] H → va_D A [(h0, .inr (0, [.ref h1, .ref h2, .ref h3, .int (nI (n))])), (h1, .inl (d1, 8, .inl (iA g1))), (h2, .inr (1, [.ref h4, .int (nI (k))])), (h3, .inl (d3, 8, .inr (.inl (lA g)))), (h4, .inl (d4, 10, .inr (.inl (lA g4))))] → va_S A H0 H locs → lv_has ls 8 [(2, .long (lN (CC)))] → W p l e R s m args below meth c H locs cells slots Q (F0 m 198 ls [])) :
    ∀ (f N CC : Nat) (g : Nat → Nat), N < f → N ≤ 8 → ((n = 0 ∧ N = 0 ∧ CC = 0) ∨ (0 < n ∧ 1 ≤ N ∧ ∀ j c', gw_rel j (sg g 0 N) c' → ∃ j', gw_rel j' L0 (CC + c'))) → (sg g 0 N).sum < 2 ^ 30 → ∀ (H : Heap) (locs : List Loc) (ls : Array Slot), va_P (dC, dI) vwCl [(h0, .inr (0, [.ref h1, .ref h2, .ref h3, .int (nI (n))])), (h1, .inl (d1, 8, .inl (iA g1))), (h2, .inr (1, [.ref h4, .int (nI (k))])), (h3, .inl (d3, 8, .inr (.inl (lA g)))), (h4, .inl (d4, 10, .inr (.inl (lA g4))))] H → va_D A [(h0, .inr (0, [.ref h1, .ref h2, .ref h3, .int (nI (n))])), (h1, .inl (d1, 8, .inl (iA g1))), (h2, .inr (1, [.ref h4, .int (nI (k))])), (h3, .inl (d3, 8, .inr (.inl (lA g)))), (h4, .inl (d4, 10, .inr (.inl (lA g4))))] → va_S A H0 H locs → lv_has ls 8 [(2, .long (lN (CC))), (1, .int (nI (N))), (0, .ref h0)] → W p l e R s m args below meth c H locs cells slots Q (F0 m 37 ls []) := by
  intro f
  induction f with
  | zero => intro N CC g h; omega
  | succ f ih =>
    intro N CC g hNf hN8 hrel hsum H locs ls hP hD hS hl
    have hbd := sg_lt hsum
    refine lv_iload_n hx hb dX0_beside_37 rfl (lv_at hl 1 rfl) ?_
    refine lv_iconst (v := nI 1) hx hb dX0_beside_38 (by decide) ?_
    refine lv_icmp_le (tgt := 198) hx hb dX0_beside_39 (by decide) (fun c_39 => ?_) (fun c_39 => ?_)
    · have c_39 : N ≤ 1 := ci_le c_39 (by omega) (by omega)
      refine kk CC g _ _ ls ?_ hP hD hS (lv_sub hl [0] rfl)
      rcases hrel with ⟨a1, a2, a3⟩ | ⟨a1, a2, a3⟩
      · exact Or.inl ⟨a1, a3⟩
      · have e : N = 1 := by omega
        rw [e] at a3
        have := a3 0 0 ⟨⟨g 0, rfl⟩, rfl⟩
        exact Or.inr ⟨a1, this⟩
    · have c_39 : 1 < N := ci_nle c_39 (by omega) (by omega)
      refine lv_iconst (v := nI 0) hx hb dX0_beside_42 (by decide) ?_
      refine lv_istore (lv' := [(4, .int (nI (0))), (2, .long (lN (CC))), (1, .int (nI (N))), (0, .ref h0)]) hx hb dX0_beside_43 hl (by decide) rfl (fun ls hl => ?_)
      rcases hrel with ⟨a1, a2, a3⟩ | ⟨a1, a2, a3⟩
      · omega
      · refine lp_bR hx hb hown hts hn hK hN8 hbd hP (fun ii ls hi2 hR hE hl => ?_) N 0 (by omega) (by omega) (fun t ht => by omega) ls (lv_sub hl [0, 1, 2, 3] rfl)
        refine lv_aload_n hx hb dX0_beside_79 rfl (lv_at hl 3 rfl) ?_
        refine va_get (D := (dC, dI)) (ci := 0) (v := .ref h3) (C := RX0) (T := TX0) (N := 4) hx hb hts in_X0 hown hK hP 0 rfl rfl 2 (by decide) (hts _ q31) (fun _ h9 => h9) rfl dX0_beside_80 ?_
        refine lv_iload hx hb dX0_beside_83 (lv_at hl 0 rfl) ?_
        refine va_lald hx hb hK hP 3 1 rfl rfl (in_nI (n := ii) (by omega) (by omega)) dX0_beside_85 ?_
        refine w_l (lA_at (g := g) (k := ii) (by omega)) ?_
        have b_85 : g ii < 2 ^ 30 := hbd _ (by omega)
        refine lv_aload_n hx hb dX0_beside_86 rfl (lv_at hl 3 rfl) ?_
        refine va_get (D := (dC, dI)) (ci := 0) (v := .ref h3) (C := RX0) (T := TX0) (N := 4) hx hb hts in_X0 hown hK hP 0 rfl rfl 2 (by decide) (hts _ q31) (fun _ h9 => h9) rfl dX0_beside_87 ?_
        refine lv_iload hx hb dX0_beside_90 (lv_at hl 0 rfl) ?_
        refine lv_iconst (v := nI 1) hx hb dX0_beside_92 (by decide) ?_
        refine lv_iadd hx hb dX0_beside_93 ?_
        refine w_i (nI_add (ii) (1)) ?_
        refine va_lald hx hb hK hP 3 1 rfl rfl (in_nI (n := ii + 1) (by omega) (by omega)) dX0_beside_94 ?_
        refine w_l (lA_at (g := g) (k := ii + 1) (by omega)) ?_
        have b_94 : g (ii + 1) < 2 ^ 30 := hbd _ (by omega)
        refine lv_ladd hx hb dX0_beside_95 ?_
        refine w_l (lN_add (g ii) (g (ii + 1))) ?_
        refine lv_lstore (lv' := [(5, .long (lN (g ii + g (ii + 1)))), (4, .int (nI (ii))), (2, .long (lN (CC))), (1, .int (nI (N))), (0, .ref h0)]) hx hb dX0_beside_96 hl (by decide) rfl (fun ls hl => ?_)
        obtain ⟨x1, hx1⟩ : ∃ x1, x1 = g ii + g (ii + 1) := ⟨_, rfl⟩
        rw [← hx1] at hl
        refine lv_lload_n hx hb dX0_beside_98 rfl (lv_at hl 2 rfl) ?_
        refine lv_lload hx hb dX0_beside_99 (lv_at hl 0 rfl) ?_
        refine lv_ladd hx hb dX0_beside_101 ?_
        refine w_l (lN_add (CC) (x1)) ?_
        refine lv_lstore_n (lv' := [(2, .long (lN (CC + x1))), (5, .long (lN (x1))), (4, .int (nI (ii))), (1, .int (nI (N))), (0, .ref h0)]) hx hb dX0_beside_102 rfl hl (by decide) rfl (fun ls hl => ?_)
        refine lv_iinc (v := nI (N - 1)) (lv' := [(1, .int (nI (N - 1))), (2, .long (lN (CC + x1))), (5, .long (lN (x1))), (4, .int (nI (ii))), (0, .ref h0)]) hx hb dX0_beside_103 hl (k := 3) rfl (inc_m (by omega)) (by decide) rfl (fun ls hl => ?_)
        refine lv_iload hx hb dX0_beside_106 (lv_at hl 3 rfl) ?_
        refine lv_iconst (v := nI 1) hx hb dX0_beside_108 (by decide) ?_
        refine lv_iadd hx hb dX0_beside_109 ?_
        refine w_i (nI_add (ii) (1)) ?_
        refine lv_istore (lv' := [(7, .int (nI (ii + 1))), (1, .int (nI (N - 1))), (2, .long (lN (CC + x1))), (5, .long (lN (x1))), (4, .int (nI (ii))), (0, .ref h0)]) hx hb dX0_beside_110 hl (by decide) rfl (fun ls hl => ?_)
        have hx2 : x1 < 2 ^ 31 := by omega
        refine lp_bS hx hb hown hts hn hK (g := g) (NN := N - 1) (ii := ii) (x1 := x1) (CC := CC + x1) (by omega) (fun gc H locs ls hg1 hg2 hP hD hS hl => ?_) N (ii + 1) g (by omega) (by omega) (by omega) (fun t ht => rfl) (fun t h1 h2 => by omega) (fun t ht => rfl) _ _ ls hP hD hS (lv_sub hl [0, 3, 4, 2, 1, 5] rfl)
        refine lv_iload hx hb dX0_beside_140 (lv_at hl 1 rfl) ?_
        refine lv_istore (lv' := [(7, .int (nI (ii))), (5, .long (lN (x1))), (4, .int (nI (ii))), (2, .long (lN (CC + x1))), (1, .int (nI (N - 1))), (0, .ref h0)]) hx hb dX0_beside_142 hl (by decide) rfl (fun ls hl => ?_)
        refine lp_bU hx hb hown hts hn hK (g := g) (NN := N - 1) (ii := ii) (x1 := x1) (CC := CC + x1) (by omega) (by omega) (by omega) (fun t ht => hbd t (by omega)) (fun j gd H locs ls hj s1 s3 s4 s5 s6 hP hD hS hl => ?_) (ii + 1) ii gc (Nat.lt_succ_self ii) (Nat.le_refl ii) (fun t ht => hg1 t (by omega)) (fun t h1 h2 => by omega) (fun t h1 h2 => hg2 t (by omega) h2) (fun t h1 h2 => by omega) _ _ ls hP hD hS (lv_sub hl [0, 1, 3, 4, 5] rfl)
        refine lv_aload_n hx hb dX0_beside_186 rfl (lv_at hl 4 rfl) ?_
        refine va_get (D := (dC, dI)) (ci := 0) (v := .ref h3) (C := RX0) (T := TX0) (N := 4) hx hb hts in_X0 hown hK hP 0 rfl rfl 2 (by decide) (hts _ q31) (fun _ h9 => h9) rfl dX0_beside_187 ?_
        refine lv_iload hx hb dX0_beside_190 (lv_at hl 0 rfl) ?_
        refine lv_lload hx hb dX0_beside_192 (lv_at hl 1 rfl) ?_
        refine va_last hx hb hK hP hD hS 3 1 rfl rfl (in_nI (n := j) (by omega) (by omega)) dX0_beside_194 (fun H locs hP hD hS => ?_)
        rw [lA_up (g := gd) (k := j) (v := x1) (by omega)] at hP hD
        have hP : va_P (dC, dI) vwCl [(h0, .inr (0, [.ref h1, .ref h2, .ref h3, .int (nI (n))])), (h1, .inl (d1, 8, .inl (iA g1))), (h2, .inr (1, [.ref h4, .int (nI (k))])), (h3, .inl (d3, 8, .inr (.inl (lA (nu gd (j) (x1)))))), (h4, .inl (d4, 10, .inr (.inl (lA g4))))] H := hP
        have hD : va_D A [(h0, .inr (0, [.ref h1, .ref h2, .ref h3, .int (nI (n))])), (h1, .inl (d1, 8, .inl (iA g1))), (h2, .inr (1, [.ref h4, .int (nI (k))])), (h3, .inl (d3, 8, .inr (.inl (lA (nu gd (j) (x1)))))), (h4, .inl (d4, 10, .inr (.inl (lA g4))))] := hD
        refine lv_goto (tgt := 37) hx hb dX0_beside_195 (by decide) ?_
        have hst := gs_step (g := g) (ge := (nu gd (j) (x1))) (N := N) (i := ii) (j := j) hj hi2 hR hE (fun t h1 h2 => by rw [← hx1]; exact s5 t h1 h2) (by rw [← hx1]; exact s6) (fun t ht => by rw [nu_n (by omega)]; exact s1 t ht) (by rw [nu_s, hx1]) (fun t h1 h2 => by rw [nu_n (by omega)]; exact s3 t h1 h2) (fun t h1 h2 => by rw [nu_n (by omega)]; exact s4 t h1 h2)
        rw [← hx1] at hst
        exact ih (N - 1) (CC + x1) (nu gd (j) (x1)) (by omega) (by omega) (Or.inr ⟨a1, by omega, fun q c' hq => by
          obtain ⟨j', h9⟩ := a3 (q + 1) (c' + x1) (hst.2 q c' hq)
          exact ⟨j', by rwa [show CC + x1 + c' = CC + (c' + x1) by omega]⟩⟩) (by rw [hst.1]; exact hsum) _ _ ls hP hD hS (lv_sub hl [2, 3, 4] rfl)
end BESIDE
set_option maxHeartbeats 4000000 in
set_option maxRecDepth 100000 in
theorem metX0_beside (l : Launch) (dC : Nat → ClassId) (dI : Nat → Nat → Nat) (h0 h1 h2 h3 h4 : Nat) (d1 d3 d4 : ClassId) (sz n k : Nat) (g1 g3 g4 : Nat → Nat) (hn : n ≤ 8) (hw : ∀ i, i < n → g1 i < 65536) : Met l yX0_beside (ws_ yX0_beside cX0_beside 8 (some .long)) ({ frames := 0, cells := 0, slots := 0, locals := 0 }) (va_Pc [.ref h0] (fun U => U.heap.size = sz ∧ va_P (dC, dI) vwCl [(h0, .inr (0, [.ref h1, .ref h2, .ref h3, .int (nI (n))])), (h1, .inl (d1, 8, .inl (iA g1))), (h2, .inr (1, [.ref h4, .int (nI (k))])), (h3, .inl (d3, 8, .inr (.inl (lA g3)))), (h4, .inl (d4, 10, .inr (.inl (lA g4))))] U.heap ∧ va_K (dC, dI) vwCl [(d1, .int), (d3, .long), (d4, .long)] U ∧ va_D (fun _ => True) [(h0, .inr (0, [.ref h1, .ref h2, .ref h3, .int (nI (n))])), (h1, .inl (d1, 8, .inl (iA g1))), (h2, .inr (1, [.ref h4, .int (nI (k))])), (h3, .inl (d3, 8, .inr (.inl (lA g3)))), (h4, .inl (d4, 10, .inr (.inl (lA g4))))])) (va_Ql (fun (r : Int64) (_ : Nat → Nat) => (n = 0 ∧ r = lN 0) ∨ (0 < n ∧ ∃ j x, gw_rel j (sg g1 0 n) x ∧ r = lN x)) (fun g' t => va_P (dC, dI) vwCl [(h0, .inr (0, [.ref h1, .ref h2, .ref h3, .int (nI (n))])), (h1, .inl (d1, 8, .inl (iA g1))), (h2, .inr (1, [.ref h4, .int (nI (k))])), (h3, .inl (d3, 8, .inr (.inl (lA g')))), (h4, .inl (d4, 10, .inr (.inl (lA g4))))] t.heap ∧ va_K (dC, dI) vwCl [(d1, .int), (d3, .long), (d4, .long)] t ∧ va_D (va_A [(h0, .inr (0, [.ref h1, .ref h2, .ref h3, .int (nI (n))])), (h1, .inl (d1, 8, .inl (iA g1))), (h2, .inr (1, [.ref h4, .int (nI (k))])), (h3, .inl (d3, 8, .inr (.inl (lA g3)))), (h4, .inl (d4, 10, .inr (.inl (lA g4))))] sz) [(h0, .inr (0, [.ref h1, .ref h2, .ref h3, .int (nI (n))])), (h1, .inl (d1, 8, .inl (iA g1))), (h2, .inr (1, [.ref h4, .int (nI (k))])), (h3, .inl (d3, 8, .inr (.inl (lA g')))), (h4, .inl (d4, 10, .inr (.inl (lA g4))))]) (va_A [(h0, .inr (0, [.ref h1, .ref h2, .ref h3, .int (nI (n))])), (h1, .inl (d1, 8, .inl (iA g1))), (h2, .inr (1, [.ref h4, .int (nI (k))])), (h3, .inl (d3, 8, .inr (.inl (lA g3)))), (h4, .inl (d4, 10, .inr (.inl (lA g4))))] sz)) 0 0 (va_A [(h0, .inr (0, [.ref h1, .ref h2, .ref h3, .int (nI (n))])), (h1, .inl (d1, 8, .inl (iA g1))), (h2, .inr (1, [.ref h4, .int (nI (k))])), (h3, .inl (d3, 8, .inr (.inl (lA g3)))), (h4, .inl (d4, 10, .inr (.inl (lA g4))))] sz) := by
  refine Met.ofW (cc := cX0_beside) (maxL := 8) (ret := (some .long)) (by decide) rfl ?_
  intro p e s m args below meth c s₁ B hml hv
  obtain ⟨rfl, hsz, hP, hK, hD0⟩ := hv
  have hx := B.exec
  have hb := B.bytes
  have hr := B.returns
  have hts := atoms_spec (ws := ws_ yX0_beside cX0_beside 8 (some .long)) B.pre
  have hts : ∀ w ∈ lw_all, w.before _ s = true := fun w h => hts w (List.mem_cons_of_mem _ h)
  have hown : s.vm.findClass RX0 = some m.cls := findClass_of_methodNamed B.named
  have hlocks := B.notSynchronized
  subst hsz
  have hD := hD0.self (sz := s.heap.size)
  generalize hAe : va_A [(h0, .inr (0, [.ref h1, .ref h2, .ref h3, .int (nI (n))])), (h1, .inl (d1, 8, .inl (iA g1))), (h2, .inr (1, [.ref h4, .int (nI (k))])), (h3, .inl (d3, 8, .inr (.inl (lA g3)))), (h4, .inl (d4, 10, .inr (.inl (lA g4))))] s.heap.size = A at hD ⊢
  have hA : ∀ q : Nat, s.heap.size ≤ q → A q := fun q h => by rw [← hAe]; exact Or.inr h
  have hS : va_S A s.heap s.heap [] := va_S.rf
  have hP : va_P (dC, dI) vwCl [(h0, .inr (0, [.ref h1, .ref h2, .ref h3, .int (nI (n))])), (h1, .inl (d1, 8, .inl (iA g1))), (h2, .inr (1, [.ref h4, .int (nI (k))])), (h3, .inl (d3, 8, .inr (.inl (lA g3)))), (h4, .inl (d4, 10, .inr (.inl (lA g4))))] s.heap := hP
  have hl := lv_entry ([.ref h0]) (n := 8) (Nat.le_of_ble_eq_true rfl)
  rw [lg_entry_eq]
  generalize (lg_sl ([.ref h0]) ++ List.replicate (8 - (lg_sl ([.ref h0])).length) Slot.unset).toArray = ls at hl ⊢
  have hl : lv_has ls 8 [(0, .ref h0)] := hl
  refine lv_aload_n hx hb dX0_beside_0 rfl (lv_at hl 0 rfl) ?_
  refine va_get (D := (dC, dI)) (ci := 0) (v := .int (nI (n))) (C := RX0) (T := TX0) (N := 4) hx hb hts in_X0 hown hK hP 0 rfl rfl 3 (by decide) (hts _ q32) (fun _ h9 => h9) rfl dX0_beside_1 ?_
  refine lv_istore_n (lv' := [(1, .int (nI (n))), (0, .ref h0)]) hx hb dX0_beside_4 rfl hl (by decide) rfl (fun ls hl => ?_)
  refine lv_lconst (v := lN 0) hx hb dX0_beside_5 rfl ?_
  refine lv_lstore_n (lv' := [(2, .long (lN (0))), (1, .int (nI (n))), (0, .ref h0)]) hx hb dX0_beside_6 rfl hl (by decide) rfl (fun ls hl => ?_)
  refine lv_iconst (v := nI 0) hx hb dX0_beside_7 (by decide) ?_
  refine lv_istore (lv' := [(4, .int (nI (0))), (2, .long (lN (0))), (1, .int (nI (n))), (0, .ref h0)]) hx hb dX0_beside_8 hl (by decide) rfl (fun ls hl => ?_)
  refine lp_bP hx hb hown hts hn hK hw (fun g H locs ls hg hP hD hS hl => ?_) (n + 1) 0 g3 (by omega) (by omega) (fun t ht => by omega) _ _ ls hP hD hS (lv_sub hl [0, 1, 2, 3] rfl)
  have hsg : sg g 0 n = sg g1 0 n := sg_congr (fun t ht => by rw [Nat.zero_add]; exact hg t ht)
  have hsm : (sg g1 0 n).sum < 2 ^ 30 := by
    have h9 := Nat.le_trans (sg_sum_le hw n 0 (by omega)) (Nat.mul_le_mul_right 65535 hn)
    exact Nat.lt_of_le_of_lt h9 (by decide)
  refine lp_bQ hx hb hown hts hn hK (sg g1 0 n) (fun CC g' H locs ls hj hP hD hS hl => ?_) (n + 1) n 0 g (by omega) hn (by
    rcases Nat.eq_zero_or_pos n with q | q
    · exact Or.inl ⟨q, q, rfl⟩
    · exact Or.inr ⟨q, q, fun j c' h9 => ⟨j, by rw [Nat.zero_add, ← hsg]; exact h9⟩⟩) (by rw [hsg]; exact hsm) _ _ ls hP hD hS (lv_sub hl [0, 1, 2] rfl)
  have hpost : (n = 0 ∧ lN CC = lN 0) ∨ (0 < n ∧ ∃ j x, gw_rel j (sg g1 0 n) x ∧ lN CC = lN x) := by
    rcases hj with ⟨q1, q2⟩ | ⟨q1, j, q2⟩
    · exact Or.inl ⟨q1, by rw [q2]⟩
    · exact Or.inr ⟨q1, j, CC, q2, rfl⟩
  refine lv_lload_n hx hb dX0_beside_198 rfl (lv_at hl 0 rfl) ?_
  have hP9 := hP.sub (ws' := [(h0, .inr (0, [.ref h1, .ref h2, .ref h3, .int (nI (n))])), (h1, .inl (d1, 8, .inl (iA g1))), (h2, .inr (1, [.ref h4, .int (nI (k))])), (h3, .inl (d3, 8, .inr (.inl (lA g')))), (h4, .inl (d4, 10, .inr (.inl (lA g4))))]) [0, 1, 2, 3, 4] rfl
  have hD9 := hD.sub (ws' := [(h0, .inr (0, [.ref h1, .ref h2, .ref h3, .int (nI (n))])), (h1, .inl (d1, 8, .inl (iA g1))), (h2, .inr (1, [.ref h4, .int (nI (k))])), (h3, .inl (d3, 8, .inr (.inl (lA g')))), (h4, .inl (d4, 10, .inr (.inl (lA g4))))]) [0, 1, 2, 3, 4] (by decide) rfl
  have hK9 := hK.sub (tys' := [(d1, .int), (d3, .long), (d4, .long)]) [0, 1, 2] rfl
  exact W.lret (v := lN (CC)) hx hb hr (fun t ht hW => ⟨⟨lN (CC), g', rfl, hpost, by rw [ht]; exact hP9, va_K.moved hW.alike hK9, hD9⟩, hS.F ht⟩) hS.2.2 dX0_beside_199
end
section
/-! THE TWO SIDES AGREE, plain -/
theorem ag_put {n nm un vn : Nat} {g1 f1 ug vg : Nat → Nat} {r1 r2 : Int32} {X : Nat} (hX : X < 2 ^ 16) (hnm : nm = n) (hw : ∀ i, i < n → g1 i < 65536) (hag : ∀ i, i < n → f1 i = g1 i)
    (hw1 : (n = 8 ∧ r1 = nI 0 ∧ (un, ug) = (n, g1)) ∨ (n < 8 ∧ r1 = nI 1 ∧ (un, ug) = (n + 1, nu g1 n X)))
    (hw2 : (nm = 8 ∧ r2 = nI 0 ∧ (vn, vg) = (nm, f1)) ∨ (nm < 8 ∧ r2 = nI 1 ∧ (vn, vg) = (nm + 1, nu f1 nm X))) :
    r1 = r2 ∧ un ≤ 8 ∧ vn = un ∧ (∀ i, i < un → ug i < 65536) ∧ (∀ i, i < un → vg i = ug i) := by
  rcases hw1 with ⟨a1, a2, a3⟩ | ⟨a1, a2, a3⟩ <;> rcases hw2 with ⟨b1, b2, b3⟩ | ⟨b1, b2, b3⟩
  · obtain ⟨c1, c2⟩ := Prod.mk.inj a3
    obtain ⟨c3, c4⟩ := Prod.mk.inj b3
    rw [a2, b2, c1, c2, c3, c4]
    exact ⟨rfl, by omega, by omega, hw, hag⟩
  · omega
  · omega
  · obtain ⟨c1, c2⟩ := Prod.mk.inj a3
    obtain ⟨c3, c4⟩ := Prod.mk.inj b3
    rw [a2, b2, c1, c2, c3, c4, hnm]
    refine ⟨rfl, by omega, rfl, fun i hi => ?_, fun i hi => ?_⟩
    · by_cases q : i = n
      · rw [q, nu_s]; exact hX
      · rw [nu_n q]; exact hw i (by omega)
    · by_cases q : i = n
      · rw [q, nu_s, nu_s]
      · rw [nu_n q, nu_n q]; exact hag i (by omega)
theorem ag_drop {n nm un vn : Nat} {r1 r2 : Int32} (hnm : nm = n)
    (hw1 : (n = 0 ∧ r1 = nI 0 ∧ un = 0) ∨ (0 < n ∧ r1 = nI 1 ∧ un = n - 1))
    (hw2 : (nm = 0 ∧ r2 = nI 0 ∧ vn = 0) ∨ (0 < nm ∧ r2 = nI 1 ∧ vn = nm - 1)) : r1 = r2 ∧ un ≤ n ∧ vn = un := by
  rcases hw1 with ⟨a1, a2, a3⟩ | ⟨a1, a2, a3⟩ <;> rcases hw2 with ⟨b1, b2, b3⟩ | ⟨b1, b2, b3⟩
  · rw [a2, b2]; exact ⟨rfl, by omega, by omega⟩
  · omega
  · omega
  · rw [a2, b2]; exact ⟨rfl, by omega, by omega⟩
theorem ag_join {q n nm : Nat} {g1 f1 gb : Nat → Nat} {r1 r2 : Int64} (hq : q = 1 ∨ q = 2) (hn : n ≤ 8) (hnm : nm = n) (hag : ∀ i, i < n → f1 i = g1 i)
    (hw1 : (n = 0 ∧ r1 = lN 0) ∨ (0 < n ∧ ∃ j L c, hf_rel (q + 1) j L c ∧ L.length % q = 1 % q ∧ (L.Perm (mk_all g1 n) ∨ (q = 2 ∧ L.Perm (0 :: mk_all g1 n))) ∧ r1 = lN c))
    (hw2 : (nm = 0 ∧ r2 = lN 0) ∨ (0 < nm ∧ mk_U (q + 1) nm f1 gb (2 ^ nm) ∧ r2 = lN (gb (2 ^ nm - 1)))) : r1 = r2 := by
  rcases hw1 with ⟨a1, a2⟩ | ⟨a1, j, L, c, a2, a3, a4, a5⟩ <;> rcases hw2 with ⟨b1, b2⟩ | ⟨b1, b2, b3⟩
  · rw [a2, b2]
  · omega
  · omega
  · subst hnm
    have e : mk_all g1 nm = mk_all f1 nm := mk_all_congr (fun i hi => (hag i hi).symm)
    rw [e] at a4
    have := mk_fin hq b1 hn (mk_U_T b2) a2 a3 a4
    have h2 : 2 ≤ 2 ^ nm := by
      have : 2 ^ 1 ≤ 2 ^ nm := Nat.pow_le_pow_right (by omega) b1
      omega
    rw [nu_n (show 2 ^ nm - 1 ≠ 0 by omega)] at this
    rw [a5, b3, this]
theorem ag_beside {n nm : Nat} {g1 f1 : Nat → Nat} {r1 r2 : Int64} (hnm : nm = n) (hag : ∀ i, i < n → f1 i = g1 i)
    (hw1 : (n = 0 ∧ r1 = lN 0) ∨ (0 < n ∧ ∃ j y, gw_rel j (sg g1 0 n) y ∧ r1 = lN y))
    (hw2 : (nm = 0 ∧ r2 = lN 0) ∨ (0 < nm ∧ ∃ y, gw_best (sg f1 0 nm) y ∧ r2 = lN y)) : r1 = r2 := by
  rcases hw1 with ⟨a1, a2⟩ | ⟨a1, j, y, a2, a3⟩ <;> rcases hw2 with ⟨b1, b2⟩ | ⟨b1, z, b2, b3⟩
  · rw [a2, b2]
  · omega
  · omega
  · subst hnm
    have e : sg f1 0 nm = sg g1 0 nm := sg_congr (fun t ht => by rw [Nat.zero_add]; exact hag t ht)
    rw [e] at b2
    rw [a3, b3, gw_best_uniq (gw_rel_best _ _ _ a2) b2]
theorem neg_lt {a b i : Nat} (h : a < b) (hb : b < 2 ^ 30) (hi : i < 2 ^ 31) : nI a - nI b < nI i := by
  rw [Int32.lt_iff_toInt_lt, pk_sub_toInt (by omega) hb, nI_toInt hi]
  omega
end
section
/-! THE CLAIM OUT OF ONE WALK OF THE LAW'S BODY. Your part is whole_start (and what it stands on); all else here is the same for every law, but numbers. -/
def R_law : String := "MergeDeskLaw"
def lw_P (b : Addr) (xs : List Int32) (args : Array Value) (s : State) : Prop := args = #[.ref b] ∧ s.IntsAt b xs ∧ xs.length ≤ 128 ∧ (Jvm.Cond.and given_1 narrow_1).before args s = true
def lw_Q (_ : Array Value) (s : State) (o : Outcome) (t : State) : Prop := o = .returned (some (.int 1)) ∧ Framed s o t [] 600000 7290000
def lw_Z (below : List Frame) (a : Array Value) (s : State) : State → Prop := fun t => ∃ o, t.status = .running ∧ Ended t below o ∧ lw_Q a s o t
/-- the law's own end, with 1 on the stack, nothing written that was there before, its room as the claim has it -/
theorem lw_ret {p : Program} {l : Launch} {e : Env} {s : State} {m : MethodId} {below : List Frame} {meth : Method} {c : Code} {b : Nat} (hx : p.tables.exec = Jvm.exec) (hb : c.code = code) (hr : meth.sig.returnType = ret) (hlocks : meth.locks = false) {pc : Nat} {H : Heap} {ls : Array Slot} (hdg : decode code pc = .ok (.ireturn, 1)) : W p l e room_1 s m #[Value.ref b] below meth c H [] 600000 7290000 (lw_Z below #[Value.ref b] s) (F0 m pc ls [.int 1]) := by
  intro T hT X
  obtain ⟨fs, hret, hrun, hended, hW, hframe⟩ := X.leave (v := some (.int 1)) (hlocks := hlocks) (fun h => by rw [hr] at h; cases h)
  have hmeth' : T.vm.method? m = some meth := X.method'
  refine ⟨T.setFrames fs, ?_, .returned (some (.int 1)), hrun, hended, rfl, ⟨_, rfl⟩, hW, hframe⟩
  jvm_step X.here [X.here.top, hx, hb, hdg, hmeth', hr, ret, narrow_b1]
  (try refine ⟨rfl, ?_⟩); (try refine ⟨rfl, ?_⟩)
  first | (intro acts; rw [hret _ acts rfl rfl rfl]) | rw [hret _ _ rfl rfl rfl]
  exact Steps.refl _
/-- what holds at the law's entry: the machine, the code, the tables' words (any of lw_tbl by 'hts w (by decide +kernel)'), the script of L ints xs at the cell b, what the Statement gives of the start (any of its parts by flat_of_before) -/
def lw_At (p : Program) (s : State) (m : MethodId) (meth : Method) (c : Code) (b L : Nat) (xs : Nat → Int32) : Prop :=
  p.tables.exec = Jvm.exec ∧ c.code = code ∧ meth.sig.returnType = ret ∧ c.maxLocals = 4 ∧ s.vm.findClass R_law = some m.cls ∧ (∀ w ∈ lw_tbl, w.before #[Value.ref b] s = true) ∧ va_X b L xs s s.heap ∧ b < s.heap.size ∧ meth.locks = false ∧ (Jvm.Cond.and given_1 narrow_1).before #[Value.ref b] s = true
end
section
set_option maxHeartbeats 4000000 in
set_option maxRecDepth 100000 in
theorem law_loop {p : Program} {l : Launch} {e : Env} {s : State} {m : MethodId} {below : List Frame} {meth : Method} {c : Code} {dC : Nat → ClassId} {dI : Nat → Nat → Nat} {A : Nat → Prop} {b L : Nat} {xs : Nat → Int32} (hL : L ≤ 128) (C0 : lw_At p s m meth c b L xs) (hA : ∀ q : Nat, s.heap.size ≤ q → A q) (hbA : ¬ A b) (hAA : ∀ q : Nat, A q → s.heap.size ≤ q) {h0 h1 h2 h3 h4 k0 k1 k2 k3 : Nat} {d1 d3 d4 e1 e2 e3 : ClassId} (hK : va_K (dC, dI) vwCl [(d1, .int), (d3, .long), (d4, .long), (e1, .int), (e2, .long), (e3, .long)] s) :
    ∀ (f i n nm k : Nat) (g1 g3 g4 f1 f2 f3 : Nat → Nat), L < i + f → i ≤ L → n ≤ 8 → nm = n → (∀ i, i < n → g1 i < 65536) → (∀ i, i < n → f1 i = g1 i) → ∀ (H : Heap) (locs : List Loc) (ls : Array Slot), va_P (dC, dI) vwCl [(h0, .inr (0, [.ref h1, .ref h2, .ref h3, .int (nI (n))])), (h1, .inl (d1, 8, .inl (iA g1))), (h2, .inr (1, [.ref h4, .int (nI (k))])), (h3, .inl (d3, 8, .inr (.inl (lA g3)))), (h4, .inl (d4, 10, .inr (.inl (lA g4)))), (k0, .inr (2, [.ref k1, .int (nI (nm)), .ref k2, .ref k3])), (k1, .inl (e1, 10, .inl (iA f1))), (k2, .inl (e2, 1024, .inr (.inl (lA f2)))), (k3, .inl (e3, 110, .inr (.inl (lA f3))))] H → va_D A [(h0, .inr (0, [.ref h1, .ref h2, .ref h3, .int (nI (n))])), (h1, .inl (d1, 8, .inl (iA g1))), (h2, .inr (1, [.ref h4, .int (nI (k))])), (h3, .inl (d3, 8, .inr (.inl (lA g3)))), (h4, .inl (d4, 10, .inr (.inl (lA g4)))), (k0, .inr (2, [.ref k1, .int (nI (nm)), .ref k2, .ref k3])), (k1, .inl (e1, 10, .inl (iA f1))), (k2, .inl (e2, 1024, .inr (.inl (lA f2)))), (k3, .inl (e3, 110, .inr (.inl (lA f3))))] → va_S A s.heap H locs → lv_has ls 4 [(3, .int (nI (i))), (2, .ref k0), (1, .ref h0), (0, .ref b)] → W p l e room_1 s m #[Value.ref b] below meth c H locs 9 1180 (lw_Z below #[Value.ref b] s) (F0 m 18 ls []) := by
  obtain ⟨hx, hb, hr, hml, hown, hts0, hX, hbl, hlocks, hgv⟩ := C0
  have hts : ∀ w ∈ lw_all, w.before #[Value.ref b] s = true := fun w h => hts0 w (lw_all_tbl h)
  have hRc : 9 + 0 ≤ room_1.cells ∧ 1180 + 0 ≤ room_1.slots := ⟨Nat.le_of_ble_eq_true rfl, Nat.le_of_ble_eq_true rfl⟩
  intro f
  induction f with
  | zero => intro i n nm k g1 g3 g4 f1 f2 f3 h h1; omega
  | succ f ih =>
    intro i n nm k g1 g3 g4 f1 f2 f3 hif hiL hn hnm hw hag H locs ls hP hD hS hl
    have hnm8 : nm ≤ 8 := by omega
    have hwm : ∀ i, i < nm → f1 i < 65536 := fun i hi => by rw [hag i (by omega)]; exact hw i (by omega)
    by_cases hL2 : L < 2
    · refine lv_iload_n hx hb dL_law_18 rfl (lv_at hl 0 rfl) ?_
      refine lv_aload_n hx hb dL_law_19 rfl (lv_at hl 3 rfl) ?_
      refine va_slen hx hb hX hbl hbA hS dL_law_20 ?_
      refine w_i (show Int32.ofNat L = nI L from rfl) ?_
      refine lv_iconst (v := nI 2) hx hb dL_law_21 (by decide) ?_
      refine lv_isub hx hb dL_law_22 ?_
      refine lv_icmp_gt (tgt := 169) hx hb dL_law_23 (by decide) (fun c_23 => ?_) (fun c_23 => ?_)
      · refine lv_iconst (v := 1) hx hb dL_law_169 (by decide) ?_
        refine va_forget (fun q hq => hAA _ (hS.2.2 q hq)) ?_
        refine W.widen (k := 600000) (n := 7290000) (by decide) (by decide) ?_
        exact lw_ret hx hb hr hlocks dL_law_170
      · exact absurd (neg_lt (by omega) (by omega) (by omega)) c_23
    · refine lv_iload_n hx hb dL_law_18 rfl (lv_at hl 0 rfl) ?_
      refine lv_aload_n hx hb dL_law_19 rfl (lv_at hl 3 rfl) ?_
      refine va_slen hx hb hX hbl hbA hS dL_law_20 ?_
      refine w_i (show Int32.ofNat L = nI L from rfl) ?_
      refine lv_iconst (v := nI 2) hx hb dL_law_21 (by decide) ?_
      refine lv_isub hx hb dL_law_22 ?_
      refine w_i (pk_sub (a := L) (b := 2) (by omega)) ?_
      refine lv_icmp_gt (tgt := 169) hx hb dL_law_23 (by decide) (fun c_23 => ?_) (fun c_23 => ?_)
      · have c_23 : L - 2 < i := ci_lt c_23 (by omega) (by omega)
        refine lv_iconst (v := 1) hx hb dL_law_169 (by decide) ?_
        refine va_forget (fun q hq => hAA _ (hS.2.2 q hq)) ?_
        refine W.widen (k := 600000) (n := 7290000) (by decide) (by decide) ?_
        exact lw_ret hx hb hr hlocks dL_law_170
      · have c_23 : i ≤ L - 2 := ci_nlt c_23 (by omega) (by omega)
        refine lv_aload_n hx hb dL_law_26 rfl (lv_at hl 3 rfl) ?_
        refine lv_iload_n hx hb dL_law_27 rfl (lv_at hl 0 rfl) ?_
        refine va_sld hx hb hX hbl hbA hS (in_nI (n := i) (by omega) (by omega)) dL_law_28 ?_
        refine w_i (show xs (nI (i)).toNatClampNeg = xs (i) by rw [nI_clamp (by omega)]) ?_
        refine lv_bipush (v := nI 7) hx hb dL_law_29 (by decide) ?_
        refine lv_iand hx hb dL_law_31 ?_
        refine w_i (pk_and (xs (i)) (m := nI 7) 3 (by decide)) ?_
        obtain ⟨v, hv⟩ : ∃ v, v = (xs (i)).toBitVec.toNat % 2 ^ 3 := ⟨_, rfl⟩
        rw [← hv]
        have hv8 : v < 8 := by rw [hv]; exact Nat.mod_lt _ (by decide)
        rcases (by omega : v = 0 ∨ v = 1 ∨ v = 2 ∨ v = 3 ∨ v = 4 ∨ v = 5 ∨ 6 ≤ v) with q | q | q | q | q | q | q
        · rw [q]
          refine lv_tableIn (off := 40) (tgt := 72) hx hb dL_law_32 (by decide) (by decide) (by decide) (by decide) ?_
          refine lv_aload_n hx hb dL_law_72 rfl (lv_at hl 2 rfl) ?_
          refine lv_aload_n hx hb dL_law_73 rfl (lv_at hl 3 rfl) ?_
          refine lv_iload_n hx hb dL_law_74 rfl (lv_at hl 0 rfl) ?_
          refine lv_iconst (v := nI 1) hx hb dL_law_75 (by decide) ?_
          refine lv_iadd hx hb dL_law_76 ?_
          refine w_i (nI_add (i) (1)) ?_
          refine va_sld hx hb hX hbl hbA hS (in_nI (n := i + 1) (by omega) (by omega)) dL_law_77 ?_
          refine w_i (show xs (nI (i + 1)).toNatClampNeg = xs (i + 1) by rw [nI_clamp (by omega)]) ?_
          have hPc := hP.sub (ws' := [(h0, .inr (0, [.ref h1, .ref h2, .ref h3, .int (nI (n))])), (h1, .inl (d1, 8, .inl (iA g1))), (h2, .inr (1, [.ref h4, .int (nI (k))])), (h3, .inl (d3, 8, .inr (.inl (lA g3)))), (h4, .inl (d4, 10, .inr (.inl (lA g4))))]) [0, 1, 2, 3, 4] rfl
          have hDc := hD.sub (ws' := [(h0, .inr (0, [.ref h1, .ref h2, .ref h3, .int (nI (n))])), (h1, .inl (d1, 8, .inl (iA g1))), (h2, .inr (1, [.ref h4, .int (nI (k))])), (h3, .inl (d3, 8, .inr (.inl (lA g3)))), (h4, .inl (d4, 10, .inr (.inl (lA g4))))]) [0, 1, 2, 3, 4] (by decide) rfl
          have hKc := hK.sub (tys' := [(d1, .int), (d3, .long), (d4, .long)]) [0, 1, 2] rfl
          have hFc := va_free (wc := [(h0, .inr (0, [.ref h1, .ref h2, .ref h3, .int (nI (n))])), (h1, .inl (d1, 8, .inl (iA g1))), (h2, .inr (1, [.ref h4, .int (nI (k))])), (h3, .inl (d3, 8, .inr (.inl (lA g3)))), (h4, .inl (d4, 10, .inr (.inl (lA g4))))]) hD hS hA [0, 1, 2, 3, 4] rfl
          refine va_calli (va_runV (As := [.int (xs (i + 1))]) (rest := []) ⟨hx, hb, hml, hown, hts⟩ (metX0_put l dC dI h0 h1 h2 h3 h4 d1 d3 d4 H.size n k g1 g3 g4 (xs (i + 1)) hn) (cwV 1 hts (lw_V q42 q43 q44 q3 q45) rfl rfl rfl (by decide +kernel) ⟨Nat.le_of_ble_eq_true rfl, Nat.le_of_ble_eq_true rfl⟩) ⟨fun a U g mk q => by obtain ⟨q0, q1, qP, qK, qD⟩ := q; exact ⟨q0, q1, qP, va_K.moved (u := U) (U := U.calling g mk a) (Vm.Alike.refl U.vm) qK, qD⟩, va_recv hKc hPc (ci := 0) (q0 := 0) rfl rfl, fun U hU hW => ⟨rfl, by rw [hU], by rw [hU]; exact hPc, va_K.moved hW.alike hKc, hDc.weaken (fun _ _ _ _ => trivial)⟩⟩ rfl rfl hl.1 rfl (lv_room (Nat.le_of_ble_eq_true rfl)) dL_law_78 hRc) hS (fun q _ h => hFc q h) hFc (fun r1 u1 t H1 locs ht hvm hw1 hB1 hz1 hk1 hS => ?_)
          obtain ⟨un, ug⟩ := u1
          obtain ⟨hP1, hK1, hD1⟩ := hB1
          rw [ht] at hP1
          have hK1 := va_K.moved hvm.symm hK1
          obtain ⟨hP, hD⟩ := va_join (wr := [(k0, .inr (2, [.ref k1, .int (nI (nm)), .ref k2, .ref k3])), (k1, .inl (e1, 10, .inl (iA f1))), (k2, .inl (e2, 1024, .inr (.inl (lA f2)))), (k3, .inl (e3, 110, .inr (.inl (lA f3))))]) (w1 := [(h0, .inr (0, [.ref h1, .ref h2, .ref h3, .int (nI (un))])), (h1, .inl (d1, 8, .inl (iA ug))), (h2, .inr (1, [.ref h4, .int (nI (k))])), (h3, .inl (d3, 8, .inr (.inl (lA g3)))), (h4, .inl (d4, 10, .inr (.inl (lA g4))))]) hP hD [0, 1, 2, 3, 4] [5, 6, 7, 8] rfl rfl (by decide) (by decide) hk1 hFc hP1 hD1
          generalize H1 = H at hP hS ⊢
          have hP := hP.sub (ws' := [(h0, .inr (0, [.ref h1, .ref h2, .ref h3, .int (nI (un))])), (h1, .inl (d1, 8, .inl (iA ug))), (h2, .inr (1, [.ref h4, .int (nI (k))])), (h3, .inl (d3, 8, .inr (.inl (lA g3)))), (h4, .inl (d4, 10, .inr (.inl (lA g4)))), (k0, .inr (2, [.ref k1, .int (nI (nm)), .ref k2, .ref k3])), (k1, .inl (e1, 10, .inl (iA f1))), (k2, .inl (e2, 1024, .inr (.inl (lA f2)))), (k3, .inl (e3, 110, .inr (.inl (lA f3))))]) [4, 5, 6, 7, 8, 0, 1, 2, 3] rfl
          have hD := hD.sub (ws' := [(h0, .inr (0, [.ref h1, .ref h2, .ref h3, .int (nI (un))])), (h1, .inl (d1, 8, .inl (iA ug))), (h2, .inr (1, [.ref h4, .int (nI (k))])), (h3, .inl (d3, 8, .inr (.inl (lA g3)))), (h4, .inl (d4, 10, .inr (.inl (lA g4)))), (k0, .inr (2, [.ref k1, .int (nI (nm)), .ref k2, .ref k3])), (k1, .inl (e1, 10, .inl (iA f1))), (k2, .inl (e2, 1024, .inr (.inl (lA f2)))), (k3, .inl (e3, 110, .inr (.inl (lA f3))))]) [4, 5, 6, 7, 8, 0, 1, 2, 3] (by decide) rfl
          refine W.widen (k := 9) (n := 1180) (Nat.le_refl _) (Nat.le_refl _) ?_
          refine lv_aload_n hx hb dL_law_81 rfl (lv_at hl 1 rfl) ?_
          refine lv_aload_n hx hb dL_law_82 rfl (lv_at hl 3 rfl) ?_
          refine lv_iload_n hx hb dL_law_83 rfl (lv_at hl 0 rfl) ?_
          refine lv_iconst (v := nI 1) hx hb dL_law_84 (by decide) ?_
          refine lv_iadd hx hb dL_law_85 ?_
          refine w_i (nI_add (i) (1)) ?_
          refine va_sld hx hb hX hbl hbA hS (in_nI (n := i + 1) (by omega) (by omega)) dL_law_86 ?_
          refine w_i (show xs (nI (i + 1)).toNatClampNeg = xs (i + 1) by rw [nI_clamp (by omega)]) ?_
          have hPc := hP.sub (ws' := [(k0, .inr (2, [.ref k1, .int (nI (nm)), .ref k2, .ref k3])), (k1, .inl (e1, 10, .inl (iA f1))), (k2, .inl (e2, 1024, .inr (.inl (lA f2)))), (k3, .inl (e3, 110, .inr (.inl (lA f3))))]) [5, 6, 7, 8] rfl
          have hDc := hD.sub (ws' := [(k0, .inr (2, [.ref k1, .int (nI (nm)), .ref k2, .ref k3])), (k1, .inl (e1, 10, .inl (iA f1))), (k2, .inl (e2, 1024, .inr (.inl (lA f2)))), (k3, .inl (e3, 110, .inr (.inl (lA f3))))]) [5, 6, 7, 8] (by decide) rfl
          have hKc := hK.sub (tys' := [(e1, .int), (e2, .long), (e3, .long)]) [3, 4, 5] rfl
          have hFc := va_free (wc := [(k0, .inr (2, [.ref k1, .int (nI (nm)), .ref k2, .ref k3])), (k1, .inl (e1, 10, .inl (iA f1))), (k2, .inl (e2, 1024, .inr (.inl (lA f2)))), (k3, .inl (e3, 110, .inr (.inl (lA f3))))]) hD hS hA [5, 6, 7, 8] rfl
          refine va_calli (va_runV (As := [.int (xs (i + 1))]) (rest := [.int (r1)]) ⟨hx, hb, hml, hown, hts⟩ (metX2_put l dC dI k0 k1 k2 k3 e1 e2 e3 H.size nm f1 f2 f3 (xs (i + 1)) hnm8) (cwV 1 hts (lw_V q102 q103 q104 q5 q105) rfl rfl rfl (by decide +kernel) ⟨Nat.le_of_ble_eq_true rfl, Nat.le_of_ble_eq_true rfl⟩) ⟨fun a U g mk q => by obtain ⟨q0, q1, qP, qK, qD⟩ := q; exact ⟨q0, q1, qP, va_K.moved (u := U) (U := U.calling g mk a) (Vm.Alike.refl U.vm) qK, qD⟩, va_recv hKc hPc (ci := 2) (q0 := 0) rfl rfl, fun U hU hW => ⟨rfl, by rw [hU], by rw [hU]; exact hPc, va_K.moved hW.alike hKc, hDc.weaken (fun _ _ _ _ => trivial)⟩⟩ rfl rfl hl.1 rfl (lv_room (Nat.le_of_ble_eq_true rfl)) dL_law_87 hRc) hS (fun q _ h => hFc q h) hFc (fun r2 u2 t H1 locs ht hvm hw2 hB1 hz1 hk1 hS => ?_)
          obtain ⟨vn, vg⟩ := u2
          obtain ⟨hP1, hK1, hD1⟩ := hB1
          rw [ht] at hP1
          have hK1 := va_K.moved hvm.symm hK1
          obtain ⟨hP, hD⟩ := va_join (wr := [(h0, .inr (0, [.ref h1, .ref h2, .ref h3, .int (nI (un))])), (h1, .inl (d1, 8, .inl (iA ug))), (h2, .inr (1, [.ref h4, .int (nI (k))])), (h3, .inl (d3, 8, .inr (.inl (lA g3)))), (h4, .inl (d4, 10, .inr (.inl (lA g4))))]) (w1 := [(k0, .inr (2, [.ref k1, .int (nI (vn)), .ref k2, .ref k3])), (k1, .inl (e1, 10, .inl (iA vg))), (k2, .inl (e2, 1024, .inr (.inl (lA f2)))), (k3, .inl (e3, 110, .inr (.inl (lA f3))))]) hP hD [5, 6, 7, 8] [0, 1, 2, 3, 4] rfl rfl (by decide) (by decide) hk1 hFc hP1 hD1
          generalize H1 = H at hP hS ⊢
          have hP := hP.sub (ws' := [(h0, .inr (0, [.ref h1, .ref h2, .ref h3, .int (nI (un))])), (h1, .inl (d1, 8, .inl (iA ug))), (h2, .inr (1, [.ref h4, .int (nI (k))])), (h3, .inl (d3, 8, .inr (.inl (lA g3)))), (h4, .inl (d4, 10, .inr (.inl (lA g4)))), (k0, .inr (2, [.ref k1, .int (nI (vn)), .ref k2, .ref k3])), (k1, .inl (e1, 10, .inl (iA vg))), (k2, .inl (e2, 1024, .inr (.inl (lA f2)))), (k3, .inl (e3, 110, .inr (.inl (lA f3))))]) [0, 1, 2, 3, 4, 5, 6, 7, 8] rfl
          have hD := hD.sub (ws' := [(h0, .inr (0, [.ref h1, .ref h2, .ref h3, .int (nI (un))])), (h1, .inl (d1, 8, .inl (iA ug))), (h2, .inr (1, [.ref h4, .int (nI (k))])), (h3, .inl (d3, 8, .inr (.inl (lA g3)))), (h4, .inl (d4, 10, .inr (.inl (lA g4)))), (k0, .inr (2, [.ref k1, .int (nI (vn)), .ref k2, .ref k3])), (k1, .inl (e1, 10, .inl (iA vg))), (k2, .inl (e2, 1024, .inr (.inl (lA f2)))), (k3, .inl (e3, 110, .inr (.inl (lA f3))))]) [0, 1, 2, 3, 4, 5, 6, 7, 8] (by decide) rfl
          refine W.widen (k := 9) (n := 1180) (Nat.le_refl _) (Nat.le_refl _) ?_
          have hagr := ag_put (Nat.mod_lt _ (by decide)) hnm hw hag hw1 hw2
          refine lv_icmp_eq (tgt := 163) hx hb dL_law_90 (by decide) (fun c_90 => ?_) (fun c_90 => ?_)
          · have hq1 : True := trivial
            refine lv_iinc (v := nI (i + 2)) (lv' := [(3, .int (nI (i + 2))), (2, .ref k0), (1, .ref h0), (0, .ref b)]) hx hb dL_law_163 hl (k := 0) rfl (inc_2 (i)) (by decide) rfl (fun ls hl => ?_)
            refine lv_goto (tgt := 18) hx hb dL_law_166 (by decide) ?_
            exact ih (i + 2) un vn k ug g3 g4 vg f2 f3 (by omega) (by omega) hagr.2.1 hagr.2.2.1 hagr.2.2.2.1 hagr.2.2.2.2 _ _ ls hP hD hS (lv_sub hl [0, 1, 2, 3] rfl)
          · exact absurd hagr.1 c_90
        · rw [q]
          refine lv_tableIn (off := 63) (tgt := 95) hx hb dL_law_32 (by decide) (by decide) (by decide) (by decide) ?_
          refine lv_aload_n hx hb dL_law_95 rfl (lv_at hl 2 rfl) ?_
          have hPc := hP.sub (ws' := [(h0, .inr (0, [.ref h1, .ref h2, .ref h3, .int (nI (n))])), (h1, .inl (d1, 8, .inl (iA g1))), (h2, .inr (1, [.ref h4, .int (nI (k))])), (h3, .inl (d3, 8, .inr (.inl (lA g3)))), (h4, .inl (d4, 10, .inr (.inl (lA g4))))]) [0, 1, 2, 3, 4] rfl
          have hDc := hD.sub (ws' := [(h0, .inr (0, [.ref h1, .ref h2, .ref h3, .int (nI (n))])), (h1, .inl (d1, 8, .inl (iA g1))), (h2, .inr (1, [.ref h4, .int (nI (k))])), (h3, .inl (d3, 8, .inr (.inl (lA g3)))), (h4, .inl (d4, 10, .inr (.inl (lA g4))))]) [0, 1, 2, 3, 4] (by decide) rfl
          have hKc := hK.sub (tys' := [(d1, .int), (d3, .long), (d4, .long)]) [0, 1, 2] rfl
          have hFc := va_free (wc := [(h0, .inr (0, [.ref h1, .ref h2, .ref h3, .int (nI (n))])), (h1, .inl (d1, 8, .inl (iA g1))), (h2, .inr (1, [.ref h4, .int (nI (k))])), (h3, .inl (d3, 8, .inr (.inl (lA g3)))), (h4, .inl (d4, 10, .inr (.inl (lA g4))))]) hD hS hA [0, 1, 2, 3, 4] rfl
          refine va_calli (va_runV (As := []) (rest := []) ⟨hx, hb, hml, hown, hts⟩ (metX0_drop l dC dI h0 h1 h2 h3 h4 d1 d3 d4 H.size n k g1 g3 g4 hn) (cwV 0 hts (lw_V q47 q48 q49 q3 q50) rfl rfl rfl (by decide +kernel) ⟨Nat.le_of_ble_eq_true rfl, Nat.le_of_ble_eq_true rfl⟩) ⟨fun a U g mk q => by obtain ⟨q0, q1, qP, qK, qD⟩ := q; exact ⟨q0, q1, qP, va_K.moved (u := U) (U := U.calling g mk a) (Vm.Alike.refl U.vm) qK, qD⟩, va_recv hKc hPc (ci := 0) (q0 := 0) rfl rfl, fun U hU hW => ⟨rfl, by rw [hU], by rw [hU]; exact hPc, va_K.moved hW.alike hKc, hDc.weaken (fun _ _ _ _ => trivial)⟩⟩ rfl rfl hl.1 rfl (lv_room (Nat.le_of_ble_eq_true rfl)) dL_law_96 hRc) hS (fun q _ h => hFc q h) hFc (fun r1 u1 t H1 locs ht hvm hw1 hB1 hz1 hk1 hS => ?_)
          obtain ⟨un, rfl⟩ : ∃ un, un = u1 := ⟨_, rfl⟩
          obtain ⟨hP1, hK1, hD1⟩ := hB1
          rw [ht] at hP1
          have hK1 := va_K.moved hvm.symm hK1
          obtain ⟨hP, hD⟩ := va_join (wr := [(k0, .inr (2, [.ref k1, .int (nI (nm)), .ref k2, .ref k3])), (k1, .inl (e1, 10, .inl (iA f1))), (k2, .inl (e2, 1024, .inr (.inl (lA f2)))), (k3, .inl (e3, 110, .inr (.inl (lA f3))))]) (w1 := [(h0, .inr (0, [.ref h1, .ref h2, .ref h3, .int (nI (un))])), (h1, .inl (d1, 8, .inl (iA g1))), (h2, .inr (1, [.ref h4, .int (nI (k))])), (h3, .inl (d3, 8, .inr (.inl (lA g3)))), (h4, .inl (d4, 10, .inr (.inl (lA g4))))]) hP hD [0, 1, 2, 3, 4] [5, 6, 7, 8] rfl rfl (by decide) (by decide) hk1 hFc hP1 hD1
          generalize H1 = H at hP hS ⊢
          have hP := hP.sub (ws' := [(h0, .inr (0, [.ref h1, .ref h2, .ref h3, .int (nI (un))])), (h1, .inl (d1, 8, .inl (iA g1))), (h2, .inr (1, [.ref h4, .int (nI (k))])), (h3, .inl (d3, 8, .inr (.inl (lA g3)))), (h4, .inl (d4, 10, .inr (.inl (lA g4)))), (k0, .inr (2, [.ref k1, .int (nI (nm)), .ref k2, .ref k3])), (k1, .inl (e1, 10, .inl (iA f1))), (k2, .inl (e2, 1024, .inr (.inl (lA f2)))), (k3, .inl (e3, 110, .inr (.inl (lA f3))))]) [4, 5, 6, 7, 8, 0, 1, 2, 3] rfl
          have hD := hD.sub (ws' := [(h0, .inr (0, [.ref h1, .ref h2, .ref h3, .int (nI (un))])), (h1, .inl (d1, 8, .inl (iA g1))), (h2, .inr (1, [.ref h4, .int (nI (k))])), (h3, .inl (d3, 8, .inr (.inl (lA g3)))), (h4, .inl (d4, 10, .inr (.inl (lA g4)))), (k0, .inr (2, [.ref k1, .int (nI (nm)), .ref k2, .ref k3])), (k1, .inl (e1, 10, .inl (iA f1))), (k2, .inl (e2, 1024, .inr (.inl (lA f2)))), (k3, .inl (e3, 110, .inr (.inl (lA f3))))]) [4, 5, 6, 7, 8, 0, 1, 2, 3] (by decide) rfl
          refine W.widen (k := 9) (n := 1180) (Nat.le_refl _) (Nat.le_refl _) ?_
          refine lv_aload_n hx hb dL_law_99 rfl (lv_at hl 1 rfl) ?_
          have hPc := hP.sub (ws' := [(k0, .inr (2, [.ref k1, .int (nI (nm)), .ref k2, .ref k3])), (k1, .inl (e1, 10, .inl (iA f1))), (k2, .inl (e2, 1024, .inr (.inl (lA f2)))), (k3, .inl (e3, 110, .inr (.inl (lA f3))))]) [5, 6, 7, 8] rfl
          have hDc := hD.sub (ws' := [(k0, .inr (2, [.ref k1, .int (nI (nm)), .ref k2, .ref k3])), (k1, .inl (e1, 10, .inl (iA f1))), (k2, .inl (e2, 1024, .inr (.inl (lA f2)))), (k3, .inl (e3, 110, .inr (.inl (lA f3))))]) [5, 6, 7, 8] (by decide) rfl
          have hKc := hK.sub (tys' := [(e1, .int), (e2, .long), (e3, .long)]) [3, 4, 5] rfl
          have hFc := va_free (wc := [(k0, .inr (2, [.ref k1, .int (nI (nm)), .ref k2, .ref k3])), (k1, .inl (e1, 10, .inl (iA f1))), (k2, .inl (e2, 1024, .inr (.inl (lA f2)))), (k3, .inl (e3, 110, .inr (.inl (lA f3))))]) hD hS hA [5, 6, 7, 8] rfl
          refine va_calli (va_runV (As := []) (rest := [.int (r1)]) ⟨hx, hb, hml, hown, hts⟩ (metX2_drop l dC dI k0 k1 k2 k3 e1 e2 e3 H.size nm f1 f2 f3 hnm8) (cwV 0 hts (lw_V q107 q108 q109 q5 q110) rfl rfl rfl (by decide +kernel) ⟨Nat.le_of_ble_eq_true rfl, Nat.le_of_ble_eq_true rfl⟩) ⟨fun a U g mk q => by obtain ⟨q0, q1, qP, qK, qD⟩ := q; exact ⟨q0, q1, qP, va_K.moved (u := U) (U := U.calling g mk a) (Vm.Alike.refl U.vm) qK, qD⟩, va_recv hKc hPc (ci := 2) (q0 := 0) rfl rfl, fun U hU hW => ⟨rfl, by rw [hU], by rw [hU]; exact hPc, va_K.moved hW.alike hKc, hDc.weaken (fun _ _ _ _ => trivial)⟩⟩ rfl rfl hl.1 rfl (lv_room (Nat.le_of_ble_eq_true rfl)) dL_law_100 hRc) hS (fun q _ h => hFc q h) hFc (fun r2 u2 t H1 locs ht hvm hw2 hB1 hz1 hk1 hS => ?_)
          obtain ⟨vn, rfl⟩ : ∃ vn, vn = u2 := ⟨_, rfl⟩
          obtain ⟨hP1, hK1, hD1⟩ := hB1
          rw [ht] at hP1
          have hK1 := va_K.moved hvm.symm hK1
          obtain ⟨hP, hD⟩ := va_join (wr := [(h0, .inr (0, [.ref h1, .ref h2, .ref h3, .int (nI (un))])), (h1, .inl (d1, 8, .inl (iA g1))), (h2, .inr (1, [.ref h4, .int (nI (k))])), (h3, .inl (d3, 8, .inr (.inl (lA g3)))), (h4, .inl (d4, 10, .inr (.inl (lA g4))))]) (w1 := [(k0, .inr (2, [.ref k1, .int (nI (vn)), .ref k2, .ref k3])), (k1, .inl (e1, 10, .inl (iA f1))), (k2, .inl (e2, 1024, .inr (.inl (lA f2)))), (k3, .inl (e3, 110, .inr (.inl (lA f3))))]) hP hD [5, 6, 7, 8] [0, 1, 2, 3, 4] rfl rfl (by decide) (by decide) hk1 hFc hP1 hD1
          generalize H1 = H at hP hS ⊢
          have hP := hP.sub (ws' := [(h0, .inr (0, [.ref h1, .ref h2, .ref h3, .int (nI (un))])), (h1, .inl (d1, 8, .inl (iA g1))), (h2, .inr (1, [.ref h4, .int (nI (k))])), (h3, .inl (d3, 8, .inr (.inl (lA g3)))), (h4, .inl (d4, 10, .inr (.inl (lA g4)))), (k0, .inr (2, [.ref k1, .int (nI (vn)), .ref k2, .ref k3])), (k1, .inl (e1, 10, .inl (iA f1))), (k2, .inl (e2, 1024, .inr (.inl (lA f2)))), (k3, .inl (e3, 110, .inr (.inl (lA f3))))]) [0, 1, 2, 3, 4, 5, 6, 7, 8] rfl
          have hD := hD.sub (ws' := [(h0, .inr (0, [.ref h1, .ref h2, .ref h3, .int (nI (un))])), (h1, .inl (d1, 8, .inl (iA g1))), (h2, .inr (1, [.ref h4, .int (nI (k))])), (h3, .inl (d3, 8, .inr (.inl (lA g3)))), (h4, .inl (d4, 10, .inr (.inl (lA g4)))), (k0, .inr (2, [.ref k1, .int (nI (vn)), .ref k2, .ref k3])), (k1, .inl (e1, 10, .inl (iA f1))), (k2, .inl (e2, 1024, .inr (.inl (lA f2)))), (k3, .inl (e3, 110, .inr (.inl (lA f3))))]) [0, 1, 2, 3, 4, 5, 6, 7, 8] (by decide) rfl
          refine W.widen (k := 9) (n := 1180) (Nat.le_refl _) (Nat.le_refl _) ?_
          have hagr := ag_drop hnm hw1 hw2
          refine lv_icmp_eq (tgt := 163) hx hb dL_law_103 (by decide) (fun c_103 => ?_) (fun c_103 => ?_)
          · have hq1 : True := trivial
            refine lv_iinc (v := nI (i + 2)) (lv' := [(3, .int (nI (i + 2))), (2, .ref k0), (1, .ref h0), (0, .ref b)]) hx hb dL_law_163 hl (k := 0) rfl (inc_2 (i)) (by decide) rfl (fun ls hl => ?_)
            refine lv_goto (tgt := 18) hx hb dL_law_166 (by decide) ?_
            exact ih (i + 2) un vn k g1 g3 g4 f1 f2 f3 (by omega) (by omega) (by have := hagr.2.1; omega) hagr.2.2 (fun i hi => hw i (by have := hagr.2.1; omega)) (fun i hi => hag i (by have := hagr.2.1; omega)) _ _ ls hP hD hS (lv_sub hl [0, 1, 2, 3] rfl)
          · exact absurd hagr.1 c_103
        · rw [q]
          refine lv_tableIn (off := 76) (tgt := 108) hx hb dL_law_32 (by decide) (by decide) (by decide) (by decide) ?_
          refine lv_aload_n hx hb dL_law_108 rfl (lv_at hl 2 rfl) ?_
          have hPc := hP.sub (ws' := [(h0, .inr (0, [.ref h1, .ref h2, .ref h3, .int (nI (n))])), (h1, .inl (d1, 8, .inl (iA g1))), (h2, .inr (1, [.ref h4, .int (nI (k))])), (h3, .inl (d3, 8, .inr (.inl (lA g3)))), (h4, .inl (d4, 10, .inr (.inl (lA g4))))]) [0, 1, 2, 3, 4] rfl
          have hDc := hD.sub (ws' := [(h0, .inr (0, [.ref h1, .ref h2, .ref h3, .int (nI (n))])), (h1, .inl (d1, 8, .inl (iA g1))), (h2, .inr (1, [.ref h4, .int (nI (k))])), (h3, .inl (d3, 8, .inr (.inl (lA g3)))), (h4, .inl (d4, 10, .inr (.inl (lA g4))))]) [0, 1, 2, 3, 4] (by decide) rfl
          have hKc := hK.sub (tys' := [(d1, .int), (d3, .long), (d4, .long)]) [0, 1, 2] rfl
          have hFc := va_free (wc := [(h0, .inr (0, [.ref h1, .ref h2, .ref h3, .int (nI (n))])), (h1, .inl (d1, 8, .inl (iA g1))), (h2, .inr (1, [.ref h4, .int (nI (k))])), (h3, .inl (d3, 8, .inr (.inl (lA g3)))), (h4, .inl (d4, 10, .inr (.inl (lA g4))))]) hD hS hA [0, 1, 2, 3, 4] rfl
          refine va_calll (va_runV (As := []) (rest := []) ⟨hx, hb, hml, hown, hts⟩ (metX0_any l dC dI h0 h1 h2 h3 h4 d1 d3 d4 H.size n k g1 g3 g4 hn hw) (cwV 0 hts (lw_V q51 q52 q53 q3 q54) rfl rfl rfl (by decide +kernel) ⟨Nat.le_of_ble_eq_true rfl, Nat.le_of_ble_eq_true rfl⟩) ⟨fun a U g mk q => by obtain ⟨q0, q1, qP, qK, qD⟩ := q; exact ⟨q0, q1, qP, va_K.moved (u := U) (U := U.calling g mk a) (Vm.Alike.refl U.vm) qK, qD⟩, va_recv hKc hPc (ci := 0) (q0 := 0) rfl rfl, fun U hU hW => ⟨rfl, by rw [hU], by rw [hU]; exact hPc, va_K.moved hW.alike hKc, hDc.weaken (fun _ _ _ _ => trivial)⟩⟩ rfl rfl hl.1 rfl (lv_room (Nat.le_of_ble_eq_true rfl)) dL_law_109 hRc) hS (fun q _ h => hFc q h) hFc (fun r1 u1 t H1 locs ht hvm hw1 hB1 hz1 hk1 hS => ?_)
          obtain ⟨ka, g4a⟩ := u1
          obtain ⟨hP1, hK1, hD1⟩ := hB1
          rw [ht] at hP1
          have hK1 := va_K.moved hvm.symm hK1
          obtain ⟨hP, hD⟩ := va_join (wr := [(k0, .inr (2, [.ref k1, .int (nI (nm)), .ref k2, .ref k3])), (k1, .inl (e1, 10, .inl (iA f1))), (k2, .inl (e2, 1024, .inr (.inl (lA f2)))), (k3, .inl (e3, 110, .inr (.inl (lA f3))))]) (w1 := [(h0, .inr (0, [.ref h1, .ref h2, .ref h3, .int (nI (n))])), (h1, .inl (d1, 8, .inl (iA g1))), (h2, .inr (1, [.ref h4, .int (nI (ka))])), (h3, .inl (d3, 8, .inr (.inl (lA g3)))), (h4, .inl (d4, 10, .inr (.inl (lA g4a))))]) hP hD [0, 1, 2, 3, 4] [5, 6, 7, 8] rfl rfl (by decide) (by decide) hk1 hFc hP1 hD1
          generalize H1 = H at hP hS ⊢
          have hP := hP.sub (ws' := [(h0, .inr (0, [.ref h1, .ref h2, .ref h3, .int (nI (n))])), (h1, .inl (d1, 8, .inl (iA g1))), (h2, .inr (1, [.ref h4, .int (nI (ka))])), (h3, .inl (d3, 8, .inr (.inl (lA g3)))), (h4, .inl (d4, 10, .inr (.inl (lA g4a)))), (k0, .inr (2, [.ref k1, .int (nI (nm)), .ref k2, .ref k3])), (k1, .inl (e1, 10, .inl (iA f1))), (k2, .inl (e2, 1024, .inr (.inl (lA f2)))), (k3, .inl (e3, 110, .inr (.inl (lA f3))))]) [4, 5, 6, 7, 8, 0, 1, 2, 3] rfl
          have hD := hD.sub (ws' := [(h0, .inr (0, [.ref h1, .ref h2, .ref h3, .int (nI (n))])), (h1, .inl (d1, 8, .inl (iA g1))), (h2, .inr (1, [.ref h4, .int (nI (ka))])), (h3, .inl (d3, 8, .inr (.inl (lA g3)))), (h4, .inl (d4, 10, .inr (.inl (lA g4a)))), (k0, .inr (2, [.ref k1, .int (nI (nm)), .ref k2, .ref k3])), (k1, .inl (e1, 10, .inl (iA f1))), (k2, .inl (e2, 1024, .inr (.inl (lA f2)))), (k3, .inl (e3, 110, .inr (.inl (lA f3))))]) [4, 5, 6, 7, 8, 0, 1, 2, 3] (by decide) rfl
          refine W.widen (k := 9) (n := 1180) (Nat.le_refl _) (Nat.le_refl _) ?_
          refine lv_aload_n hx hb dL_law_112 rfl (lv_at hl 1 rfl) ?_
          have hPc := hP.sub (ws' := [(k0, .inr (2, [.ref k1, .int (nI (nm)), .ref k2, .ref k3])), (k1, .inl (e1, 10, .inl (iA f1))), (k2, .inl (e2, 1024, .inr (.inl (lA f2)))), (k3, .inl (e3, 110, .inr (.inl (lA f3))))]) [5, 6, 7, 8] rfl
          have hDc := hD.sub (ws' := [(k0, .inr (2, [.ref k1, .int (nI (nm)), .ref k2, .ref k3])), (k1, .inl (e1, 10, .inl (iA f1))), (k2, .inl (e2, 1024, .inr (.inl (lA f2)))), (k3, .inl (e3, 110, .inr (.inl (lA f3))))]) [5, 6, 7, 8] (by decide) rfl
          have hKc := hK.sub (tys' := [(e1, .int), (e2, .long), (e3, .long)]) [3, 4, 5] rfl
          have hFc := va_free (wc := [(k0, .inr (2, [.ref k1, .int (nI (nm)), .ref k2, .ref k3])), (k1, .inl (e1, 10, .inl (iA f1))), (k2, .inl (e2, 1024, .inr (.inl (lA f2)))), (k3, .inl (e3, 110, .inr (.inl (lA f3))))]) hD hS hA [5, 6, 7, 8] rfl
          refine va_calll (va_runV (As := []) (rest := [.long (r1)]) ⟨hx, hb, hml, hown, hts⟩ (metX2_any l dC dI k0 k1 k2 k3 e1 e2 e3 H.size nm f1 f2 f3 hnm8 hwm) (cwV 0 hts (lw_V q111 q112 q113 q5 q114) rfl rfl rfl (by decide +kernel) ⟨Nat.le_of_ble_eq_true rfl, Nat.le_of_ble_eq_true rfl⟩) ⟨fun a U g mk q => by obtain ⟨q0, q1, qP, qK, qD⟩ := q; exact ⟨q0, q1, qP, va_K.moved (u := U) (U := U.calling g mk a) (Vm.Alike.refl U.vm) qK, qD⟩, va_recv hKc hPc (ci := 2) (q0 := 0) rfl rfl, fun U hU hW => ⟨rfl, by rw [hU], by rw [hU]; exact hPc, va_K.moved hW.alike hKc, hDc.weaken (fun _ _ _ _ => trivial)⟩⟩ rfl rfl hl.1 rfl (lv_room (Nat.le_of_ble_eq_true rfl)) dL_law_113 hRc) hS (fun q _ h => hFc q h) hFc (fun r2 u2 t H1 locs ht hvm hw2 hB1 hz1 hk1 hS => ?_)
          obtain ⟨f2a, rfl⟩ : ∃ z, z = u2 := ⟨_, rfl⟩
          obtain ⟨hP1, hK1, hD1⟩ := hB1
          rw [ht] at hP1
          have hK1 := va_K.moved hvm.symm hK1
          obtain ⟨hP, hD⟩ := va_join (wr := [(h0, .inr (0, [.ref h1, .ref h2, .ref h3, .int (nI (n))])), (h1, .inl (d1, 8, .inl (iA g1))), (h2, .inr (1, [.ref h4, .int (nI (ka))])), (h3, .inl (d3, 8, .inr (.inl (lA g3)))), (h4, .inl (d4, 10, .inr (.inl (lA g4a))))]) (w1 := [(k0, .inr (2, [.ref k1, .int (nI (nm)), .ref k2, .ref k3])), (k1, .inl (e1, 10, .inl (iA f1))), (k2, .inl (e2, 1024, .inr (.inl (lA f2a)))), (k3, .inl (e3, 110, .inr (.inl (lA f3))))]) hP hD [5, 6, 7, 8] [0, 1, 2, 3, 4] rfl rfl (by decide) (by decide) hk1 hFc hP1 hD1
          generalize H1 = H at hP hS ⊢
          have hP := hP.sub (ws' := [(h0, .inr (0, [.ref h1, .ref h2, .ref h3, .int (nI (n))])), (h1, .inl (d1, 8, .inl (iA g1))), (h2, .inr (1, [.ref h4, .int (nI (ka))])), (h3, .inl (d3, 8, .inr (.inl (lA g3)))), (h4, .inl (d4, 10, .inr (.inl (lA g4a)))), (k0, .inr (2, [.ref k1, .int (nI (nm)), .ref k2, .ref k3])), (k1, .inl (e1, 10, .inl (iA f1))), (k2, .inl (e2, 1024, .inr (.inl (lA f2a)))), (k3, .inl (e3, 110, .inr (.inl (lA f3))))]) [0, 1, 2, 3, 4, 5, 6, 7, 8] rfl
          have hD := hD.sub (ws' := [(h0, .inr (0, [.ref h1, .ref h2, .ref h3, .int (nI (n))])), (h1, .inl (d1, 8, .inl (iA g1))), (h2, .inr (1, [.ref h4, .int (nI (ka))])), (h3, .inl (d3, 8, .inr (.inl (lA g3)))), (h4, .inl (d4, 10, .inr (.inl (lA g4a)))), (k0, .inr (2, [.ref k1, .int (nI (nm)), .ref k2, .ref k3])), (k1, .inl (e1, 10, .inl (iA f1))), (k2, .inl (e2, 1024, .inr (.inl (lA f2a)))), (k3, .inl (e3, 110, .inr (.inl (lA f3))))]) [0, 1, 2, 3, 4, 5, 6, 7, 8] (by decide) rfl
          refine W.widen (k := 9) (n := 1180) (Nat.le_refl _) (Nat.le_refl _) ?_
          have hagr := ag_join (q := 1) (by omega) hn hnm hag hw1 hw2
          refine W.lcmp hx hb dL_law_116 ?_
          refine lv_if_eq (tgt := 163) hx hb dL_law_117 (by decide) (fun c_117 => ?_) (fun c_117 => ?_)
          · have hq1 : True := trivial
            refine lv_iinc (v := nI (i + 2)) (lv' := [(3, .int (nI (i + 2))), (2, .ref k0), (1, .ref h0), (0, .ref b)]) hx hb dL_law_163 hl (k := 0) rfl (inc_2 (i)) (by decide) rfl (fun ls hl => ?_)
            refine lv_goto (tgt := 18) hx hb dL_law_166 (by decide) ?_
            exact ih (i + 2) n nm ka g1 g3 g4a f1 f2a f3 (by omega) (by omega) hn hnm hw hag _ _ ls hP hD hS (lv_sub hl [0, 1, 2, 3] rfl)
          · exact absurd ((lg_cmp_eq _ _).mpr hagr) c_117
        · rw [q]
          refine lv_tableIn (off := 90) (tgt := 122) hx hb dL_law_32 (by decide) (by decide) (by decide) (by decide) ?_
          refine lv_aload_n hx hb dL_law_122 rfl (lv_at hl 2 rfl) ?_
          have hPc := hP.sub (ws' := [(h0, .inr (0, [.ref h1, .ref h2, .ref h3, .int (nI (n))])), (h1, .inl (d1, 8, .inl (iA g1))), (h2, .inr (1, [.ref h4, .int (nI (k))])), (h3, .inl (d3, 8, .inr (.inl (lA g3)))), (h4, .inl (d4, 10, .inr (.inl (lA g4))))]) [0, 1, 2, 3, 4] rfl
          have hDc := hD.sub (ws' := [(h0, .inr (0, [.ref h1, .ref h2, .ref h3, .int (nI (n))])), (h1, .inl (d1, 8, .inl (iA g1))), (h2, .inr (1, [.ref h4, .int (nI (k))])), (h3, .inl (d3, 8, .inr (.inl (lA g3)))), (h4, .inl (d4, 10, .inr (.inl (lA g4))))]) [0, 1, 2, 3, 4] (by decide) rfl
          have hKc := hK.sub (tys' := [(d1, .int), (d3, .long), (d4, .long)]) [0, 1, 2] rfl
          have hFc := va_free (wc := [(h0, .inr (0, [.ref h1, .ref h2, .ref h3, .int (nI (n))])), (h1, .inl (d1, 8, .inl (iA g1))), (h2, .inr (1, [.ref h4, .int (nI (k))])), (h3, .inl (d3, 8, .inr (.inl (lA g3)))), (h4, .inl (d4, 10, .inr (.inl (lA g4))))]) hD hS hA [0, 1, 2, 3, 4] rfl
          refine va_calll (va_runV (As := []) (rest := []) ⟨hx, hb, hml, hown, hts⟩ (metX0_beside l dC dI h0 h1 h2 h3 h4 d1 d3 d4 H.size n k g1 g3 g4 hn hw) (cwV 0 hts (lw_V q75 q76 q77 q3 q78) rfl rfl rfl (by decide +kernel) ⟨Nat.le_of_ble_eq_true rfl, Nat.le_of_ble_eq_true rfl⟩) ⟨fun a U g mk q => by obtain ⟨q0, q1, qP, qK, qD⟩ := q; exact ⟨q0, q1, qP, va_K.moved (u := U) (U := U.calling g mk a) (Vm.Alike.refl U.vm) qK, qD⟩, va_recv hKc hPc (ci := 0) (q0 := 0) rfl rfl, fun U hU hW => ⟨rfl, by rw [hU], by rw [hU]; exact hPc, va_K.moved hW.alike hKc, hDc.weaken (fun _ _ _ _ => trivial)⟩⟩ rfl rfl hl.1 rfl (lv_room (Nat.le_of_ble_eq_true rfl)) dL_law_123 hRc) hS (fun q _ h => hFc q h) hFc (fun r1 u1 t H1 locs ht hvm hw1 hB1 hz1 hk1 hS => ?_)
          obtain ⟨g3a, rfl⟩ : ∃ z, z = u1 := ⟨_, rfl⟩
          obtain ⟨hP1, hK1, hD1⟩ := hB1
          rw [ht] at hP1
          have hK1 := va_K.moved hvm.symm hK1
          obtain ⟨hP, hD⟩ := va_join (wr := [(k0, .inr (2, [.ref k1, .int (nI (nm)), .ref k2, .ref k3])), (k1, .inl (e1, 10, .inl (iA f1))), (k2, .inl (e2, 1024, .inr (.inl (lA f2)))), (k3, .inl (e3, 110, .inr (.inl (lA f3))))]) (w1 := [(h0, .inr (0, [.ref h1, .ref h2, .ref h3, .int (nI (n))])), (h1, .inl (d1, 8, .inl (iA g1))), (h2, .inr (1, [.ref h4, .int (nI (k))])), (h3, .inl (d3, 8, .inr (.inl (lA g3a)))), (h4, .inl (d4, 10, .inr (.inl (lA g4))))]) hP hD [0, 1, 2, 3, 4] [5, 6, 7, 8] rfl rfl (by decide) (by decide) hk1 hFc hP1 hD1
          generalize H1 = H at hP hS ⊢
          have hP := hP.sub (ws' := [(h0, .inr (0, [.ref h1, .ref h2, .ref h3, .int (nI (n))])), (h1, .inl (d1, 8, .inl (iA g1))), (h2, .inr (1, [.ref h4, .int (nI (k))])), (h3, .inl (d3, 8, .inr (.inl (lA g3a)))), (h4, .inl (d4, 10, .inr (.inl (lA g4)))), (k0, .inr (2, [.ref k1, .int (nI (nm)), .ref k2, .ref k3])), (k1, .inl (e1, 10, .inl (iA f1))), (k2, .inl (e2, 1024, .inr (.inl (lA f2)))), (k3, .inl (e3, 110, .inr (.inl (lA f3))))]) [4, 5, 6, 7, 8, 0, 1, 2, 3] rfl
          have hD := hD.sub (ws' := [(h0, .inr (0, [.ref h1, .ref h2, .ref h3, .int (nI (n))])), (h1, .inl (d1, 8, .inl (iA g1))), (h2, .inr (1, [.ref h4, .int (nI (k))])), (h3, .inl (d3, 8, .inr (.inl (lA g3a)))), (h4, .inl (d4, 10, .inr (.inl (lA g4)))), (k0, .inr (2, [.ref k1, .int (nI (nm)), .ref k2, .ref k3])), (k1, .inl (e1, 10, .inl (iA f1))), (k2, .inl (e2, 1024, .inr (.inl (lA f2)))), (k3, .inl (e3, 110, .inr (.inl (lA f3))))]) [4, 5, 6, 7, 8, 0, 1, 2, 3] (by decide) rfl
          refine W.widen (k := 9) (n := 1180) (Nat.le_refl _) (Nat.le_refl _) ?_
          refine lv_aload_n hx hb dL_law_126 rfl (lv_at hl 1 rfl) ?_
          have hPc := hP.sub (ws' := [(k0, .inr (2, [.ref k1, .int (nI (nm)), .ref k2, .ref k3])), (k1, .inl (e1, 10, .inl (iA f1))), (k2, .inl (e2, 1024, .inr (.inl (lA f2)))), (k3, .inl (e3, 110, .inr (.inl (lA f3))))]) [5, 6, 7, 8] rfl
          have hDc := hD.sub (ws' := [(k0, .inr (2, [.ref k1, .int (nI (nm)), .ref k2, .ref k3])), (k1, .inl (e1, 10, .inl (iA f1))), (k2, .inl (e2, 1024, .inr (.inl (lA f2)))), (k3, .inl (e3, 110, .inr (.inl (lA f3))))]) [5, 6, 7, 8] (by decide) rfl
          have hKc := hK.sub (tys' := [(e1, .int), (e2, .long), (e3, .long)]) [3, 4, 5] rfl
          have hFc := va_free (wc := [(k0, .inr (2, [.ref k1, .int (nI (nm)), .ref k2, .ref k3])), (k1, .inl (e1, 10, .inl (iA f1))), (k2, .inl (e2, 1024, .inr (.inl (lA f2)))), (k3, .inl (e3, 110, .inr (.inl (lA f3))))]) hD hS hA [5, 6, 7, 8] rfl
          refine va_calll (va_runV (As := []) (rest := [.long (r1)]) ⟨hx, hb, hml, hown, hts⟩ (metX2_beside l dC dI k0 k1 k2 k3 e1 e2 e3 H.size nm f1 f2 f3 hnm8 hwm) (cwV 0 hts (lw_V q120 q121 q122 q5 q123) rfl rfl rfl (by decide +kernel) ⟨Nat.le_of_ble_eq_true rfl, Nat.le_of_ble_eq_true rfl⟩) ⟨fun a U g mk q => by obtain ⟨q0, q1, qP, qK, qD⟩ := q; exact ⟨q0, q1, qP, va_K.moved (u := U) (U := U.calling g mk a) (Vm.Alike.refl U.vm) qK, qD⟩, va_recv hKc hPc (ci := 2) (q0 := 0) rfl rfl, fun U hU hW => ⟨rfl, by rw [hU], by rw [hU]; exact hPc, va_K.moved hW.alike hKc, hDc.weaken (fun _ _ _ _ => trivial)⟩⟩ rfl rfl hl.1 rfl (lv_room (Nat.le_of_ble_eq_true rfl)) dL_law_127 hRc) hS (fun q _ h => hFc q h) hFc (fun r2 u2 t H1 locs ht hvm hw2 hB1 hz1 hk1 hS => ?_)
          obtain ⟨f3a, rfl⟩ : ∃ z, z = u2 := ⟨_, rfl⟩
          obtain ⟨hP1, hK1, hD1⟩ := hB1
          rw [ht] at hP1
          have hK1 := va_K.moved hvm.symm hK1
          obtain ⟨hP, hD⟩ := va_join (wr := [(h0, .inr (0, [.ref h1, .ref h2, .ref h3, .int (nI (n))])), (h1, .inl (d1, 8, .inl (iA g1))), (h2, .inr (1, [.ref h4, .int (nI (k))])), (h3, .inl (d3, 8, .inr (.inl (lA g3a)))), (h4, .inl (d4, 10, .inr (.inl (lA g4))))]) (w1 := [(k0, .inr (2, [.ref k1, .int (nI (nm)), .ref k2, .ref k3])), (k1, .inl (e1, 10, .inl (iA f1))), (k2, .inl (e2, 1024, .inr (.inl (lA f2)))), (k3, .inl (e3, 110, .inr (.inl (lA f3a))))]) hP hD [5, 6, 7, 8] [0, 1, 2, 3, 4] rfl rfl (by decide) (by decide) hk1 hFc hP1 hD1
          generalize H1 = H at hP hS ⊢
          have hP := hP.sub (ws' := [(h0, .inr (0, [.ref h1, .ref h2, .ref h3, .int (nI (n))])), (h1, .inl (d1, 8, .inl (iA g1))), (h2, .inr (1, [.ref h4, .int (nI (k))])), (h3, .inl (d3, 8, .inr (.inl (lA g3a)))), (h4, .inl (d4, 10, .inr (.inl (lA g4)))), (k0, .inr (2, [.ref k1, .int (nI (nm)), .ref k2, .ref k3])), (k1, .inl (e1, 10, .inl (iA f1))), (k2, .inl (e2, 1024, .inr (.inl (lA f2)))), (k3, .inl (e3, 110, .inr (.inl (lA f3a))))]) [0, 1, 2, 3, 4, 5, 6, 7, 8] rfl
          have hD := hD.sub (ws' := [(h0, .inr (0, [.ref h1, .ref h2, .ref h3, .int (nI (n))])), (h1, .inl (d1, 8, .inl (iA g1))), (h2, .inr (1, [.ref h4, .int (nI (k))])), (h3, .inl (d3, 8, .inr (.inl (lA g3a)))), (h4, .inl (d4, 10, .inr (.inl (lA g4)))), (k0, .inr (2, [.ref k1, .int (nI (nm)), .ref k2, .ref k3])), (k1, .inl (e1, 10, .inl (iA f1))), (k2, .inl (e2, 1024, .inr (.inl (lA f2)))), (k3, .inl (e3, 110, .inr (.inl (lA f3a))))]) [0, 1, 2, 3, 4, 5, 6, 7, 8] (by decide) rfl
          refine W.widen (k := 9) (n := 1180) (Nat.le_refl _) (Nat.le_refl _) ?_
          have hagr := ag_beside hnm hag hw1 hw2
          refine W.lcmp hx hb dL_law_130 ?_
          refine lv_if_eq (tgt := 163) hx hb dL_law_131 (by decide) (fun c_131 => ?_) (fun c_131 => ?_)
          · have hq1 : True := trivial
            refine lv_iinc (v := nI (i + 2)) (lv' := [(3, .int (nI (i + 2))), (2, .ref k0), (1, .ref h0), (0, .ref b)]) hx hb dL_law_163 hl (k := 0) rfl (inc_2 (i)) (by decide) rfl (fun ls hl => ?_)
            refine lv_goto (tgt := 18) hx hb dL_law_166 (by decide) ?_
            exact ih (i + 2) n nm k g1 g3a g4 f1 f2 f3a (by omega) (by omega) hn hnm hw hag _ _ ls hP hD hS (lv_sub hl [0, 1, 2, 3] rfl)
          · exact absurd ((lg_cmp_eq _ _).mpr hagr) c_131
        · rw [q]
          refine lv_tableIn (off := 104) (tgt := 136) hx hb dL_law_32 (by decide) (by decide) (by decide) (by decide) ?_
          refine lv_aload_n hx hb dL_law_136 rfl (lv_at hl 2 rfl) ?_
          have hPc := hP.sub (ws' := [(h0, .inr (0, [.ref h1, .ref h2, .ref h3, .int (nI (n))])), (h1, .inl (d1, 8, .inl (iA g1))), (h2, .inr (1, [.ref h4, .int (nI (k))])), (h3, .inl (d3, 8, .inr (.inl (lA g3)))), (h4, .inl (d4, 10, .inr (.inl (lA g4))))]) [0, 1, 2, 3, 4] rfl
          have hDc := hD.sub (ws' := [(h0, .inr (0, [.ref h1, .ref h2, .ref h3, .int (nI (n))])), (h1, .inl (d1, 8, .inl (iA g1))), (h2, .inr (1, [.ref h4, .int (nI (k))])), (h3, .inl (d3, 8, .inr (.inl (lA g3)))), (h4, .inl (d4, 10, .inr (.inl (lA g4))))]) [0, 1, 2, 3, 4] (by decide) rfl
          have hKc := hK.sub (tys' := [(d1, .int), (d3, .long), (d4, .long)]) [0, 1, 2] rfl
          have hFc := va_free (wc := [(h0, .inr (0, [.ref h1, .ref h2, .ref h3, .int (nI (n))])), (h1, .inl (d1, 8, .inl (iA g1))), (h2, .inr (1, [.ref h4, .int (nI (k))])), (h3, .inl (d3, 8, .inr (.inl (lA g3)))), (h4, .inl (d4, 10, .inr (.inl (lA g4))))]) hD hS hA [0, 1, 2, 3, 4] rfl
          refine va_calll (va_runV (As := []) (rest := []) ⟨hx, hb, hml, hown, hts⟩ (metX0_three l dC dI h0 h1 h2 h3 h4 d1 d3 d4 H.size n k g1 g3 g4 hn hw) (cwV 0 hts (lw_V q71 q72 q73 q3 q74) rfl rfl rfl (by decide +kernel) ⟨Nat.le_of_ble_eq_true rfl, Nat.le_of_ble_eq_true rfl⟩) ⟨fun a U g mk q => by obtain ⟨q0, q1, qP, qK, qD⟩ := q; exact ⟨q0, q1, qP, va_K.moved (u := U) (U := U.calling g mk a) (Vm.Alike.refl U.vm) qK, qD⟩, va_recv hKc hPc (ci := 0) (q0 := 0) rfl rfl, fun U hU hW => ⟨rfl, by rw [hU], by rw [hU]; exact hPc, va_K.moved hW.alike hKc, hDc.weaken (fun _ _ _ _ => trivial)⟩⟩ rfl rfl hl.1 rfl (lv_room (Nat.le_of_ble_eq_true rfl)) dL_law_137 hRc) hS (fun q _ h => hFc q h) hFc (fun r1 u1 t H1 locs ht hvm hw1 hB1 hz1 hk1 hS => ?_)
          obtain ⟨ka, g4a⟩ := u1
          obtain ⟨hP1, hK1, hD1⟩ := hB1
          rw [ht] at hP1
          have hK1 := va_K.moved hvm.symm hK1
          obtain ⟨hP, hD⟩ := va_join (wr := [(k0, .inr (2, [.ref k1, .int (nI (nm)), .ref k2, .ref k3])), (k1, .inl (e1, 10, .inl (iA f1))), (k2, .inl (e2, 1024, .inr (.inl (lA f2)))), (k3, .inl (e3, 110, .inr (.inl (lA f3))))]) (w1 := [(h0, .inr (0, [.ref h1, .ref h2, .ref h3, .int (nI (n))])), (h1, .inl (d1, 8, .inl (iA g1))), (h2, .inr (1, [.ref h4, .int (nI (ka))])), (h3, .inl (d3, 8, .inr (.inl (lA g3)))), (h4, .inl (d4, 10, .inr (.inl (lA g4a))))]) hP hD [0, 1, 2, 3, 4] [5, 6, 7, 8] rfl rfl (by decide) (by decide) hk1 hFc hP1 hD1
          generalize H1 = H at hP hS ⊢
          have hP := hP.sub (ws' := [(h0, .inr (0, [.ref h1, .ref h2, .ref h3, .int (nI (n))])), (h1, .inl (d1, 8, .inl (iA g1))), (h2, .inr (1, [.ref h4, .int (nI (ka))])), (h3, .inl (d3, 8, .inr (.inl (lA g3)))), (h4, .inl (d4, 10, .inr (.inl (lA g4a)))), (k0, .inr (2, [.ref k1, .int (nI (nm)), .ref k2, .ref k3])), (k1, .inl (e1, 10, .inl (iA f1))), (k2, .inl (e2, 1024, .inr (.inl (lA f2)))), (k3, .inl (e3, 110, .inr (.inl (lA f3))))]) [4, 5, 6, 7, 8, 0, 1, 2, 3] rfl
          have hD := hD.sub (ws' := [(h0, .inr (0, [.ref h1, .ref h2, .ref h3, .int (nI (n))])), (h1, .inl (d1, 8, .inl (iA g1))), (h2, .inr (1, [.ref h4, .int (nI (ka))])), (h3, .inl (d3, 8, .inr (.inl (lA g3)))), (h4, .inl (d4, 10, .inr (.inl (lA g4a)))), (k0, .inr (2, [.ref k1, .int (nI (nm)), .ref k2, .ref k3])), (k1, .inl (e1, 10, .inl (iA f1))), (k2, .inl (e2, 1024, .inr (.inl (lA f2)))), (k3, .inl (e3, 110, .inr (.inl (lA f3))))]) [4, 5, 6, 7, 8, 0, 1, 2, 3] (by decide) rfl
          refine W.widen (k := 9) (n := 1180) (Nat.le_refl _) (Nat.le_refl _) ?_
          refine lv_aload_n hx hb dL_law_140 rfl (lv_at hl 1 rfl) ?_
          have hPc := hP.sub (ws' := [(k0, .inr (2, [.ref k1, .int (nI (nm)), .ref k2, .ref k3])), (k1, .inl (e1, 10, .inl (iA f1))), (k2, .inl (e2, 1024, .inr (.inl (lA f2)))), (k3, .inl (e3, 110, .inr (.inl (lA f3))))]) [5, 6, 7, 8] rfl
          have hDc := hD.sub (ws' := [(k0, .inr (2, [.ref k1, .int (nI (nm)), .ref k2, .ref k3])), (k1, .inl (e1, 10, .inl (iA f1))), (k2, .inl (e2, 1024, .inr (.inl (lA f2)))), (k3, .inl (e3, 110, .inr (.inl (lA f3))))]) [5, 6, 7, 8] (by decide) rfl
          have hKc := hK.sub (tys' := [(e1, .int), (e2, .long), (e3, .long)]) [3, 4, 5] rfl
          have hFc := va_free (wc := [(k0, .inr (2, [.ref k1, .int (nI (nm)), .ref k2, .ref k3])), (k1, .inl (e1, 10, .inl (iA f1))), (k2, .inl (e2, 1024, .inr (.inl (lA f2)))), (k3, .inl (e3, 110, .inr (.inl (lA f3))))]) hD hS hA [5, 6, 7, 8] rfl
          refine va_calll (va_runV (As := []) (rest := [.long (r1)]) ⟨hx, hb, hml, hown, hts⟩ (metX2_three l dC dI k0 k1 k2 k3 e1 e2 e3 H.size nm f1 f2 f3 hnm8 hwm) (cwV 0 hts (lw_V q124 q125 q126 q5 q127) rfl rfl rfl (by decide +kernel) ⟨Nat.le_of_ble_eq_true rfl, Nat.le_of_ble_eq_true rfl⟩) ⟨fun a U g mk q => by obtain ⟨q0, q1, qP, qK, qD⟩ := q; exact ⟨q0, q1, qP, va_K.moved (u := U) (U := U.calling g mk a) (Vm.Alike.refl U.vm) qK, qD⟩, va_recv hKc hPc (ci := 2) (q0 := 0) rfl rfl, fun U hU hW => ⟨rfl, by rw [hU], by rw [hU]; exact hPc, va_K.moved hW.alike hKc, hDc.weaken (fun _ _ _ _ => trivial)⟩⟩ rfl rfl hl.1 rfl (lv_room (Nat.le_of_ble_eq_true rfl)) dL_law_141 hRc) hS (fun q _ h => hFc q h) hFc (fun r2 u2 t H1 locs ht hvm hw2 hB1 hz1 hk1 hS => ?_)
          obtain ⟨f2a, rfl⟩ : ∃ z, z = u2 := ⟨_, rfl⟩
          obtain ⟨hP1, hK1, hD1⟩ := hB1
          rw [ht] at hP1
          have hK1 := va_K.moved hvm.symm hK1
          obtain ⟨hP, hD⟩ := va_join (wr := [(h0, .inr (0, [.ref h1, .ref h2, .ref h3, .int (nI (n))])), (h1, .inl (d1, 8, .inl (iA g1))), (h2, .inr (1, [.ref h4, .int (nI (ka))])), (h3, .inl (d3, 8, .inr (.inl (lA g3)))), (h4, .inl (d4, 10, .inr (.inl (lA g4a))))]) (w1 := [(k0, .inr (2, [.ref k1, .int (nI (nm)), .ref k2, .ref k3])), (k1, .inl (e1, 10, .inl (iA f1))), (k2, .inl (e2, 1024, .inr (.inl (lA f2a)))), (k3, .inl (e3, 110, .inr (.inl (lA f3))))]) hP hD [5, 6, 7, 8] [0, 1, 2, 3, 4] rfl rfl (by decide) (by decide) hk1 hFc hP1 hD1
          generalize H1 = H at hP hS ⊢
          have hP := hP.sub (ws' := [(h0, .inr (0, [.ref h1, .ref h2, .ref h3, .int (nI (n))])), (h1, .inl (d1, 8, .inl (iA g1))), (h2, .inr (1, [.ref h4, .int (nI (ka))])), (h3, .inl (d3, 8, .inr (.inl (lA g3)))), (h4, .inl (d4, 10, .inr (.inl (lA g4a)))), (k0, .inr (2, [.ref k1, .int (nI (nm)), .ref k2, .ref k3])), (k1, .inl (e1, 10, .inl (iA f1))), (k2, .inl (e2, 1024, .inr (.inl (lA f2a)))), (k3, .inl (e3, 110, .inr (.inl (lA f3))))]) [0, 1, 2, 3, 4, 5, 6, 7, 8] rfl
          have hD := hD.sub (ws' := [(h0, .inr (0, [.ref h1, .ref h2, .ref h3, .int (nI (n))])), (h1, .inl (d1, 8, .inl (iA g1))), (h2, .inr (1, [.ref h4, .int (nI (ka))])), (h3, .inl (d3, 8, .inr (.inl (lA g3)))), (h4, .inl (d4, 10, .inr (.inl (lA g4a)))), (k0, .inr (2, [.ref k1, .int (nI (nm)), .ref k2, .ref k3])), (k1, .inl (e1, 10, .inl (iA f1))), (k2, .inl (e2, 1024, .inr (.inl (lA f2a)))), (k3, .inl (e3, 110, .inr (.inl (lA f3))))]) [0, 1, 2, 3, 4, 5, 6, 7, 8] (by decide) rfl
          refine W.widen (k := 9) (n := 1180) (Nat.le_refl _) (Nat.le_refl _) ?_
          have hagr := ag_join (q := 2) (by omega) hn hnm hag hw1 hw2
          refine W.lcmp hx hb dL_law_144 ?_
          refine lv_if_eq (tgt := 163) hx hb dL_law_145 (by decide) (fun c_145 => ?_) (fun c_145 => ?_)
          · have hq1 : True := trivial
            refine lv_iinc (v := nI (i + 2)) (lv' := [(3, .int (nI (i + 2))), (2, .ref k0), (1, .ref h0), (0, .ref b)]) hx hb dL_law_163 hl (k := 0) rfl (inc_2 (i)) (by decide) rfl (fun ls hl => ?_)
            refine lv_goto (tgt := 18) hx hb dL_law_166 (by decide) ?_
            exact ih (i + 2) n nm ka g1 g3 g4a f1 f2a f3 (by omega) (by omega) hn hnm hw hag _ _ ls hP hD hS (lv_sub hl [0, 1, 2, 3] rfl)
          · exact absurd ((lg_cmp_eq _ _).mpr hagr) c_145
        · rw [q]
          refine lv_tableIn (off := 118) (tgt := 150) hx hb dL_law_32 (by decide) (by decide) (by decide) (by decide) ?_
          refine lv_aload_n hx hb dL_law_150 rfl (lv_at hl 2 rfl) ?_
          have hPc := hP.sub (ws' := [(h0, .inr (0, [.ref h1, .ref h2, .ref h3, .int (nI (n))])), (h1, .inl (d1, 8, .inl (iA g1))), (h2, .inr (1, [.ref h4, .int (nI (k))])), (h3, .inl (d3, 8, .inr (.inl (lA g3)))), (h4, .inl (d4, 10, .inr (.inl (lA g4))))]) [0, 1, 2, 3, 4] rfl
          have hDc := hD.sub (ws' := [(h0, .inr (0, [.ref h1, .ref h2, .ref h3, .int (nI (n))])), (h1, .inl (d1, 8, .inl (iA g1))), (h2, .inr (1, [.ref h4, .int (nI (k))])), (h3, .inl (d3, 8, .inr (.inl (lA g3)))), (h4, .inl (d4, 10, .inr (.inl (lA g4))))]) [0, 1, 2, 3, 4] (by decide) rfl
          have hKc := hK.sub (tys' := [(d1, .int), (d3, .long), (d4, .long)]) [0, 1, 2] rfl
          have hFc := va_free (wc := [(h0, .inr (0, [.ref h1, .ref h2, .ref h3, .int (nI (n))])), (h1, .inl (d1, 8, .inl (iA g1))), (h2, .inr (1, [.ref h4, .int (nI (k))])), (h3, .inl (d3, 8, .inr (.inl (lA g3)))), (h4, .inl (d4, 10, .inr (.inl (lA g4))))]) hD hS hA [0, 1, 2, 3, 4] rfl
          refine va_calli (va_runV (As := []) (rest := []) ⟨hx, hb, hml, hown, hts⟩ (metX0_heaps l dC dI h0 h1 h2 h3 h4 d1 d3 d4 H.size n k g1 g3 g4) (cwV 0 hts (lw_V q79 q80 q81 q3 q82) rfl rfl rfl (by decide +kernel) ⟨Nat.le_of_ble_eq_true rfl, Nat.le_of_ble_eq_true rfl⟩) ⟨fun a U g mk q => by obtain ⟨q0, q1, qP, qK, qD⟩ := q; exact ⟨q0, q1, qP, va_K.moved (u := U) (U := U.calling g mk a) (Vm.Alike.refl U.vm) qK, qD⟩, va_recv hKc hPc (ci := 0) (q0 := 0) rfl rfl, fun U hU hW => ⟨rfl, by rw [hU], by rw [hU]; exact hPc, va_K.moved hW.alike hKc, hDc.weaken (fun _ _ _ _ => trivial)⟩⟩ rfl rfl hl.1 rfl (lv_room (Nat.le_of_ble_eq_true rfl)) dL_law_151 hRc) hS (fun q _ h => hFc q h) hFc (fun r1 u1 t H1 locs ht hvm hw1 hB1 hz1 hk1 hS => ?_)
          obtain ⟨hP1, hK1, hD1⟩ := hB1
          rw [ht] at hP1
          have hK1 := va_K.moved hvm.symm hK1
          obtain ⟨hP, hD⟩ := va_join (wr := [(k0, .inr (2, [.ref k1, .int (nI (nm)), .ref k2, .ref k3])), (k1, .inl (e1, 10, .inl (iA f1))), (k2, .inl (e2, 1024, .inr (.inl (lA f2)))), (k3, .inl (e3, 110, .inr (.inl (lA f3))))]) (w1 := [(h0, .inr (0, [.ref h1, .ref h2, .ref h3, .int (nI (n))])), (h1, .inl (d1, 8, .inl (iA g1))), (h2, .inr (1, [.ref h4, .int (nI (k))])), (h3, .inl (d3, 8, .inr (.inl (lA g3)))), (h4, .inl (d4, 10, .inr (.inl (lA g4))))]) hP hD [0, 1, 2, 3, 4] [5, 6, 7, 8] rfl rfl (by decide) (by decide) hk1 hFc hP1 hD1
          generalize H1 = H at hP hS ⊢
          have hP := hP.sub (ws' := [(h0, .inr (0, [.ref h1, .ref h2, .ref h3, .int (nI (n))])), (h1, .inl (d1, 8, .inl (iA g1))), (h2, .inr (1, [.ref h4, .int (nI (k))])), (h3, .inl (d3, 8, .inr (.inl (lA g3)))), (h4, .inl (d4, 10, .inr (.inl (lA g4)))), (k0, .inr (2, [.ref k1, .int (nI (nm)), .ref k2, .ref k3])), (k1, .inl (e1, 10, .inl (iA f1))), (k2, .inl (e2, 1024, .inr (.inl (lA f2)))), (k3, .inl (e3, 110, .inr (.inl (lA f3))))]) [4, 5, 6, 7, 8, 0, 1, 2, 3] rfl
          have hD := hD.sub (ws' := [(h0, .inr (0, [.ref h1, .ref h2, .ref h3, .int (nI (n))])), (h1, .inl (d1, 8, .inl (iA g1))), (h2, .inr (1, [.ref h4, .int (nI (k))])), (h3, .inl (d3, 8, .inr (.inl (lA g3)))), (h4, .inl (d4, 10, .inr (.inl (lA g4)))), (k0, .inr (2, [.ref k1, .int (nI (nm)), .ref k2, .ref k3])), (k1, .inl (e1, 10, .inl (iA f1))), (k2, .inl (e2, 1024, .inr (.inl (lA f2)))), (k3, .inl (e3, 110, .inr (.inl (lA f3))))]) [4, 5, 6, 7, 8, 0, 1, 2, 3] (by decide) rfl
          refine W.widen (k := 9) (n := 1180) (Nat.le_refl _) (Nat.le_refl _) ?_
          refine lv_aload_n hx hb dL_law_154 rfl (lv_at hl 1 rfl) ?_
          have hPc := hP.sub (ws' := [(k0, .inr (2, [.ref k1, .int (nI (nm)), .ref k2, .ref k3])), (k1, .inl (e1, 10, .inl (iA f1))), (k2, .inl (e2, 1024, .inr (.inl (lA f2)))), (k3, .inl (e3, 110, .inr (.inl (lA f3))))]) [5, 6, 7, 8] rfl
          have hDc := hD.sub (ws' := [(k0, .inr (2, [.ref k1, .int (nI (nm)), .ref k2, .ref k3])), (k1, .inl (e1, 10, .inl (iA f1))), (k2, .inl (e2, 1024, .inr (.inl (lA f2)))), (k3, .inl (e3, 110, .inr (.inl (lA f3))))]) [5, 6, 7, 8] (by decide) rfl
          have hKc := hK.sub (tys' := [(e1, .int), (e2, .long), (e3, .long)]) [3, 4, 5] rfl
          have hFc := va_free (wc := [(k0, .inr (2, [.ref k1, .int (nI (nm)), .ref k2, .ref k3])), (k1, .inl (e1, 10, .inl (iA f1))), (k2, .inl (e2, 1024, .inr (.inl (lA f2)))), (k3, .inl (e3, 110, .inr (.inl (lA f3))))]) hD hS hA [5, 6, 7, 8] rfl
          refine va_calli (va_runV (As := []) (rest := [.int (r1)]) ⟨hx, hb, hml, hown, hts⟩ (metX2_heaps l dC dI k0 k1 k2 k3 e1 e2 e3 H.size nm f1 f2 f3) (cwV 0 hts (lw_V q128 q129 q130 q5 q131) rfl rfl rfl (by decide +kernel) ⟨Nat.le_of_ble_eq_true rfl, Nat.le_of_ble_eq_true rfl⟩) ⟨fun a U g mk q => by obtain ⟨q0, q1, qP, qK, qD⟩ := q; exact ⟨q0, q1, qP, va_K.moved (u := U) (U := U.calling g mk a) (Vm.Alike.refl U.vm) qK, qD⟩, va_recv hKc hPc (ci := 2) (q0 := 0) rfl rfl, fun U hU hW => ⟨rfl, by rw [hU], by rw [hU]; exact hPc, va_K.moved hW.alike hKc, hDc.weaken (fun _ _ _ _ => trivial)⟩⟩ rfl rfl hl.1 rfl (lv_room (Nat.le_of_ble_eq_true rfl)) dL_law_155 hRc) hS (fun q _ h => hFc q h) hFc (fun r2 u2 t H1 locs ht hvm hw2 hB1 hz1 hk1 hS => ?_)
          obtain ⟨hP1, hK1, hD1⟩ := hB1
          rw [ht] at hP1
          have hK1 := va_K.moved hvm.symm hK1
          obtain ⟨hP, hD⟩ := va_join (wr := [(h0, .inr (0, [.ref h1, .ref h2, .ref h3, .int (nI (n))])), (h1, .inl (d1, 8, .inl (iA g1))), (h2, .inr (1, [.ref h4, .int (nI (k))])), (h3, .inl (d3, 8, .inr (.inl (lA g3)))), (h4, .inl (d4, 10, .inr (.inl (lA g4))))]) (w1 := [(k0, .inr (2, [.ref k1, .int (nI (nm)), .ref k2, .ref k3])), (k1, .inl (e1, 10, .inl (iA f1))), (k2, .inl (e2, 1024, .inr (.inl (lA f2)))), (k3, .inl (e3, 110, .inr (.inl (lA f3))))]) hP hD [5, 6, 7, 8] [0, 1, 2, 3, 4] rfl rfl (by decide) (by decide) hk1 hFc hP1 hD1
          generalize H1 = H at hP hS ⊢
          have hP := hP.sub (ws' := [(h0, .inr (0, [.ref h1, .ref h2, .ref h3, .int (nI (n))])), (h1, .inl (d1, 8, .inl (iA g1))), (h2, .inr (1, [.ref h4, .int (nI (k))])), (h3, .inl (d3, 8, .inr (.inl (lA g3)))), (h4, .inl (d4, 10, .inr (.inl (lA g4)))), (k0, .inr (2, [.ref k1, .int (nI (nm)), .ref k2, .ref k3])), (k1, .inl (e1, 10, .inl (iA f1))), (k2, .inl (e2, 1024, .inr (.inl (lA f2)))), (k3, .inl (e3, 110, .inr (.inl (lA f3))))]) [0, 1, 2, 3, 4, 5, 6, 7, 8] rfl
          have hD := hD.sub (ws' := [(h0, .inr (0, [.ref h1, .ref h2, .ref h3, .int (nI (n))])), (h1, .inl (d1, 8, .inl (iA g1))), (h2, .inr (1, [.ref h4, .int (nI (k))])), (h3, .inl (d3, 8, .inr (.inl (lA g3)))), (h4, .inl (d4, 10, .inr (.inl (lA g4)))), (k0, .inr (2, [.ref k1, .int (nI (nm)), .ref k2, .ref k3])), (k1, .inl (e1, 10, .inl (iA f1))), (k2, .inl (e2, 1024, .inr (.inl (lA f2)))), (k3, .inl (e3, 110, .inr (.inl (lA f3))))]) [0, 1, 2, 3, 4, 5, 6, 7, 8] (by decide) rfl
          refine W.widen (k := 9) (n := 1180) (Nat.le_refl _) (Nat.le_refl _) ?_
          have hagr : r1 = r2 := by rw [hw1, hw2, hnm]
          refine lv_icmp_eq (tgt := 163) hx hb dL_law_158 (by decide) (fun c_158 => ?_) (fun c_158 => ?_)
          · have hq1 : True := trivial
            refine lv_iinc (v := nI (i + 2)) (lv' := [(3, .int (nI (i + 2))), (2, .ref k0), (1, .ref h0), (0, .ref b)]) hx hb dL_law_163 hl (k := 0) rfl (inc_2 (i)) (by decide) rfl (fun ls hl => ?_)
            refine lv_goto (tgt := 18) hx hb dL_law_166 (by decide) ?_
            exact ih (i + 2) n nm k g1 g3 g4 f1 f2 f3 (by omega) (by omega) hn hnm hw hag _ _ ls hP hD hS (lv_sub hl [0, 1, 2, 3] rfl)
          · exact absurd hagr c_158
        · refine lv_tableOut (tgt := 163) hx hb dL_law_32 (Or.inr (by rw [nI_toInt (by omega)]; omega)) (by decide) ?_
          refine lv_iinc (v := nI (i + 2)) (lv' := [(3, .int (nI (i + 2))), (2, .ref k0), (1, .ref h0), (0, .ref b)]) hx hb dL_law_163 hl (k := 0) rfl (inc_2 (i)) (by decide) rfl (fun ls hl => ?_)
          refine lv_goto (tgt := 18) hx hb dL_law_166 (by decide) ?_
          exact ih (i + 2) n nm k g1 g3 g4 f1 f2 f3 (by omega) (by omega) hn hnm hw hag _ _ ls hP hD hS (lv_sub hl [0, 1, 2, 3] rfl)
set_option maxHeartbeats 4000000 in
set_option maxRecDepth 100000 in
theorem whole_start {p : Program} {e : Env} {s : State} {m : MethodId} {below : List Frame} {meth : Method} {c : Code} (l : Launch) {b L : Nat} {xs : Nat → Int32} (hL : L ≤ 128) (C0 : lw_At p s m meth c b L xs) : W p l e room_1 s m #[Value.ref b] below meth c s.heap [] 0 0 (lw_Z below #[Value.ref b] s) (entryFrame m ([Value.ref b] : List Value).toArray 4) := by
  obtain ⟨hx, hb, hr, hml, hown, hts0, hX, hbl, hlocks, hgv⟩ := id C0
  have hts : ∀ w ∈ lw_all, w.before #[Value.ref b] s = true := fun w h => hts0 w (lw_all_tbl h)
  obtain ⟨A, hAe⟩ : ∃ A : Nat → Prop, A = (fun q : Nat => s.heap.size ≤ q) := ⟨_, rfl⟩
  have hA : ∀ q : Nat, s.heap.size ≤ q → A q := fun q h => by rw [hAe]; exact h
  have hAA : ∀ q : Nat, A q → s.heap.size ≤ q := fun q h => by rw [hAe] at h; exact h
  have hbA : ¬ A b := fun h => absurd (hAA b h) (Nat.not_le.mpr hbl)
  have hNw : va_Nw nwL s := va_Nw.of rfl (hts0 _ q16)
  obtain ⟨c0, iS0, hKn0⟩ := u_known (C := RX0) (T := TX0) (N := 4) (n := 4) hts0 (fun w h => lw_all_tbl (in_X0 w h)) (hts0 _ (lw_all_tbl q7))
  obtain ⟨c1, iS1, hKn1⟩ := u_known (C := RX1) (T := TX1) (N := 2) (n := 2) hts0 (fun w h => lw_all_tbl (in_X1 w h)) (hts0 _ (lw_all_tbl q15))
  obtain ⟨c2, iS2, hKn2⟩ := u_known (C := RX2) (T := TX2) (N := 4) (n := 4) hts0 (fun w h => lw_all_tbl (in_X2 w h)) (hts0 _ (lw_all_tbl q84))
  obtain ⟨dC, dI, hKc⟩ : ∃ (dC : Nat → ClassId) (dI : Nat → Nat → Nat), ∀ (k : Nat) (q : vw_C), vwCl[k]? = some q → u_Kn s q.1 q.2.1 q.2.2 (dC k) (dI k) := by
    refine ⟨fun k => if k = 0 then c0 else if k = 1 then c1 else c2, fun k => if k = 0 then iS0 else if k = 1 then iS1 else iS2, ?_⟩
    intro k q hq
    match k, hq with
    | 0, hq => cases hq; exact hKn0
    | 1, hq => cases hq; exact hKn1
    | 2, hq => cases hq; exact hKn2
    | k + 3, hq => simp [vwCl] at hq
  have hS : va_S A s.heap s.heap [] := va_S.rf
  have hK : va_K (dC, dI) vwCl [] s := ⟨hKc, fun k q h => by simp at h⟩
  have hP : va_P (dC, dI) vwCl [] s.heap := fun k q h => by simp at h
  have hD : va_D A [] := ⟨fun i j p q h => by simp at h, fun k q h => by simp at h⟩
  have hl := lv_entry ([.ref b]) (n := 4) (Nat.le_of_ble_eq_true rfl)
  rw [lg_entry_eq]
  generalize (lg_sl ([.ref b]) ++ List.replicate (4 - (lg_sl ([.ref b])).length) Slot.unset).toArray = ls at hl ⊢
  have hl : lv_has ls 4 [(0, .ref b)] := hl
  refine va_new (ci := 0) (fs := [.null, .null, .null, .int (nI (0))]) (C := RX0) (T := TX0) (N := 4) hx hb hts in_X0 tyX0 tyX0_ok hown (hts _ q6) (hts _ q7) (hts _ q3) hK hP hD hS hA rfl (fun j hj => by rcases (show j = 0 ∨ j = 1 ∨ j = 2 ∨ j = 3 by omega) with rfl | rfl | rfl | rfl <;> rfl) (Nat.le_of_ble_eq_true rfl) (Nat.le_of_ble_eq_true rfl) dL_law_0 (fun h0 H hP hD hS => ?_)
  have hP : va_P (dC, dI) vwCl [(h0, .inr (0, [.null, .null, .null, .int (nI (0))]))] H := hP
  have hD : va_D A [(h0, .inr (0, [.null, .null, .null, .int (nI (0))]))] := hD
  refine W.widen (k := 1) (n := 4) (by decide) (by decide) ?_
  refine lv_dup hx hb dL_law_3 rfl ?_
  have hPc := hP.sub (ws' := [(h0, .inr (0, [.null, .null, .null, .int (nI (0))]))]) [0] rfl
  have hDc := hD.sub (ws' := [(h0, .inr (0, [.null, .null, .null, .int (nI (0))]))]) [0] (by decide) rfl
  have hKc := hK.sub (tys' := []) [] rfl
  have hFc := va_free (wc := [(h0, .inr (0, [.null, .null, .null, .int (nI (0))]))]) hD hS hA [0] rfl
  refine va_callv (va_runI (As := []) (rest := [.ref h0]) ⟨hx, hb, hml, hown, hts⟩ (metX0_init l dC dI h0 H.size) (cwI 0 hts (lw_meth q10) rfl rfl rfl (hts _ q3) (hts _ q8) (hts _ q9) rfl (by decide +kernel) ⟨Nat.le_of_ble_eq_true rfl, Nat.le_of_ble_eq_true rfl⟩) ⟨fun a U g mk q => by obtain ⟨q0, q1, qP, qK, qD, qN⟩ := q; exact ⟨q0, q1, qP, va_K.moved (u := U) (U := U.calling g mk a) (Vm.Alike.refl U.vm) qK, qD, va_tabs (A := #[]) (A' := #[]) (u := U) (U := U.calling g mk a) rfl rfl qN⟩, fun U hU hW => ⟨rfl, by rw [hU], by rw [hU]; exact hPc, va_K.moved hW.alike hKc, hDc.weaken (fun _ _ _ _ => trivial), va_Nw.warmM hW hNw⟩⟩ rfl rfl hl.1 rfl (lv_room (Nat.le_of_ble_eq_true rfl)) dL_law_4 ⟨Nat.le_of_ble_eq_true rfl, Nat.le_of_ble_eq_true rfl⟩) hS (fun q _ h => hFc q h) hFc (fun u1 t H1 locs ht hvm hw1 hB1 hz1 hk1 hS => ?_)
  obtain ⟨⟨h1, h2, h3, h4⟩, ⟨d1, d3, d4⟩⟩ := u1
  obtain ⟨hP1, hK1, hD1⟩ := hB1
  rw [ht] at hP1
  have hK1 := va_K.moved hvm.symm hK1
  obtain ⟨hP, hD⟩ := va_join (wr := []) (w1 := [(h0, .inr (0, [.ref h1, .ref h2, .ref h3, .int (nI (0))])), (h1, .inl (d1, 8, .inl (iA (fun _ => 0)))), (h2, .inr (1, [.ref h4, .int (nI (0))])), (h3, .inl (d3, 8, .inr (.inl (lA (fun _ => 0))))), (h4, .inl (d4, 10, .inr (.inl (lA (fun _ => 0)))))]) hP hD [0] [] rfl rfl (by decide) (by decide) hk1 hFc hP1 hD1
  have hK := hK.app hK1
  generalize H1 = H at hP hS ⊢
  have hK : va_K (dC, dI) vwCl [(d1, .int), (d3, .long), (d4, .long)] s := hK
  have hP : va_P (dC, dI) vwCl [(h0, .inr (0, [.ref h1, .ref h2, .ref h3, .int (nI (0))])), (h1, .inl (d1, 8, .inl (iA (fun _ => 0)))), (h2, .inr (1, [.ref h4, .int (nI (0))])), (h3, .inl (d3, 8, .inr (.inl (lA (fun _ => 0))))), (h4, .inl (d4, 10, .inr (.inl (lA (fun _ => 0)))))] H := hP
  have hD : va_D A [(h0, .inr (0, [.ref h1, .ref h2, .ref h3, .int (nI (0))])), (h1, .inl (d1, 8, .inl (iA (fun _ => 0)))), (h2, .inr (1, [.ref h4, .int (nI (0))])), (h3, .inl (d3, 8, .inr (.inl (lA (fun _ => 0))))), (h4, .inl (d4, 10, .inr (.inl (lA (fun _ => 0)))))] := hD
  refine W.widen (k := 5) (n := 32) (by decide) (by decide) ?_
  refine lv_astore_n (lv' := [(1, .ref h0), (0, .ref b)]) hx hb dL_law_7 rfl hl (by decide) rfl (fun ls hl => ?_)
  refine va_new (ci := 2) (fs := [.null, .int (nI (0)), .null, .null]) (C := RX2) (T := TX2) (N := 4) hx hb hts in_X2 tyX2 tyX2_ok hown (hts _ q83) (hts _ q84) (hts _ q5) hK hP hD hS hA rfl (fun j hj => by rcases (show j = 0 ∨ j = 1 ∨ j = 2 ∨ j = 3 by omega) with rfl | rfl | rfl | rfl <;> rfl) (Nat.le_of_ble_eq_true rfl) (Nat.le_of_ble_eq_true rfl) dL_law_8 (fun k0 H hP hD hS => ?_)
  have hP : va_P (dC, dI) vwCl [(h0, .inr (0, [.ref h1, .ref h2, .ref h3, .int (nI (0))])), (h1, .inl (d1, 8, .inl (iA (fun _ => 0)))), (h2, .inr (1, [.ref h4, .int (nI (0))])), (h3, .inl (d3, 8, .inr (.inl (lA (fun _ => 0))))), (h4, .inl (d4, 10, .inr (.inl (lA (fun _ => 0))))), (k0, .inr (2, [.null, .int (nI (0)), .null, .null]))] H := hP
  have hD : va_D A [(h0, .inr (0, [.ref h1, .ref h2, .ref h3, .int (nI (0))])), (h1, .inl (d1, 8, .inl (iA (fun _ => 0)))), (h2, .inr (1, [.ref h4, .int (nI (0))])), (h3, .inl (d3, 8, .inr (.inl (lA (fun _ => 0))))), (h4, .inl (d4, 10, .inr (.inl (lA (fun _ => 0))))), (k0, .inr (2, [.null, .int (nI (0)), .null, .null]))] := hD
  refine W.widen (k := 6) (n := 36) (by decide) (by decide) ?_
  refine lv_dup hx hb dL_law_11 rfl ?_
  have hPc := hP.sub (ws' := [(k0, .inr (2, [.null, .int (nI (0)), .null, .null]))]) [5] rfl
  have hDc := hD.sub (ws' := [(k0, .inr (2, [.null, .int (nI (0)), .null, .null]))]) [5] (by decide) rfl
  have hKc := hK.sub (tys' := []) [] rfl
  have hFc := va_free (wc := [(k0, .inr (2, [.null, .int (nI (0)), .null, .null]))]) hD hS hA [5] rfl
  refine va_callv (va_runI (As := []) (rest := [.ref k0]) ⟨hx, hb, hml, hown, hts⟩ (metX2_init l dC dI k0 H.size) (cwI 0 hts (lw_meth q87) rfl rfl rfl (hts _ q5) (hts _ q85) (hts _ q86) rfl (by decide +kernel) ⟨Nat.le_of_ble_eq_true rfl, Nat.le_of_ble_eq_true rfl⟩) ⟨fun a U g mk q => by obtain ⟨q0, q1, qP, qK, qD⟩ := q; exact ⟨q0, q1, qP, va_K.moved (u := U) (U := U.calling g mk a) (Vm.Alike.refl U.vm) qK, qD⟩, fun U hU hW => ⟨rfl, by rw [hU], by rw [hU]; exact hPc, va_K.moved hW.alike hKc, hDc.weaken (fun _ _ _ _ => trivial)⟩⟩ rfl rfl hl.1 rfl (lv_room (Nat.le_of_ble_eq_true rfl)) dL_law_12 ⟨Nat.le_of_ble_eq_true rfl, Nat.le_of_ble_eq_true rfl⟩) hS (fun q _ h => hFc q h) hFc (fun u1 t H1 locs ht hvm hw1 hB1 hz1 hk1 hS => ?_)
  obtain ⟨⟨k1, k2, k3⟩, ⟨e1, e2, e3⟩⟩ := u1
  obtain ⟨hP1, hK1, hD1⟩ := hB1
  rw [ht] at hP1
  have hK1 := va_K.moved hvm.symm hK1
  obtain ⟨hP, hD⟩ := va_join (wr := [(h0, .inr (0, [.ref h1, .ref h2, .ref h3, .int (nI (0))])), (h1, .inl (d1, 8, .inl (iA (fun _ => 0)))), (h2, .inr (1, [.ref h4, .int (nI (0))])), (h3, .inl (d3, 8, .inr (.inl (lA (fun _ => 0))))), (h4, .inl (d4, 10, .inr (.inl (lA (fun _ => 0)))))]) (w1 := [(k0, .inr (2, [.ref k1, .int (nI (0)), .ref k2, .ref k3])), (k1, .inl (e1, 10, .inl (iA (fun _ => 0)))), (k2, .inl (e2, 1024, .inr (.inl (lA (fun _ => 0))))), (k3, .inl (e3, 110, .inr (.inl (lA (fun _ => 0)))))]) hP hD [5] [0, 1, 2, 3, 4] rfl rfl (by decide) (by decide) hk1 hFc hP1 hD1
  have hK := hK.app hK1
  generalize H1 = H at hP hS ⊢
  have hK : va_K (dC, dI) vwCl [(d1, .int), (d3, .long), (d4, .long), (e1, .int), (e2, .long), (e3, .long)] s := hK
  have hP : va_P (dC, dI) vwCl [(h0, .inr (0, [.ref h1, .ref h2, .ref h3, .int (nI (0))])), (h1, .inl (d1, 8, .inl (iA (fun _ => 0)))), (h2, .inr (1, [.ref h4, .int (nI (0))])), (h3, .inl (d3, 8, .inr (.inl (lA (fun _ => 0))))), (h4, .inl (d4, 10, .inr (.inl (lA (fun _ => 0))))), (k0, .inr (2, [.ref k1, .int (nI (0)), .ref k2, .ref k3])), (k1, .inl (e1, 10, .inl (iA (fun _ => 0)))), (k2, .inl (e2, 1024, .inr (.inl (lA (fun _ => 0))))), (k3, .inl (e3, 110, .inr (.inl (lA (fun _ => 0)))))] H := hP
  have hD : va_D A [(h0, .inr (0, [.ref h1, .ref h2, .ref h3, .int (nI (0))])), (h1, .inl (d1, 8, .inl (iA (fun _ => 0)))), (h2, .inr (1, [.ref h4, .int (nI (0))])), (h3, .inl (d3, 8, .inr (.inl (lA (fun _ => 0))))), (h4, .inl (d4, 10, .inr (.inl (lA (fun _ => 0))))), (k0, .inr (2, [.ref k1, .int (nI (0)), .ref k2, .ref k3])), (k1, .inl (e1, 10, .inl (iA (fun _ => 0)))), (k2, .inl (e2, 1024, .inr (.inl (lA (fun _ => 0))))), (k3, .inl (e3, 110, .inr (.inl (lA (fun _ => 0)))))] := hD
  refine W.widen (k := 9) (n := 1180) (by decide) (by decide) ?_
  refine lv_astore_n (lv' := [(2, .ref k0), (1, .ref h0), (0, .ref b)]) hx hb dL_law_15 rfl hl (by decide) rfl (fun ls hl => ?_)
  refine lv_iconst (v := nI 0) hx hb dL_law_16 (by decide) ?_
  refine lv_istore_n (lv' := [(3, .int (nI (0))), (2, .ref k0), (1, .ref h0), (0, .ref b)]) hx hb dL_law_17 rfl hl (by decide) rfl (fun ls hl => ?_)
  exact law_loop hL C0 hA hbA hAA hK (L + 1) 0 0 0 0 (fun _ => 0) (fun _ => 0) (fun _ => 0) (fun _ => 0) (fun _ => 0) (fun _ => 0) (by omega) (by omega) (by omega) rfl (fun i hi => by omega) (fun i hi => by omega) _ _ ls hP hD hS (lv_sub hl [0, 1, 2, 3] rfl)
end
section
-- ===== YOUR PART ENDS =====
set_option maxHeartbeats 4000000 in
theorem lw_walk (l : Launch) (b : Addr) (xs : List Int32) : MetFree l x (headSpec (Jvm.Cond.code x code maxLocals ret :: tables_1) room_1) (lw_P b xs) (fun _ _ _ _ _ => True) lw_Q := by
  refine MetFree.of_bodyS (code := code) (maxLocals := maxLocals) (ret := ret) (by decide) ?_ ?_
  · intro args s m h hn
    obtain ⟨meth, c, h1, h2, h3, h4, h5, h6, -, -⟩ := Cond.code_spec hn (atoms_spec (ws := Jvm.Cond.code x code maxLocals ret :: tables_1) h _ List.mem_cons_self)
    exact ⟨meth, c, h1, h2, h3, h4, h5, h6⟩
  · intro p e s m args below meth c s₁ B hml0 hP _
    obtain ⟨rfl, hx, hbd, hgv⟩ := hP
    obtain ⟨scr, harrAt, hlist, hof, hsmall⟩ := hx
    obtain ⟨hcb, hkn, -, -⟩ := State.arrayAt?_spec harrAt
    have hown : s.vm.findClass R_law = some m.cls := findClass_of_methodNamed B.named
    have hts0 : ∀ c ∈ (Jvm.Cond.code x code maxLocals ret :: tables_1), c.before #[Value.ref b] s = true := atoms_spec (ws := Jvm.Cond.code x code maxLocals ret :: tables_1) B.pre
    have hts : ∀ w ∈ lw_tbl, w.before #[Value.ref b] s = true := k2_hts_sels lw_privs (fun w hw => hts0 w (List.mem_cons_of_mem _ hw)) lw_privs_ok
    have hml : c.maxLocals = 4 := B.maxLocals_eq (hts0 _ List.mem_cons_self)
    have X₀ : Stand p l e room_1 s m #[Value.ref b] below meth c s₁ [] 0 0 := Stand.of_body B
    have hh0 : s₁.heap = s.heap := by rw [B.state]; rfl
    have hsz : scr.slots.size = xs.length := by rw [← Array.length_toList, hlist, List.length_map]
    have hval : ∀ j : Nat, j < xs.length → scr.slots[j]? = some (.int (xs.getD j 0)) := fun j hj => by
      rw [← Array.getElem?_toList, hlist]
      simp [hj]
    have hbl : b < s.heap.size := (Array.getElem?_eq_some_iff.mp hcb).1
    have hX : va_X b xs.length (fun j => xs.getD j 0) s s.heap := ⟨scr, hcb, hof, hkn, hsz, hval⟩
    have K : W p l e room_1 s m #[Value.ref b] below meth c s₁.heap [] 0 0 (lw_Z below #[Value.ref b] s) (entryFrame m ([Value.ref b] : List Value).toArray 4) := by
      rw [hh0]
      exact whole_start l hbd ⟨B.exec, B.bytes, B.returns, hml, hown, hts, hX, hbl, B.notSynchronized, hgv⟩
    obtain ⟨t, a1, o, b1, b2, b3⟩ := K s₁ rfl X₀
    exact ⟨t, o, a1, b1, b2, b3⟩
theorem lw_pre_spec {args : Array Value} {s : State} (h : (Jvm.Cond.and given_1 narrow_1).before args s = true) (hr : rest_1_c.before args s = true) : ∃ (b : Addr) (xs : List Int32), lw_P b xs args s := by
  have hs := flat_of_before _ h
  have hq := flat_of_before _ hr
  have hc : (Cond.count 1).before args s = true := hs _ (by decide +kernel)
  have harr : (Cond.arrayOf (.arg 0) .int).before args s = true := hs _ (by decide +kernel)
  have hle : (Cond.le (.length (.arg 0)) (.int 128)).before args s = true := hs _ (by decide +kernel)
  have hlen : (Cond.isInt (.length (.arg 0))).before args s = true := hq _ (by decide +kernel)
  have hall : (Cond.all (.arg 0) (.isInt (.elem (.arg 0) (.index 0)))).before args s = true := hq _ (by decide +kernel)
  obtain ⟨b, xs, hb, hx⟩ := State.ints_of_pre rfl harr hlen hall
  have hsm : xs.length < 2 ^ 31 := hx.choose_spec.2.2.2
  have hev : (Term.length (.arg 0)).eval args s none [] s = some (.int xs.length.toInt32) := hx.length_eval hb
  have hv := Cond.le_ints hev (show (Term.int 128).eval args s none [] s = some (.int 128) from rfl)
  have hd : xs.length.toInt32 ≤ 128 := by
    simpa [Cond.before, Cond.holds, hv] using hle
  have hN : xs.length ≤ 128 := (Int32.ofNat_le_ofNat hsm (by decide)).mp (show Int32.ofNat xs.length ≤ Int32.ofNat 128 from hd)
  exact ⟨b, xs, Cond.one_arg hc (show args[0]? = some (.ref b) from hb), hx, hN, h⟩
theorem lw_comes (l : Launch) : Comes l x (Jvm.Cond.code x code maxLocals ret :: tables_1) room_1 (fun tb e args s => Calls_1 tb e args s ∧ rest_1 tb e args s ∧ Pre_1 tb e args s)
    (fun _ _ args s o t => lw_Q args s o t) := by
  intro p e ha hc hk s m args below hf hfit hheap happ hpre
  obtain ⟨b, xs, hP⟩ := lw_pre_spec hpre.2.2 hpre.2.1
  obtain ⟨k, o, h1, h2, h3, hQ⟩ := lw_walk l b xs p e ha hc hk s m args below hf ((Spec.applies_iff_loose hf).mp happ).1 hP trivial
  exact ⟨k, o, h1, h2, h3, hQ⟩
theorem lw_frame {s t : State} {o : Outcome} {args : Array Value} (h : Framed s o t [] 600000 7290000) :
    Framed s o t (fieldLocs frame_1_writes args s ++ arrayLocs frame_1_arrays args s ++ staticLocs frame_1_statics s) 600000 7290000 := h
theorem lw_limb (L : Cond) (hL : ∀ (args : Array Value) (s t : State), L.after args s (.returned (some (.int 1))) t = true) :
    ArmFor flags0 classFile x code maxLocals ret World_1 tables_1 room_1 Calls_1 rest_1 Pre_1
      (fun tb e a s o t => postC L tb e a s o t ∧ Framed s o t (fieldLocs frame_1_writes a s ++ arrayLocs frame_1_arrays a s ++ staticLocs frame_1_statics s) 600000 7290000) := by
  intro l _ _ _ p e ha hc hk s m args below hf hfit hheap happ hpre
  obtain ⟨k, o, h1, h2, h3, rfl, hF⟩ := lw_comes l p e ha hc hk s m args below hf hfit hheap happ hpre
  exact ⟨k, _, h1, h2, h3, hL args s _, lw_frame hF⟩
theorem i_vc : Claimed_1_1 ∧ Claimed_1_2 := ⟨lw_limb limb_1_1 (fun args s t => by simp [limb_1_1, Cond.after, Cond.holds, Cond.value]), lw_limb limb_1_2 (fun args s t => Cond.after_iff.mpr (by
  first | (rw [show limb_1_2 = Cond.eq .result (.int 1) from rfl, Cond.eq_ints (x := 1) (y := 1) rfl rfl]; simp; done) | (simp [limb_1_2, Cond.value, Term.eval]; done)))⟩
end
