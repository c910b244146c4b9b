section
/-- the first number rises, the second falls -/
def fw_lt (x y : Nat × Nat) : Prop := x.1 < y.1 ∧ y.2 < x.2
def fw_srt (R : List (Nat × Nat)) : Prop := R.Pairwise fw_lt
/-- some entry of the row is at most (p, q) -/
def fw_up (R : List (Nat × Nat)) (p q : Nat) : Prop := ∃ e, e ∈ R ∧ e.1 ≤ p ∧ e.2 ≤ q
def fw_sw (e : Nat × Nat) : Nat × Nat := (e.2, e.1)
theorem fw_cons {e : Nat × Nat} {t : List (Nat × Nat)} : fw_srt (e :: t) ↔ (∀ x, x ∈ t → fw_lt e x) ∧ fw_srt t := List.pairwise_cons
theorem fw_ext : ∀ (R R' : List (Nat × Nat)), fw_srt R → fw_srt R' → (∀ e, e ∈ R ↔ e ∈ R') → R = R'
  | [], [], _, _, _ => rfl
  | [], e :: t, _, _, h => absurd ((h e).mpr List.mem_cons_self) List.not_mem_nil
  | e :: t, [], _, _, h => absurd ((h e).mp List.mem_cons_self) List.not_mem_nil
  | e :: t, e' :: t', h1, h2, h => by
    have a1 := fw_cons.mp h1
    have a2 := fw_cons.mp h2
    have E : e = e' := by
      rcases List.mem_cons.mp ((h e).mp List.mem_cons_self) with z | z
      · exact z
      · rcases List.mem_cons.mp ((h e').mpr List.mem_cons_self) with y | y
        · exact y.symm
        · have b1 := (a1.1 e' y).1
          have b2 := (a2.1 e z).1
          omega
    subst E
    have T : t = t' := by
      refine fw_ext t t' a1.2 a2.2 (fun x => ⟨fun hx => ?_, fun hx => ?_⟩)
      · rcases List.mem_cons.mp ((h x).mp (List.mem_cons_of_mem _ hx)) with z | z
        · have b1 := (a1.1 x hx).1
          rw [z] at b1
          omega
        · exact z
      · rcases List.mem_cons.mp ((h x).mpr (List.mem_cons_of_mem _ hx)) with z | z
        · have b1 := (a2.1 x hx).1
          rw [z] at b1
          omega
        · exact z
    rw [T]
theorem fw_len : ∀ (R : List (Nat × Nat)) (a n : Nat), fw_srt R → (∀ e, e ∈ R → a ≤ e.1 ∧ e.1 < n) → R.length ≤ n - a
  | [], _, _, _, _ => Nat.zero_le _
  | e :: t, a, n, h, hb => by
    have a1 := fw_cons.mp h
    have b1 := hb e List.mem_cons_self
    have c1 := fw_len t (e.1 + 1) n a1.2 (fun x hx => ⟨(a1.1 x hx).1, (hb x (List.mem_cons_of_mem _ hx)).2⟩)
    simp only [List.length_cons]
    omega
theorem fw_anti : ∀ (R : List (Nat × Nat)) (x y : Nat × Nat), fw_srt R → x ∈ R → y ∈ R → x.1 ≤ y.1 → x.2 ≤ y.2 → x = y
  | [], _, _, _, hx, _, _, _ => absurd hx List.not_mem_nil
  | e :: t, x, y, h, hx, hy, h1, h2 => by
    have a1 := fw_cons.mp h
    rcases List.mem_cons.mp hx with z | z
    · rcases List.mem_cons.mp hy with w | w
      · rw [z, w]
      · have b := (a1.1 y w).2
        rw [← z] at b
        omega
    · rcases List.mem_cons.mp hy with w | w
      · have b := (a1.1 x z).1
        rw [← w] at b
        omega
      · exact fw_anti t x y a1.2 z w h1 h2
theorem fw_nodup {R : List (Nat × Nat)} (h : fw_srt R) : R.Nodup :=
  List.Pairwise.imp (fun {a b} (hab : fw_lt a b) (e : a = b) => by
    have := hab.1
    rw [e] at this
    omega) h
theorem fw_up_mono {R : List (Nat × Nat)} {p q p' q' : Nat} (h : fw_up R p q) (hp : p ≤ p') (hq : q ≤ q') : fw_up R p' q' := by
  obtain ⟨e, he, h1, h2⟩ := h
  exact ⟨e, he, by omega, by omega⟩
theorem fw_up_mem {R : List (Nat × Nat)} {e : Nat × Nat} (h : e ∈ R) : fw_up R e.1 e.2 := ⟨e, h, Nat.le_refl _, Nat.le_refl _⟩
/-- the mirror of a sorted row -/
def fw_mir (R : List (Nat × Nat)) : List (Nat × Nat) := (R.map fw_sw).reverse
theorem fw_mir_mem {R : List (Nat × Nat)} {e : Nat × Nat} : e ∈ fw_mir R ↔ fw_sw e ∈ R := by
  unfold fw_mir
  rw [List.mem_reverse, List.mem_map]
  constructor
  · rintro ⟨a, ha, rfl⟩
    exact ha
  · intro h
    exact ⟨fw_sw e, h, rfl⟩
theorem fw_mir_len (R : List (Nat × Nat)) : (fw_mir R).length = R.length := by
  unfold fw_mir
  rw [List.length_reverse, List.length_map]
theorem fw_mir_srt {R : List (Nat × Nat)} (h : fw_srt R) : fw_srt (fw_mir R) := by
  unfold fw_srt fw_mir
  rw [List.pairwise_reverse, List.pairwise_map]
  exact List.Pairwise.imp (fun {a b} (hab : fw_lt a b) => ⟨hab.2, hab.1⟩) h
/-- two sorted rows whose upper sets mirror each other mirror each other -/
theorem fw_mir_of {R R' : List (Nat × Nat)} (h : fw_srt R) (h' : fw_srt R') (hu : ∀ p q, fw_up R p q ↔ fw_up R' q p) : R' = fw_mir R := by
  refine fw_ext _ _ h' (fw_mir_srt h) (fun e => ?_)
  rw [fw_mir_mem]
  constructor
  · intro he
    obtain ⟨d, hd, d1, d2⟩ := (hu e.2 e.1).mpr (fw_up_mem he)
    obtain ⟨c, hc, c1, c2⟩ := (hu d.1 d.2).mp (fw_up_mem hd)
    have E : c = e := fw_anti R' c e h' hc he (by omega) (by omega)
    subst E
    have D : d = fw_sw c := by
      unfold fw_sw
      exact Prod.ext (by show d.1 = c.2; omega) (by show d.2 = c.1; omega)
    rw [← D]
    exact hd
  · intro he
    obtain ⟨d, hd, d1, d2⟩ := (hu e.2 e.1).mp (fw_up_mem he)
    obtain ⟨c, hc, c1, c2⟩ := (hu d.2 d.1).mpr (fw_up_mem hd)
    have E : c = fw_sw e := fw_anti R c (fw_sw e) h hc he (by show c.1 ≤ e.2; omega) (by show c.2 ≤ e.1; omega)
    have e1 : c.1 = e.2 := by rw [E]; rfl
    have e2 : c.2 = e.1 := by rw [E]; rfl
    have D : d = e := Prod.ext (by omega) (by omega)
    rw [← D]
    exact hd
/-- addSum over a row: none when an entry is at most s -/
def fw_go (s : Nat × Nat) : Bool → List (Nat × Nat) → Option (List (Nat × Nat))
  | pl, [] => some (if pl = true then [] else [s])
  | pl, e :: t => if e.1 ≤ s.1 ∧ e.2 ≤ s.2 then none else
      (fw_go s (pl || decide (s.1 < e.1)) t).map (fun r => (if s.1 < e.1 ∧ pl = false then [s] else []) ++ ((if s.1 ≤ e.1 ∧ s.2 ≤ e.2 then [] else [e]) ++ r))
theorem fw_go_none (s : Nat × Nat) : ∀ (R : List (Nat × Nat)) (pl : Bool), fw_go s pl R = none ↔ fw_up R s.1 s.2
  | [], pl => by
    unfold fw_go
    exact ⟨(fun z => nomatch z), fun ⟨e, he, _⟩ => absurd he List.not_mem_nil⟩
  | e :: t, pl => by
    unfold fw_go
    by_cases c : e.1 ≤ s.1 ∧ e.2 ≤ s.2
    · rw [if_pos c]
      exact ⟨fun _ => ⟨e, List.mem_cons_self, c⟩, fun _ => rfl⟩
    · rw [if_neg c, Option.map_eq_none_iff, fw_go_none s t]
      constructor
      · rintro ⟨x, hx, h⟩
        exact ⟨x, List.mem_cons_of_mem _ hx, h⟩
      · rintro ⟨x, hx, h⟩
        rcases List.mem_cons.mp hx with z | z
        · rw [z] at h
          exact absurd h c
        · exact ⟨x, z, h⟩
theorem fw_go_mem (s : Nat × Nat) : ∀ (R : List (Nat × Nat)) (pl : Bool) (l : List (Nat × Nat)), fw_go s pl R = some l → ∀ e, e ∈ l ↔ (pl = false ∧ e = s) ∨ (e ∈ R ∧ ¬ (s.1 ≤ e.1 ∧ s.2 ≤ e.2))
  | [], pl, l, h, x => by
    unfold fw_go at h
    have h := Option.some.inj h
    rw [← h]
    cases pl <;> simp
  | e :: t, pl, l, h, x => by
    unfold fw_go at h
    by_cases c : e.1 ≤ s.1 ∧ e.2 ≤ s.2
    · rw [if_pos c] at h
      exact nomatch h
    · rw [if_neg c] at h
      obtain ⟨r, hr, hl⟩ := Option.map_eq_some_iff.mp h
      have ih := fw_go_mem s t _ r hr x
      rw [← hl, List.mem_append, List.mem_append, ih, List.mem_cons]
      by_cases c1 : s.1 < e.1 <;> by_cases c2 : s.1 ≤ e.1 ∧ s.2 ≤ e.2 <;> cases pl
      all_goals simp only [c1, c2, if_true, if_false, and_self, and_true, true_and, Bool.false_or, Bool.true_or, Bool.or_true, Bool.or_false, decide_true, decide_false, List.mem_singleton, List.not_mem_nil, false_or, or_false, reduceCtorEq, false_and, and_false]
      all_goals grind
theorem fw_go_srt (s : Nat × Nat) : ∀ (R : List (Nat × Nat)) (pl : Bool) (l : List (Nat × Nat)), fw_srt R → fw_go s pl R = some l → fw_srt l
  | [], pl, l, _, h => by
    unfold fw_go at h
    have h := Option.some.inj h
    rw [← h]
    cases pl
    · exact List.pairwise_singleton _ _
    · exact List.Pairwise.nil
  | e :: t, pl, l, hR, h => by
    have a1 := fw_cons.mp hR
    unfold fw_go at h
    by_cases c : e.1 ≤ s.1 ∧ e.2 ≤ s.2
    · rw [if_pos c] at h
      exact nomatch h
    · rw [if_neg c] at h
      obtain ⟨r, hr, hl⟩ := Option.map_eq_some_iff.mp h
      have ih := fw_go_srt s t _ r a1.2 hr
      have im := fw_go_mem s t _ r hr
      rw [← hl]
      by_cases c1 : s.1 < e.1
      · have d1 : decide (s.1 < e.1) = true := decide_eq_true c1
        rw [d1, Bool.or_true] at im
        have im' : ∀ x, x ∈ r → x ∈ t ∧ ¬ (s.1 ≤ x.1 ∧ s.2 ≤ x.2) := by
          intro x hx
          rcases (im x).mp hx with z | z
          · exact nomatch z.1
          · exact z
        have tl : fw_srt ((if s.1 ≤ e.1 ∧ s.2 ≤ e.2 then [] else [e]) ++ r) := by
          by_cases c2 : s.1 ≤ e.1 ∧ s.2 ≤ e.2
          · rw [if_pos c2]
            exact ih
          · rw [if_neg c2]
            exact fw_cons.mpr ⟨fun x hx => a1.1 x (im' x hx).1, ih⟩
        by_cases c3 : pl = false
        · rw [if_pos ⟨c1, c3⟩]
          show fw_srt (s :: ((if s.1 ≤ e.1 ∧ s.2 ≤ e.2 then [] else [e]) ++ r))
          refine fw_cons.mpr ⟨fun x hx => ?_, tl⟩
          rcases List.mem_append.mp hx with z | z
          · by_cases c2 : s.1 ≤ e.1 ∧ s.2 ≤ e.2
            · rw [if_pos c2] at z
              exact absurd z List.not_mem_nil
            · rw [if_neg c2] at z
              have z' := List.mem_singleton.mp z
              rw [z']
              exact ⟨c1, by omega⟩
          · have b1 := im' x z
            have b2 := a1.1 x b1.1
            exact ⟨by have := b2.1; omega, by have := b2.1; have := b1.2; omega⟩
        · rw [if_neg (fun z => c3 z.2)]
          exact tl
      · have d1 : decide (s.1 < e.1) = false := decide_eq_false c1
        rw [d1, Bool.or_false] at im
        rw [if_neg (fun z => c1 z.1)]
        by_cases c2 : s.1 ≤ e.1 ∧ s.2 ≤ e.2
        · rw [if_pos c2]
          exact ih
        · rw [if_neg c2]
          refine fw_cons.mpr ⟨fun x hx => ?_, ih⟩
          rcases (im x).mp hx with z | z
          · rw [z.2]
            exact ⟨by omega, by omega⟩
          · exact a1.1 x z.1
/-- addSum's outcome for the row -/
def fw_ad (s : Nat × Nat) (R : List (Nat × Nat)) : List (Nat × Nat) := (fw_go s false R).getD R
theorem fw_ad_srt {s : Nat × Nat} {R : List (Nat × Nat)} (h : fw_srt R) : fw_srt (fw_ad s R) := by
  unfold fw_ad
  cases e : fw_go s false R with
  | none => exact h
  | some l => exact fw_go_srt s R false l h e
theorem fw_ad_mem {s : Nat × Nat} {R : List (Nat × Nat)} {x : Nat × Nat} (h : x ∈ fw_ad s R) : x ∈ R ∨ (x = s ∧ ¬ fw_up R s.1 s.2) := by
  unfold fw_ad at h
  cases e : fw_go s false R with
  | none =>
    rw [e] at h
    exact Or.inl h
  | some l =>
    rw [e] at h
    rcases (fw_go_mem s R false l e x).mp h with z | z
    · refine Or.inr ⟨z.2, fun u => ?_⟩
      rw [(fw_go_none s R false).mpr u] at e
      exact nomatch e
    · exact Or.inl z.1
theorem fw_ad_up {s : Nat × Nat} {R : List (Nat × Nat)} {p q : Nat} : fw_up (fw_ad s R) p q ↔ fw_up R p q ∨ (s.1 ≤ p ∧ s.2 ≤ q) := by
  unfold fw_ad
  cases e : fw_go s false R with
  | none =>
    have hu := (fw_go_none s R false).mp e
    refine ⟨fun h => Or.inl h, fun h => ?_⟩
    rcases h with h | h
    · exact h
    · exact fw_up_mono hu h.1 h.2
  | some l =>
    have hm := fw_go_mem s R false l e
    have hs : s ∈ l := (hm s).mpr (Or.inl ⟨rfl, rfl⟩)
    constructor
    · rintro ⟨x, hx, h1, h2⟩
      rcases (hm x).mp hx with z | z
      · rw [z.2] at h1 h2
        exact Or.inr ⟨h1, h2⟩
      · exact Or.inl ⟨x, z.1, h1, h2⟩
    · rintro (⟨x, hx, h1, h2⟩ | h)
      · by_cases c : s.1 ≤ x.1 ∧ s.2 ≤ x.2
        · exact ⟨s, hs, by omega, by omega⟩
        · exact ⟨x, (hm x).mpr (Or.inr ⟨hx, c⟩), h1, h2⟩
      · exact ⟨s, hs, h.1, h.2⟩
end
section
/-- line number k < n leads from F k to T k and adds (A k, B k) -/
def fw_E (n : Nat) (F T A B : Nat → Nat) (l m p q : Nat) : Prop := ∃ k, k < n ∧ F k = l ∧ T k = m ∧ A k = p ∧ B k = q
/-- a way from l to m with the inner places xs and the sum (p, q) -/
def fw_pa (E : Nat → Nat → Nat → Nat → Prop) : List Nat → Nat → Nat → Nat → Nat → Prop
  | [], l, m, p, q => E l m p q
  | x :: xs, l, m, p, q => ∃ p1 q1 p2 q2, E l x p1 q1 ∧ fw_pa E xs x m p2 q2 ∧ p = p1 + p2 ∧ q = q1 + q2
theorem fw_pa_app {E : Nat → Nat → Nat → Nat → Prop} : ∀ (xs ys : List Nat) (l x m p q p' q' : Nat), fw_pa E xs l x p q → fw_pa E ys x m p' q' → fw_pa E (xs ++ x :: ys) l m (p + p') (q + q')
  | [], ys, l, x, m, p, q, p', q', h1, h2 => ⟨p, q, p', q', h1, h2, rfl, rfl⟩
  | z :: zs, ys, l, x, m, p, q, p', q', h1, h2 => by
    obtain ⟨p1, q1, p2, q2, e1, e2, e3, e4⟩ := h1
    exact ⟨p1, q1, p2 + p', q2 + q', e1, fw_pa_app zs ys z x m p2 q2 p' q' e2 h2, by omega, by omega⟩
theorem fw_pa_split {E : Nat → Nat → Nat → Nat → Prop} : ∀ (xs ys : List Nat) (l x m p q : Nat), fw_pa E (xs ++ x :: ys) l m p q → ∃ p1 q1 p2 q2, fw_pa E xs l x p1 q1 ∧ fw_pa E ys x m p2 q2 ∧ p = p1 + p2 ∧ q = q1 + q2
  | [], ys, l, x, m, p, q, h => h
  | z :: zs, ys, l, x, m, p, q, h => by
    obtain ⟨p1, q1, p2, q2, e1, e2, e3, e4⟩ := h
    obtain ⟨p3, q3, p4, q4, f1, f2, f3, f4⟩ := fw_pa_split zs ys z x m p2 q2 e2
    exact ⟨p1 + p3, q1 + q3, p4, q4, ⟨p1, q1, p3, q3, e1, f1, rfl, rfl⟩, f2, by omega, by omega⟩
theorem fw_pa_le {E : Nat → Nat → Nat → Nat → Prop} (hE : ∀ l m p q, E l m p q → l ≤ 6 ∧ m ≤ 6 ∧ p ≤ 3 ∧ q ≤ 3) : ∀ (xs : List Nat) (l m p q : Nat), fw_pa E xs l m p q → p ≤ 3 * (xs.length + 1) ∧ q ≤ 3 * (xs.length + 1)
  | [], l, m, p, q, h => by
    have := hE l m p q h
    exact ⟨by simp only [List.length_nil]; omega, by simp only [List.length_nil]; omega⟩
  | x :: xs, l, m, p, q, h => by
    obtain ⟨p1, q1, p2, q2, e1, e2, e3, e4⟩ := h
    have a := hE l x p1 q1 e1
    have b := fw_pa_le hE xs x m p2 q2 e2
    simp only [List.length_cons]
    exact ⟨by omega, by omega⟩
theorem fw_pa_mono {E E' : Nat → Nat → Nat → Nat → Prop} (hE : ∀ l m p q, E l m p q → E' l m p q) : ∀ (xs : List Nat) (l m p q : Nat), fw_pa E xs l m p q → fw_pa E' xs l m p q
  | [], l, m, p, q, h => hE l m p q h
  | x :: xs, l, m, p, q, h => by
    obtain ⟨p1, q1, p2, q2, e1, e2, e3, e4⟩ := h
    exact ⟨p1, q1, p2, q2, hE _ _ _ _ e1, fw_pa_mono hE xs x m p2 q2 e2, e3, e4⟩
/-- e is the sum of a way from l to m that visits no place twice, its inner places below k -/
def fw_sm (E : Nat → Nat → Nat → Nat → Prop) (k l m : Nat) (e : Nat × Nat) : Prop := ∃ xs : List Nat, (∀ x, x ∈ xs → x < k) ∧ (l :: (xs ++ [m])).Nodup ∧ fw_pa E xs l m e.1 e.2
theorem fw_sm_le {E : Nat → Nat → Nat → Nat → Prop} (hE : ∀ l m p q, E l m p q → l ≤ 6 ∧ m ≤ 6 ∧ p ≤ 3 ∧ q ≤ 3) {k l m : Nat} {e : Nat × Nat} (hk : k ≤ 7) (hl : l ≤ 6) (hm : m ≤ 6) (h : fw_sm E k l m e) : e.1 ≤ 18 ∧ e.2 ≤ 18 := by
  obtain ⟨xs, h1, h2, h3⟩ := h
  have a := fw_pa_le hE xs l m e.1 e.2 h3
  have b := List.Nodup.length_le_of_subset (l₂ := List.range 7) h2 (by
    intro x hx
    rw [List.mem_range]
    rcases List.mem_cons.mp hx with z | z
    · omega
    · rcases List.mem_append.mp z with y | y
      · have := h1 x y
        omega
      · have := List.mem_singleton.mp y
        omega)
  simp only [List.length_cons, List.length_append, List.length_range, List.length_nil] at b
  exact ⟨by omega, by omega⟩
/-- a relation that holds what ways make -/
def fw_cl (E G : Nat → Nat → Nat → Nat → Prop) : Prop := (∀ l p q, G l l p q) ∧ (∀ l m p q, E l m p q → G l m p q) ∧ (∀ l m p q p' q', G l m p q → p ≤ p' → q ≤ q' → G l m p' q') ∧ (∀ l x m p q p' q', l ≤ 6 → x ≤ 6 → m ≤ 6 → G l x p q → G x m p' q' → G l m (p + p') (q + q'))
/-- the least one -/
def fw_W (E : Nat → Nat → Nat → Nat → Prop) (l m p q : Nat) : Prop := ∀ G, fw_cl E G → G l m p q
theorem fw_pa_W {E : Nat → Nat → Nat → Nat → Prop} {G : Nat → Nat → Nat → Nat → Prop} (hG : fw_cl E G) : ∀ (xs : List Nat) (l m p q : Nat), l ≤ 6 → m ≤ 6 → (∀ x, x ∈ xs → x ≤ 6) → fw_pa E xs l m p q → G l m p q
  | [], l, m, p, q, _, _, _, h => hG.2.1 l m p q h
  | x :: xs, l, m, p, q, hl, hm, hx, h => by
    obtain ⟨p1, q1, p2, q2, e1, e2, e3, e4⟩ := h
    rw [e3, e4]
    exact hG.2.2.2 l x m p1 q1 p2 q2 hl (hx x List.mem_cons_self) hm (hG.2.1 _ _ _ _ e1) (fw_pa_W hG xs x m p2 q2 (hx x List.mem_cons_self) hm (fun y hy => hx y (List.mem_cons_of_mem _ hy)) e2)
theorem fw_W_mir {E E' : Nat → Nat → Nat → Nat → Prop} (hE : ∀ l m p q, E l m p q → E' (6 - l) (6 - m) q p) {l m p q : Nat} (h : fw_W E l m p q) : fw_W E' (6 - l) (6 - m) q p := by
  intro G hG
  refine h (fun l m p q => G (6 - l) (6 - m) q p) ⟨fun l p q => hG.1 _ _ _, fun l m p q e => hG.2.1 _ _ _ _ (hE l m p q e), fun l m p q p' q' g hp hq => hG.2.2.1 _ _ _ _ _ _ g hq hp, fun l x m p q p' q' hl hx hm g g' => hG.2.2.2 _ _ _ _ _ _ _ (by omega) (by omega) (by omega) g g'⟩
/-- the rows ahead of the phase k -/
def fw_I (E : Nat → Nat → Nat → Nat → Prop) (k : Nat) (R : Nat → List (Nat × Nat)) : Prop :=
  (∀ r, r < 49 → fw_srt (R r)) ∧ (∀ l, l ≤ 6 → R (7 * l + l) = [(0, 0)]) ∧ (∀ l m p q, l ≤ 6 → m ≤ 6 → E l m p q → fw_up (R (7 * l + m)) p q) ∧
  (∀ l x m p q p' q', l ≤ 6 → x ≤ 6 → m ≤ 6 → x < k → fw_up (R (7 * l + x)) p q → fw_up (R (7 * x + m)) p' q' → fw_up (R (7 * l + m)) (p + p') (q + q')) ∧
  (∀ l m e, l ≤ 6 → m ≤ 6 → l ≠ m → e ∈ R (7 * l + m) → fw_sm E k l m e)
theorem fw_pa_up {E : Nat → Nat → Nat → Nat → Prop} {k : Nat} {R : Nat → List (Nat × Nat)} (hI : fw_I E k R) (hk : k ≤ 7) : ∀ (xs : List Nat) (l m p q : Nat), l ≤ 6 → m ≤ 6 → (∀ x, x ∈ xs → x < k) → fw_pa E xs l m p q → fw_up (R (7 * l + m)) p q
  | [], l, m, p, q, hl, hm, _, h => hI.2.2.1 l m p q hl hm h
  | x :: xs, l, m, p, q, hl, hm, hx, h => by
    obtain ⟨p1, q1, p2, q2, e1, e2, e3, e4⟩ := h
    have x1 := hx x List.mem_cons_self
    rw [e3, e4]
    exact hI.2.2.2.1 l x m p1 q1 p2 q2 hl (by omega) hm x1 (hI.2.2.1 l x p1 q1 hl (by omega) e1) (fw_pa_up hI hk xs x m p2 q2 (by omega) hm (fun y hy => hx y (List.mem_cons_of_mem _ hy)) e2)
/-- a joined sum that nothing of the row is at most comes of a way without repeats -/
theorem fw_join_sm {E : Nat → Nat → Nat → Nat → Prop} {k l m : Nat} {R : Nat → List (Nat × Nat)} {e1 e2 : Nat × Nat} (hI : fw_I E k R) (hk : k ≤ 6) (hl : l ≤ 6) (hm : m ≤ 6) (lk : l ≠ k) (mk : m ≠ k) (lm : l ≠ m)
    (h1 : e1 ∈ R (7 * l + k)) (h2 : e2 ∈ R (7 * k + m)) (hn : ¬ fw_up (R (7 * l + m)) (e1.1 + e2.1) (e1.2 + e2.2)) : fw_sm E (k + 1) l m (e1.1 + e2.1, e1.2 + e2.2) := by
  obtain ⟨xs, x1, x2, x3⟩ := hI.2.2.2.2 l k e1 hl hk lk h1
  obtain ⟨ys, y1, y2, y3⟩ := hI.2.2.2.2 k m e2 hk hm (fun z => mk z.symm) h2
  have nx := List.nodup_cons.mp x2
  have ny := List.nodup_cons.mp y2
  have nx2 := List.nodup_append.mp nx.2
  have ny2 := List.nodup_append.mp ny.2
  have l_ys : l ∉ ys := by
    intro hy
    obtain ⟨u, v, e⟩ := List.append_of_mem hy
    rw [e] at y3
    obtain ⟨p1, q1, p2, q2, _, f2, f3, f4⟩ := fw_pa_split u v k l m _ _ y3
    have g := fw_pa_up hI (by omega) v l m p2 q2 hl hm (fun x hx => y1 x (by rw [e]; exact List.mem_append_right _ (List.mem_cons_of_mem _ hx))) f2
    exact hn (fw_up_mono g (by omega) (by omega))
  have m_xs : m ∉ xs := by
    intro hx
    obtain ⟨u, v, e⟩ := List.append_of_mem hx
    rw [e] at x3
    obtain ⟨p1, q1, p2, q2, f1, _, f3, f4⟩ := fw_pa_split u v l m k _ _ x3
    have g := fw_pa_up hI (by omega) u l m p1 q1 hl hm (fun x hx => x1 x (by rw [e]; exact List.mem_append_left _ hx)) f1
    exact hn (fw_up_mono g (by omega) (by omega))
  have xy : ∀ x, x ∈ xs → x ∉ ys := by
    intro x hx hy
    obtain ⟨u, v, e⟩ := List.append_of_mem hx
    obtain ⟨u', v', e'⟩ := List.append_of_mem hy
    have xk := x1 x hx
    rw [e] at x3
    rw [e'] at y3
    obtain ⟨p1, q1, p2, q2, f1, _, f3, f4⟩ := fw_pa_split u v l x k _ _ x3
    obtain ⟨p3, q3, p4, q4, _, g2, g3, g4⟩ := fw_pa_split u' v' k x m _ _ y3
    have a := fw_pa_up hI (by omega) u l x p1 q1 hl (by omega) (fun z hz => x1 z (by rw [e]; exact List.mem_append_left _ hz)) f1
    have b := fw_pa_up hI (by omega) v' x m p4 q4 (by omega) hm (fun z hz => y1 z (by rw [e']; exact List.mem_append_right _ (List.mem_cons_of_mem _ hz))) g2
    exact hn (fw_up_mono (hI.2.2.2.1 l x m p1 q1 p4 q4 hl (by omega) hm xk a b) (by omega) (by omega))
  refine ⟨xs ++ k :: ys, fun x hx => ?_, ?_, fw_pa_app xs ys l k m _ _ _ _ x3 y3⟩
  · rcases List.mem_append.mp hx with z | z
    · have := x1 x z
      omega
    · rcases List.mem_cons.mp z with y | y
      · omega
      · have := y1 x y
        omega
  · rw [List.append_assoc]
    refine List.nodup_cons.mpr ⟨fun hz => ?_, List.nodup_append.mpr ⟨nx2.1, y2, fun a ha b hb e => ?_⟩⟩
    · rcases List.mem_append.mp hz with z | z
      · exact nx.1 (List.mem_append_left _ z)
      · rcases List.mem_cons.mp z with y | y
        · exact lk y
        · rcases List.mem_append.mp y with w | w
          · exact l_ys w
          · exact lm (List.mem_singleton.mp w)
    · subst e
      rcases List.mem_cons.mp hb with y | y
      · exact nx2.2.2 a ha k (List.mem_singleton.mpr rfl) y
      · rcases List.mem_append.mp y with w | w
        · exact xy a ha w
        · rw [List.mem_singleton.mp w] at ha
          exact m_xs ha
theorem fw_sm_up {E : Nat → Nat → Nat → Nat → Prop} {k k' l m : Nat} {e : Nat × Nat} (h : fw_sm E k l m e) (hk : k ≤ k') : fw_sm E k' l m e := by
  obtain ⟨xs, h1, h2, h3⟩ := h
  exact ⟨xs, fun x hx => by have := h1 x hx; omega, h2, h3⟩
/-- what the row of l and m may hold while the phase k joins: S, over the rows R ahead of the phase -/
def fw_J (E : Nat → Nat → Nat → Nat → Prop) (k : Nat) (R : Nat → List (Nat × Nat)) (l m : Nat) (S : List (Nat × Nat)) : Prop :=
  fw_srt S ∧ (∀ p q, fw_up S p q → fw_up (R (7 * l + m)) p q ∨ ∃ p1 q1 p2 q2, fw_up (R (7 * l + k)) p1 q1 ∧ fw_up (R (7 * k + m)) p2 q2 ∧ p1 + p2 ≤ p ∧ q1 + q2 ≤ q) ∧
  (∀ p q, fw_up (R (7 * l + m)) p q → fw_up S p q) ∧ (l ≠ m → ∀ e, e ∈ S → fw_sm E (k + 1) l m e) ∧ (l = m → S = [(0, 0)])
/-- all is joined -/
def fw_D (k : Nat) (R : Nat → List (Nat × Nat)) (l m : Nat) (S : List (Nat × Nat)) : Prop := ∀ e1 e2, e1 ∈ R (7 * l + k) → e2 ∈ R (7 * k + m) → fw_up S (e1.1 + e2.1) (e1.2 + e2.2)
theorem fw_J_0 {E : Nat → Nat → Nat → Nat → Prop} {k l m : Nat} {R : Nat → List (Nat × Nat)} (hI : fw_I E k R) (hl : l ≤ 6) (hm : m ≤ 6) : fw_J E k R l m (R (7 * l + m)) :=
  ⟨hI.1 _ (by omega), fun p q h => Or.inl h, fun p q h => h, fun lm e he => fw_sm_up (hI.2.2.2.2 l m e hl hm lm he) (by omega), fun lm => by rw [← lm]; exact hI.2.1 l hl⟩
theorem fw_J_s {E : Nat → Nat → Nat → Nat → Prop} {k l m : Nat} {R : Nat → List (Nat × Nat)} {S : List (Nat × Nat)} {e1 e2 : Nat × Nat} (hI : fw_I E k R) (hk : k ≤ 6) (hl : l ≤ 6) (hm : m ≤ 6) (lk : l ≠ k) (mk : m ≠ k) (lm : l ≠ m)
    (h1 : e1 ∈ R (7 * l + k)) (h2 : e2 ∈ R (7 * k + m)) (h : fw_J E k R l m S) : fw_J E k R l m (fw_ad (e1.1 + e2.1, e1.2 + e2.2) S) := by
  refine ⟨fw_ad_srt h.1, fun p q hu => ?_, fun p q hu => fw_ad_up.mpr (Or.inl (h.2.2.1 p q hu)), fun _ e he => ?_, fun z => absurd z lm⟩
  · rcases fw_ad_up.mp hu with z | z
    · exact h.2.1 p q z
    · exact Or.inr ⟨e1.1, e1.2, e2.1, e2.2, fw_up_mem h1, fw_up_mem h2, z.1, z.2⟩
  · rcases fw_ad_mem he with z | z
    · exact h.2.2.2.1 lm e z
    · rw [z.1]
      exact fw_join_sm hI hk hl hm lk mk lm h1 h2 (fun g => z.2 (h.2.2.1 _ _ g))
/-- the rows that a phase leaves alone are joined already -/
theorem fw_D_skip {E : Nat → Nat → Nat → Nat → Prop} {k l m : Nat} {R : Nat → List (Nat × Nat)} (hI : fw_I E k R) (hk : k ≤ 6) (hl : l ≤ 6) (hm : m ≤ 6) (h : l = k ∨ m = k ∨ l = m) : fw_D k R l m (R (7 * l + m)) := by
  intro e1 e2 h1 h2
  rcases h with h | h | h
  · rw [h]
    exact fw_up_mono (fw_up_mem h2) (by omega) (by omega)
  · rw [h]
    exact fw_up_mono (fw_up_mem h1) (by omega) (by omega)
  · rw [← h, hI.2.1 l hl]
    exact ⟨(0, 0), List.mem_singleton.mpr rfl, Nat.zero_le _, Nat.zero_le _⟩
theorem fw_phase {E : Nat → Nat → Nat → Nat → Prop} {k : Nat} {R R' : Nat → List (Nat × Nat)} (hI : fw_I E k R) (hk : k ≤ 6) (hJ : ∀ l m, l ≤ 6 → m ≤ 6 → fw_J E k R l m (R' (7 * l + m)) ∧ fw_D k R l m (R' (7 * l + m))) : fw_I E (k + 1) R' := by
  have prod : ∀ l m p1 q1 p2 q2, l ≤ 6 → m ≤ 6 → fw_up (R (7 * l + k)) p1 q1 → fw_up (R (7 * k + m)) p2 q2 → fw_up (R' (7 * l + m)) (p1 + p2) (q1 + q2) := by
    intro l m p1 q1 p2 q2 hl hm h1 h2
    obtain ⟨d1, a1, a2, a3⟩ := h1
    obtain ⟨d2, b1, b2, b3⟩ := h2
    exact fw_up_mono ((hJ l m hl hm).2 d1 d2 a1 b1) (by omega) (by omega)
  have inc : ∀ l m p q, l ≤ 6 → m ≤ 6 → fw_up (R (7 * l + m)) p q → fw_up (R' (7 * l + m)) p q := fun l m p q hl hm h => (hJ l m hl hm).1.2.2.1 p q h
  have fixl : ∀ l p q, l ≤ 6 → fw_up (R' (7 * l + k)) p q → fw_up (R (7 * l + k)) p q := by
    intro l p q hl h
    rcases (hJ l k hl hk).1.2.1 p q h with z | ⟨p1, q1, p2, q2, z1, _, z3, z4⟩
    · exact z
    · exact fw_up_mono z1 (by omega) (by omega)
  have fixr : ∀ m p q, m ≤ 6 → fw_up (R' (7 * k + m)) p q → fw_up (R (7 * k + m)) p q := by
    intro m p q hm h
    rcases (hJ k m hk hm).1.2.1 p q h with z | ⟨p1, q1, p2, q2, _, z2, z3, z4⟩
    · exact z
    · exact fw_up_mono z2 (by omega) (by omega)
  refine ⟨fun r hr => ?_, fun l hl => (hJ l l hl hl).1.2.2.2.2 rfl, fun l m p q hl hm e => inc l m p q hl hm (hI.2.2.1 l m p q hl hm e), ?_, fun l m e hl hm lm he => (hJ l m hl hm).1.2.2.2.1 lm e he⟩
  · have := (hJ (r / 7) (r % 7) (by omega) (by omega)).1.1
    rw [show 7 * (r / 7) + r % 7 = r by omega] at this
    exact this
  · intro l x m p q p' q' hl hx hm hxk h1 h2
    by_cases e : x = k
    · rw [e] at h1 h2
      exact prod l m p q p' q' hl hm (fixl l p q hl h1) (fixr m p' q' hm h2)
    · have xk : x < k := by omega
      have tr := hI.2.2.2.1
      rcases (hJ l x hl hx).1.2.1 p q h1 with a | ⟨p1, q1, p2, q2, a1, a2, a3, a4⟩
      · rcases (hJ x m hx hm).1.2.1 p' q' h2 with b | ⟨p3, q3, p4, q4, b1, b2, b3, b4⟩
        · exact inc l m _ _ hl hm (tr l x m p q p' q' hl hx hm xk a b)
        · exact fw_up_mono (prod l m _ _ _ _ hl hm (tr l x k p q p3 q3 hl hx hk xk a b1) b2) (by omega) (by omega)
      · rcases (hJ x m hx hm).1.2.1 p' q' h2 with b | ⟨p3, q3, p4, q4, b1, b2, b3, b4⟩
        · exact fw_up_mono (prod l m _ _ _ _ hl hm a1 (tr k x m p2 q2 p' q' hk hx hm xk a2 b)) (by omega) (by omega)
        · exact fw_up_mono (prod l m _ _ _ _ hl hm a1 b2) (by omega) (by omega)
/-- sorted, bounded rows -/
def fw_ok (R : Nat → List (Nat × Nat)) : Prop := ∀ r, r < 49 → fw_srt (R r) ∧ ∀ e, e ∈ R r → e.1 ≤ 18 ∧ e.2 ≤ 18
/-- the rows at the end: the least sums of all ways -/
def fw_fin (E : Nat → Nat → Nat → Nat → Prop) (R : Nat → List (Nat × Nat)) : Prop := fw_ok R ∧ ∀ l m, l ≤ 6 → m ≤ 6 → ∀ p q, fw_up (R (7 * l + m)) p q ↔ fw_W E l m p q
theorem fw_ok_len {R : Nat → List (Nat × Nat)} (h : fw_ok R) {r : Nat} (hr : r < 49) : (R r).length ≤ 19 :=
  fw_len (R r) 0 19 (h r hr).1 (fun e he => ⟨Nat.zero_le _, by have := ((h r hr).2 e he).1; omega⟩)
theorem fw_sm_diag {E : Nat → Nat → Nat → Nat → Prop} (hE : ∀ l m p q, E l m p q → l ≤ 6 ∧ m ≤ 6 ∧ p ≤ 3 ∧ q ≤ 3) {k l m : Nat} {S : List (Nat × Nat)} (hk : k ≤ 7) (hl : l ≤ 6) (hm : m ≤ 6) (h1 : l ≠ m → ∀ e, e ∈ S → fw_sm E k l m e) (h2 : l = m → S = [(0, 0)]) : ∀ e, e ∈ S → e.1 ≤ 18 ∧ e.2 ≤ 18 := by
  intro e he
  by_cases lm : l = m
  · rw [h2 lm] at he
    rw [List.mem_singleton.mp he]
    exact ⟨Nat.zero_le _, Nat.zero_le _⟩
  · exact fw_sm_le hE hk hl hm (h1 lm e he)
theorem fw_I_ok {E : Nat → Nat → Nat → Nat → Prop} (hE : ∀ l m p q, E l m p q → l ≤ 6 ∧ m ≤ 6 ∧ p ≤ 3 ∧ q ≤ 3) {k : Nat} {R : Nat → List (Nat × Nat)} (hk : k ≤ 7) (hI : fw_I E k R) : fw_ok R := by
  intro r hr
  refine ⟨hI.1 r hr, ?_⟩
  have := fw_sm_diag hE (l := r / 7) (m := r % 7) (S := R (7 * (r / 7) + r % 7)) hk (by omega) (by omega) (fun lm e he => hI.2.2.2.2 _ _ e (by omega) (by omega) lm he) (fun lm => by rw [← lm]; exact hI.2.1 _ (by omega))
  rw [show 7 * (r / 7) + r % 7 = r by omega] at this
  exact this
theorem fw_I_fin {E : Nat → Nat → Nat → Nat → Prop} (hE : ∀ l m p q, E l m p q → l ≤ 6 ∧ m ≤ 6 ∧ p ≤ 3 ∧ q ≤ 3) {R : Nat → List (Nat × Nat)} (hI : fw_I E 7 R) : fw_fin E R := by
  refine ⟨fw_I_ok hE (by omega) hI, fun l m hl hm p q => ⟨fun h G hG => ?_, fun h => ?_⟩⟩
  · by_cases lm : l = m
    · rw [lm]
      exact hG.1 m p q
    · obtain ⟨e, he, h1, h2⟩ := h
      obtain ⟨xs, x1, _, x3⟩ := hI.2.2.2.2 l m e hl hm lm he
      exact hG.2.2.1 l m _ _ p q (fw_pa_W hG xs l m _ _ hl hm (fun x hx => by have := x1 x hx; omega) x3) h1 h2
  · have := h (fun l m p q => l ≤ 6 → m ≤ 6 → fw_up (R (7 * l + m)) p q) ⟨fun l p q hl _ => by
        show fw_up (R (7 * l + l)) p q
        rw [hI.2.1 l hl]
        exact ⟨(0, 0), List.mem_singleton.mpr rfl, Nat.zero_le _, Nat.zero_le _⟩, fun l m p q e hl hm => hI.2.2.1 l m p q hl hm e, fun l m p q p' q' g hp hq hl hm => fw_up_mono (g hl hm) hp hq, fun l x m p q p' q' hl hx hm g g' _ _ => hI.2.2.2.1 l x m p q p' q' hl hx hm (by omega) (g hl hx) (g' hx hm)⟩
    exact this hl hm
theorem fw_mirror {E E' : Nat → Nat → Nat → Nat → Prop} {R R' : Nat → List (Nat × Nat)} (hf : fw_fin E R) (hf' : fw_fin E' R') (h1 : ∀ l m p q, E l m p q → E' (6 - l) (6 - m) q p) (h2 : ∀ l m p q, E' l m p q → E (6 - l) (6 - m) q p) :
    ∀ r, r < 49 → R' (48 - r) = fw_mir (R r) := by
  intro r hr
  refine fw_mir_of (hf.1 r hr).1 (hf'.1 _ (by omega)).1 (fun p q => ?_)
  have a := hf.2 (r / 7) (r % 7) (by omega) (by omega) p q
  have b := hf'.2 (6 - r / 7) (6 - r % 7) (by omega) (by omega) q p
  rw [show 7 * (r / 7) + r % 7 = r by omega] at a
  rw [show 7 * (6 - r / 7) + (6 - r % 7) = 48 - r by omega] at b
  rw [a, b]
  constructor
  · exact fun h => fw_W_mir h1 h
  · intro h
    have := fw_W_mir h2 h
    rw [show 6 - (6 - r / 7) = r / 7 by omega, show 6 - (6 - r % 7) = r % 7 by omega] at this
    exact this
def fw_set (R : Nat → List (Nat × Nat)) (r : Nat) (S : List (Nat × Nat)) : Nat → List (Nat × Nat) := fun j => if j = r then S else R j
theorem fw_set_s {R : Nat → List (Nat × Nat)} {r : Nat} {S : List (Nat × Nat)} : fw_set R r S r = S := if_pos rfl
theorem fw_set_n {R : Nat → List (Nat × Nat)} {r j : Nat} {S : List (Nat × Nat)} (h : j ≠ r) : fw_set R r S j = R j := if_neg h
/-- the rows ahead of the lines -/
def fw_R0 : Nat → List (Nat × Nat) := fun r => if r % 8 = 0 then [(0, 0)] else []
theorem fw_I_0 (F T A B : Nat → Nat) : fw_I (fw_E 0 F T A B) 0 fw_R0 := by
  refine ⟨fun r hr => ?_, fun l hl => ?_, fun l m p q hl hm e => ?_, fun l x m p q p' q' _ _ _ hx => absurd hx (by omega), fun l m e hl hm lm he => ?_⟩
  · unfold fw_R0
    by_cases c : r % 8 = 0
    · rw [if_pos c]
      exact List.pairwise_singleton _ _
    · rw [if_neg c]
      exact List.Pairwise.nil
  · exact if_pos (by omega)
  · obtain ⟨k, hk, _⟩ := e
    exact absurd hk (by omega)
  · unfold fw_R0 at he
    rw [if_neg (by omega)] at he
    exact absurd he List.not_mem_nil
theorem fw_E_s {n : Nat} {F T A B : Nat → Nat} {l m p q : Nat} (h : fw_E n F T A B l m p q) : fw_E (n + 1) F T A B l m p q := by
  obtain ⟨k, hk, h⟩ := h
  exact ⟨k, by omega, h⟩
theorem fw_sm_E {E E' : Nat → Nat → Nat → Nat → Prop} (hE : ∀ l m p q, E l m p q → E' l m p q) {k l m : Nat} {e : Nat × Nat} (h : fw_sm E k l m e) : fw_sm E' k l m e := by
  obtain ⟨xs, h1, h2, h3⟩ := h
  exact ⟨xs, h1, h2, fw_pa_mono hE xs l m _ _ h3⟩
theorem fw_I_self {j : Nat} {F T A B : Nat → Nat} {R : Nat → List (Nat × Nat)} (hI : fw_I (fw_E j F T A B) 0 R) (h : F j = T j) : fw_I (fw_E (j + 1) F T A B) 0 R := by
  refine ⟨hI.1, hI.2.1, fun l m p q hl hm e => ?_, hI.2.2.2.1, fun l m e hl hm lm he => fw_sm_E (fun _ _ _ _ => fw_E_s) (hI.2.2.2.2 l m e hl hm lm he)⟩
  obtain ⟨k, hk, e1, e2, e3, e4⟩ := e
  by_cases z : k = j
  · have : l = m := by rw [← e1, ← e2, z, h]
    rw [← this, hI.2.1 l hl]
    exact ⟨(0, 0), List.mem_singleton.mpr rfl, Nat.zero_le _, Nat.zero_le _⟩
  · exact hI.2.2.1 l m p q hl hm ⟨k, by omega, e1, e2, e3, e4⟩
theorem fw_I_line {j : Nat} {F T A B : Nat → Nat} {R : Nat → List (Nat × Nat)} (hF : F j ≤ 6) (hT : T j ≤ 6) (hI : fw_I (fw_E j F T A B) 0 R) (h : F j ≠ T j) : fw_I (fw_E (j + 1) F T A B) 0 (fw_set R (7 * F j + T j) (fw_ad (A j, B j) (R (7 * F j + T j)))) := by
  refine ⟨fun r hr => ?_, fun l hl => ?_, fun l m p q hl hm e => ?_, fun l x m p q p' q' _ _ _ hx => absurd hx (by omega), fun l m e hl hm lm he => ?_⟩
  · by_cases c : r = 7 * F j + T j
    · rw [c, fw_set_s]
      exact fw_ad_srt (hI.1 _ (by omega))
    · rw [fw_set_n c]
      exact hI.1 r hr
  · rw [fw_set_n (by omega)]
    exact hI.2.1 l hl
  · obtain ⟨k, hk, e1, e2, e3, e4⟩ := e
    by_cases z : k = j
    · subst z
      rw [show 7 * l + m = 7 * F k + T k by omega, fw_set_s]
      exact fw_ad_up.mpr (Or.inr ⟨by show A k ≤ p; omega, by show B k ≤ q; omega⟩)
    · have g := hI.2.2.1 l m p q hl hm ⟨k, by omega, e1, e2, e3, e4⟩
      by_cases c : 7 * l + m = 7 * F j + T j
      · rw [c] at g ⊢
        rw [fw_set_s]
        exact fw_ad_up.mpr (Or.inl g)
      · rw [fw_set_n c]
        exact g
  · by_cases c : 7 * l + m = 7 * F j + T j
    · rw [c, fw_set_s] at he
      rcases fw_ad_mem he with z | z
      · rw [← c] at z
        exact fw_sm_E (fun _ _ _ _ => fw_E_s) (hI.2.2.2.2 l m e hl hm lm z)
      · refine ⟨[], fun x hx => absurd hx List.not_mem_nil, ?_, ?_⟩
        · exact List.nodup_cons.mpr ⟨fun z => lm (List.mem_singleton.mp z), List.pairwise_singleton _ _⟩
        · rw [z.1]
          exact ⟨j, by omega, by omega, by omega, rfl, rfl⟩
    · rw [fw_set_n c] at he
      exact fw_sm_E (fun _ _ _ _ => fw_E_s) (hI.2.2.2.2 l m e hl hm lm he)
end
section
/-- the least number from b on with S, at most b + c -/
def fr_f (S : Nat → Bool) : Nat → Nat → Nat
  | 0, b => b
  | c + 1, b => if S b = true then b else fr_f S c (b + 1)
theorem fr_f_sp (S : Nat → Bool) : ∀ c b, b ≤ fr_f S c b ∧ fr_f S c b ≤ b + c ∧ (∀ j, b ≤ j → j < fr_f S c b → S j = false) ∧ (fr_f S c b < b + c → S (fr_f S c b) = true)
  | 0, b => ⟨Nat.le_refl _, Nat.le_refl _, fun j h1 h2 => absurd h2 (by show ¬ j < b; omega), fun h => absurd h (by show ¬ b < b + 0; omega)⟩
  | c + 1, b => by
    unfold fr_f
    by_cases h : S b = true
    · rw [if_pos h]
      exact ⟨Nat.le_refl _, by omega, fun j h1 h2 => absurd h2 (by omega), fun _ => h⟩
    · rw [if_neg h]
      obtain ⟨h1, h2, h3, h4⟩ := fr_f_sp S c (b + 1)
      refine ⟨by omega, by omega, fun j j1 j2 => ?_, fun j => h4 (by omega)⟩
      by_cases e : j = b
      · rw [e]
        exact Bool.eq_false_iff.mpr h
      · exact h3 j (by omega) j2
/-- the least marked times, column by column -/
def fr_go (S : Nat → Nat → Bool) : Nat → Nat → Nat → List (Nat × Nat)
  | 0, _, _ => []
  | c + 1, a, best => (if fr_f (S a) best 0 < best then [(a, fr_f (S a) best 0)] else []) ++ fr_go S c (a + 1) (fr_f (S a) best 0)
theorem fr_mem (S : Nat → Nat → Bool) : ∀ (c a best : Nat) (x : Nat × Nat), x ∈ fr_go S c a best ↔ a ≤ x.1 ∧ x.1 < a + c ∧ x.2 < best ∧ S x.1 x.2 = true ∧ ∀ i j, a ≤ i → i ≤ x.1 → j ≤ x.2 → S i j = true → i = x.1 ∧ j = x.2
  | 0, a, best, x => by
    unfold fr_go
    exact ⟨fun h => absurd h List.not_mem_nil, fun h => absurd h.2.1 (by omega)⟩
  | c + 1, a, best, x => by
    unfold fr_go
    obtain ⟨b1, b2, b3, b4⟩ := fr_f_sp (S a) best 0
    rw [List.mem_append, fr_mem S c (a + 1) (fr_f (S a) best 0) x]
    generalize fr_f (S a) best 0 = b at b1 b2 b3 b4
    constructor
    · rintro (h | h)
      · by_cases hb : b < best
        · rw [if_pos hb] at h
          have e := List.mem_singleton.mp h
          subst e
          refine ⟨Nat.le_refl a, by show a < a + (c + 1); omega, hb, b4 (by omega), fun i j h1 h2 h3 h4 => ?_⟩
          have h2 : i ≤ a := h2
          have h3 : j ≤ b := h3
          have hi : i = a := by omega
          subst hi
          refine ⟨rfl, ?_⟩
          show j = b
          rcases Nat.lt_or_ge j b with z | z
          · rw [b3 j (Nat.zero_le _) z] at h4
            exact nomatch h4
          · omega
        · rw [if_neg hb] at h
          exact absurd h List.not_mem_nil
      · obtain ⟨h1, h2, h3, h4, h5⟩ := h
        refine ⟨by omega, by omega, by omega, h4, fun i j i1 i2 i3 i4 => ?_⟩
        by_cases e : i = a
        · subst e
          rw [b3 j (Nat.zero_le _) (by omega)] at i4
          exact nomatch i4
        · exact h5 i j (by omega) i2 i3 i4
    · rintro ⟨h1, h2, h3, h4, h5⟩
      by_cases e : x.1 = a
      · left
        rw [e] at h4 h5
        have xb : ¬ x.2 < b := by
          intro z
          rw [b3 _ (Nat.zero_le _) z] at h4
          exact nomatch h4
        have hb : b < best := by omega
        have := h5 a b (Nat.le_refl _) (Nat.le_refl _) (by omega) (b4 (by omega))
        rw [if_pos hb]
        exact List.mem_singleton.mpr (Prod.ext e this.2.symm)
      · right
        refine ⟨by omega, by omega, ?_, h4, fun i j i1 i2 i3 i4 => h5 i j (by omega) i2 i3 i4⟩
        rcases Nat.lt_or_ge x.2 b with z | z
        · exact z
        · have := h5 a b (Nat.le_refl _) h1 z (b4 (by omega))
          omega
theorem fr_srt (S : Nat → Nat → Bool) : ∀ (c a best : Nat), fw_srt (fr_go S c a best)
  | 0, a, best => by
    unfold fr_go
    exact List.Pairwise.nil
  | c + 1, a, best => by
    unfold fr_go
    have ih := fr_srt S c (a + 1) (fr_f (S a) best 0)
    by_cases hb : fr_f (S a) best 0 < best
    · rw [if_pos hb]
      refine fw_cons.mpr ⟨fun x hx => ?_, ih⟩
      have := (fr_mem S c _ _ x).mp hx
      exact ⟨by show a < x.1; omega, this.2.2.1⟩
    · rw [if_neg hb]
      exact ih
theorem fr_tr {S S' : Nat → Nat → Bool} (h : ∀ a b, a < 16 → b < 16 → S' b a = S a b) : fr_go S' 16 0 16 = fw_mir (fr_go S 16 0 16) := by
  refine fw_ext _ _ (fr_srt S' 16 0 16) (fw_mir_srt (fr_srt S 16 0 16)) (fun x => ?_)
  rw [fw_mir_mem, fr_mem, fr_mem]
  show _ ↔ 0 ≤ x.2 ∧ x.2 < 0 + 16 ∧ x.1 < 16 ∧ S x.2 x.1 = true ∧ ∀ i j, 0 ≤ i → i ≤ x.2 → j ≤ x.1 → S i j = true → i = x.2 ∧ j = x.1
  constructor
  · rintro ⟨h1, h2, h3, h4, h5⟩
    refine ⟨by omega, by omega, by omega, by rw [← h _ _ h3 (by omega)]; exact h4, fun i j i1 i2 i3 i4 => ?_⟩
    have := h5 j i (by omega) i3 i2 (by rw [h _ _ (by omega) (by omega)]; exact i4)
    exact ⟨this.2, this.1⟩
  · rintro ⟨h1, h2, h3, h4, h5⟩
    refine ⟨by omega, by omega, by omega, by rw [h _ _ (by omega) (by omega)]; exact h4, fun i j i1 i2 i3 i4 => ?_⟩
    have := h5 j i (by omega) i3 i2 (by rw [← h _ _ (by omega) (by omega)]; exact i4)
    exact ⟨this.2, this.1⟩
/-- frontAt's answer -/
def fr_at (l : List (Nat × Nat)) (i : Nat) : Int32 := match l[i]? with
  | some e => nI (16 * e.1 + e.2)
  | none => -1
theorem fr_at_some {l : List (Nat × Nat)} {i : Nat} {e : Nat × Nat} (h : l[i]? = some e) : fr_at l i = nI (16 * e.1 + e.2) := by
  unfold fr_at
  rw [h]
theorem fr_at_none {l : List (Nat × Nat)} {i : Nat} (h : l.length ≤ i) : fr_at l i = -1 := by
  unfold fr_at
  rw [List.getElem?_eq_none h]
theorem fr_at_0 (e : Nat × Nat) (t : List (Nat × Nat)) : fr_at (e :: t) 0 = nI (16 * e.1 + e.2) := rfl
theorem fr_at_s (e : Nat × Nat) (t : List (Nat × Nat)) (i : Nat) : fr_at (e :: t) (i + 1) = fr_at t i := by
  unfold fr_at
  rw [List.getElem?_cons_succ]
theorem fr_mir_get {l : List (Nat × Nat)} {i : Nat} (h : i < l.length) : ∃ e, l[i]? = some e ∧ e ∈ l ∧ (fw_mir l)[l.length - 1 - i]? = some (fw_sw e) := by
  refine ⟨l[i], List.getElem?_eq_getElem h, List.getElem_mem h, ?_⟩
  unfold fw_mir
  rw [List.getElem?_reverse (by rw [List.length_map]; omega), List.length_map, List.getElem?_map, show l.length - 1 - (l.length - 1 - i) = i by omega, List.getElem?_eq_getElem h]
  rfl
end
section
theorem fb_lm {c : Int32} (k : Nat) (hc : c = nI k) (n : Nat) : c * nI n = nI (k * n) := by
  rw [hc, pk_mul]
theorem fb_7 (l m : Nat) : 7 * nI l + nI m = nI (7 * l + m) := by
  rw [fb_lm (c := 7) 7 rfl, nI_add]
theorem fb_19 (l : Nat) : 19 * nI l = nI (19 * l) := fb_lm (c := 19) 19 rfl l
theorem fb_16 (l m : Nat) : 16 * nI l + nI m = nI (16 * l + m) := by
  rw [fb_lm (c := 16) 16 rfl, nI_add]
theorem fb_64 (l m : Nat) : 64 * nI l + nI m = nI (64 * l + m) := by
  rw [fb_lm (c := 64) 64 rfl, nI_add]
theorem fb_ix (m a b : Nat) : 256 * nI m + 16 * nI a + nI b = nI (256 * m + 16 * a + b) := by
  rw [fb_lm (c := 256) 256 rfl, fb_lm (c := 16) 16 rfl, nI_add, nI_add]
theorem fb_s6 {p q : Nat} (hp : p ≤ 100) (hq : q ≤ 63) : nI (64 * p + q) >>> ((6 : Int32) &&& 31) = nI p := by
  rw [pk_shrN (by omega) _ 6 (by decide), show (64 * p + q) / 2 ^ 6 = p by omega]
theorem fb_a6 {p q : Nat} (hp : p ≤ 100) (hq : q ≤ 63) : nI (64 * p + q) &&& 63 = nI q := by
  rw [pk_andN (by omega) 6 (by decide), show (64 * p + q) % 2 ^ 6 = q by omega]
theorem fb_s4 {p q : Nat} (hp : p ≤ 100) (hq : q ≤ 15) : nI (16 * p + q) >>> ((4 : Int32) &&& 31) = nI p := by
  rw [pk_shrN (by omega) _ 4 (by decide), show (16 * p + q) / 2 ^ 4 = p by omega]
theorem fb_a4 {p q : Nat} (hp : p ≤ 100) (hq : q ≤ 15) : nI (16 * p + q) &&& 15 = nI q := by
  rw [pk_andN (by omega) 4 (by decide), show (16 * p + q) % 2 ^ 4 = q by omega]
theorem fb_get (d : List (Nat × Nat)) (e : Nat × Nat) (t : List (Nat × Nat)) : (d ++ e :: t).getD d.length (0, 0) = e := by
  rw [List.getD_eq_getElem?_getD, List.getElem?_append_right (Nat.le_refl _), Nat.sub_self]
  rfl
/-- the arrays sumCount and sums hold the rows R -/
def fw_rows (R : Nat → List (Nat × Nat)) (a7 a8 : Nat → Int32) : Prop := ∀ r, r < 49 → a7 r = nI (R r).length ∧ ∀ j, j < (R r).length → a8 (19 * r + j) = nI (64 * ((R r).getD j (0, 0)).1 + ((R r).getD j (0, 0)).2)
theorem fw_rows_at {R : Nat → List (Nat × Nat)} {a7 a8 : Nat → Int32} (h : fw_rows R a7 a8) {r : Nat} (hr : r < 49) {d t : List (Nat × Nat)} {e : Nat × Nat} (hd : R r = d ++ e :: t) : a8 (19 * r + d.length) = nI (64 * e.1 + e.2) := by
  have g := (h r hr).2 d.length (by rw [hd, List.length_append, List.length_cons]; omega)
  rw [hd, fb_get] at g
  exact g
/-- an entry leads from the time (x, y) to the time (a, b) -/
def fc_hit (L : List (Nat × Nat)) (x y a b : Nat) : Bool := L.any (fun e => decide (x + e.1 = a ∧ y + e.2 = b))
theorem fc_hit_iff {L : List (Nat × Nat)} {x y a b : Nat} : fc_hit L x y a b = true ↔ ∃ e, e ∈ L ∧ x + e.1 = a ∧ y + e.2 = b := by
  unfold fc_hit
  rw [List.any_eq_true]
  constructor
  · rintro ⟨e, he, h⟩
    exact ⟨e, he, of_decide_eq_true h⟩
  · rintro ⟨e, he, h⟩
    exact ⟨e, he, decide_eq_true h⟩
theorem fc_hit_nil {x y a b : Nat} : ¬ fc_hit [] x y a b = true := by
  rw [fc_hit_iff]
  rintro ⟨e, he, _⟩
  exact absurd he List.not_mem_nil
theorem fc_hit_app {L : List (Nat × Nat)} {f : Nat × Nat} {x y a b : Nat} : fc_hit (L ++ [f]) x y a b = true ↔ fc_hit L x y a b = true ∨ (x + f.1 = a ∧ y + f.2 = b) := by
  rw [fc_hit_iff, fc_hit_iff]
  constructor
  · rintro ⟨e, he, h⟩
    rcases List.mem_append.mp he with z | z
    · exact Or.inl ⟨e, z, h⟩
    · rw [List.mem_singleton.mp z] at h
      exact Or.inr h
  · rintro (⟨e, he, h⟩ | h)
    · exact ⟨e, List.mem_append_left _ he, h⟩
    · exact ⟨f, List.mem_append_right _ (List.mem_singleton.mpr rfl), h⟩
/-- count's effect on the marks -/
def fc_cnt (R : Nat → List (Nat × Nat)) (P x y : Nat) (d : Int32) (M M' : Nat → Int32) : Prop := ∀ m a b, m ≤ 6 → a ≤ 15 → b ≤ 15 → M' (256 * m + 16 * a + b) = if fc_hit (R (7 * P + m)) x y a b = true then M (256 * m + 16 * a + b) + d else M (256 * m + 16 * a + b)
def fc_inv (R : Nat → List (Nat × Nat)) (P x y : Nat) (d : Int32) (M : Nat → Int32) (m : Nat) (D : List (Nat × Nat)) (M' : Nat → Int32) : Prop := ∀ m' a b, m' ≤ 6 → a ≤ 15 → b ≤ 15 → M' (256 * m' + 16 * a + b) = if (m' < m ∧ fc_hit (R (7 * P + m')) x y a b = true) ∨ (m' = m ∧ fc_hit D x y a b = true) then M (256 * m' + 16 * a + b) + d else M (256 * m' + 16 * a + b)
theorem fc_inv_out {R : Nat → List (Nat × Nat)} {P x y : Nat} {d : Int32} {M : Nat → Int32} {m : Nat} {D : List (Nat × Nat)} {M' : Nat → Int32} {e : Nat × Nat} (h : fc_inv R P x y d M m D M') (he : 15 < x + e.1 ∨ 15 < y + e.2) : fc_inv R P x y d M m (D ++ [e]) M' := by
  intro m' a b hm ha hb
  rw [h m' a b hm ha hb]
  have c : ((m' < m ∧ fc_hit (R (7 * P + m')) x y a b = true) ∨ (m' = m ∧ fc_hit D x y a b = true)) ↔ ((m' < m ∧ fc_hit (R (7 * P + m')) x y a b = true) ∨ (m' = m ∧ fc_hit (D ++ [e]) x y a b = true)) := by
    rw [fc_hit_app]
    constructor
    · rintro (z | z)
      · exact Or.inl z
      · exact Or.inr ⟨z.1, Or.inl z.2⟩
    · rintro (z | ⟨z, w | w⟩)
      · exact Or.inl z
      · exact Or.inr ⟨z, w⟩
      · omega
  simp only [c]
theorem fc_inv_in {R : Nat → List (Nat × Nat)} {P x y : Nat} {d : Int32} {M : Nat → Int32} {m : Nat} {D : List (Nat × Nat)} {M' : Nat → Int32} {e : Nat × Nat} (h : fc_inv R P x y d M m D M') (hm6 : m ≤ 6) (he : e ∉ D) (h1 : x + e.1 ≤ 15) (h2 : y + e.2 ≤ 15) :
    fc_inv R P x y d M m (D ++ [e]) (upd M' (256 * m + 16 * (x + e.1) + (y + e.2)) (M' (256 * m + 16 * (x + e.1) + (y + e.2)) + d)) := by
  intro m' a b hm ha hb
  by_cases c : m' = m ∧ a = x + e.1 ∧ b = y + e.2
  · obtain ⟨rfl, rfl, rfl⟩ := c
    have hn : ¬ ((m' < m' ∧ fc_hit (R (7 * P + m')) x y (x + e.1) (y + e.2) = true) ∨ (m' = m' ∧ fc_hit D x y (x + e.1) (y + e.2) = true)) := by
      rintro (z | z)
      · exact absurd z.1 (by omega)
      · obtain ⟨f, hf, f1, f2⟩ := fc_hit_iff.mp z.2
        have : f = e := Prod.ext (by omega) (by omega)
        rw [this] at hf
        exact he hf
    have hp : (m' < m' ∧ fc_hit (R (7 * P + m')) x y (x + e.1) (y + e.2) = true) ∨ (m' = m' ∧ fc_hit (D ++ [e]) x y (x + e.1) (y + e.2) = true) := Or.inr ⟨rfl, fc_hit_app.mpr (Or.inr ⟨rfl, rfl⟩)⟩
    rw [pk_us, h m' _ _ hm ha hb, if_neg hn, if_pos hp]
  · rw [pk_un (by omega), h m' a b hm ha hb]
    have c : ((m' < m ∧ fc_hit (R (7 * P + m')) x y a b = true) ∨ (m' = m ∧ fc_hit D x y a b = true)) ↔ ((m' < m ∧ fc_hit (R (7 * P + m')) x y a b = true) ∨ (m' = m ∧ fc_hit (D ++ [e]) x y a b = true)) := by
      rw [fc_hit_app]
      constructor
      · rintro (z | z)
        · exact Or.inl z
        · exact Or.inr ⟨z.1, Or.inl z.2⟩
      · rintro (z | ⟨z, w | w⟩)
        · exact Or.inl z
        · exact Or.inr ⟨z, w⟩
        · exact absurd ⟨z, w.1.symm, w.2.symm⟩ c
    simp only [c]
theorem fc_inv_next {R : Nat → List (Nat × Nat)} {P x y : Nat} {d : Int32} {M : Nat → Int32} {m : Nat} {M' : Nat → Int32} (h : fc_inv R P x y d M m (R (7 * P + m)) M') : fc_inv R P x y d M (m + 1) [] M' := by
  intro m' a b hm ha hb
  rw [h m' a b hm ha hb]
  have c : ((m' < m ∧ fc_hit (R (7 * P + m')) x y a b = true) ∨ (m' = m ∧ fc_hit (R (7 * P + m)) x y a b = true)) ↔ ((m' < m + 1 ∧ fc_hit (R (7 * P + m')) x y a b = true) ∨ (m' = m + 1 ∧ fc_hit [] x y a b = true)) := by
    constructor
    · rintro (z | z)
      · exact Or.inl ⟨by omega, z.2⟩
      · exact Or.inl ⟨by omega, by rw [z.1]; exact z.2⟩
    · rintro (z | z)
      · by_cases e : m' = m
        · exact Or.inr ⟨e, by rw [← e]; exact z.2⟩
        · exact Or.inl ⟨by omega, z.2⟩
      · exact absurd z.2 fc_hit_nil
  simp only [c]
section
variable {post : St1 → Prop} {f0_lines f0_tokens f0_gathered : Int32} {a1 a2 a3 a4 a5 a6 a7 a8 a9 a10 : Nat → Int32} {R : Nat → List (Nat × Nat)} {P x y : Nat} {d : Int32}
theorem fc_26 {J3 : Int32 → (Nat → Int32) → (Nat → Int32) → (Nat → Int32) → (Nat → Int32) → (Nat → Int32) → (Nat → Int32) → (Nat → Int32) → (Nat → Int32) → (Nat → Int32) → (Nat → Int32) → Prop} {m : Nat} {M : Nat → Int32}
    (hR : fw_rows R a7 a8) (hok : fw_ok R) (hP : P ≤ 6) (hm : m ≤ 6) (hx : x ≤ 15) (hy : y ≤ 15) (H : ∀ M', fc_inv R P x y d M m (R (7 * P + m)) M' → J3 (nI (m + 1)) a1 a2 a3 a4 a5 a6 a7 a8 a9 M') :
    ∀ (rest D : List (Nat × Nat)) (M' : Nat → Int32) (n : Nat), R (7 * P + m) = D ++ rest → rest.length < n → fc_inv R P x y d M m D M' →
      wX_count_26 post J3 (nI P) (nI (16 * x + y)) d (nI m) (nI (7 * P + m)) f0_lines f0_tokens f0_gathered n (nI (19 * (7 * P + m) + D.length)) a1 a2 a3 a4 a5 a6 a7 a8 a9 M' := by
  intro rest
  have hlen := fw_ok_len hok (r := 7 * P + m) (by omega)
  have h7 : a7 (nI (7 * P + m)).toNatClampNeg = nI (R (7 * P + m)).length := by
    rw [nI_clamp (by omega)]
    exact (hR _ (by omega)).1
  have hlim : 19 * nI (7 * P + m) + a7 (nI (7 * P + m)).toNatClampNeg = nI (19 * (7 * P + m) + (R (7 * P + m)).length) := by
    rw [h7, fb_19, nI_add]
  induction rest with
  | nil =>
    intro D M' n hD hn hI
    rw [List.append_nil] at hD
    obtain ⟨n, rfl⟩ : ∃ k, n = k + 1 := ⟨n - 1, by simp only [List.length_nil] at hn; omega⟩
    refine ⟨pk_in (7 * P + m) 49 (by omega), pk_le _ (19 * (7 * P + m) + D.length) (fun _ => nm_r (nI_1 m) (H M' ?_)) (fun z => absurd z ?_) hlim rfl (by omega) (by rw [← hD]; omega)⟩
    · rw [hD]
      exact hI
    · rw [hD]
      omega
  | cons e t ih =>
    intro D M' n hD hn hI
    obtain ⟨n, rfl⟩ : ∃ k, n = k + 1 := ⟨n - 1, by omega⟩
    have hl : (R (7 * P + m)).length = D.length + (t.length + 1) := by rw [hD, List.length_append, List.length_cons]
    have he : e ∈ R (7 * P + m) := by rw [hD]; exact List.mem_append_right _ List.mem_cons_self
    have hb := (hok (7 * P + m) (by omega)).2 e he
    have hnd := fw_nodup (hok (7 * P + m) (by omega)).1
    rw [hD] at hnd
    have heD : e ∉ D := fun z => (List.nodup_append.mp hnd).2.2 e z e List.mem_cons_self rfl
    have h8 : a8 (nI (19 * (7 * P + m) + D.length)).toNatClampNeg = nI (64 * e.1 + e.2) := by
      rw [nI_clamp (by omega)]
      exact fw_rows_at hR (by omega) hD
    have hD' : R (7 * P + m) = (D ++ [e]) ++ t := by rw [hD, List.append_assoc]; rfl
    have hix : nI (19 * (7 * P + m) + D.length) + 1 = nI (19 * (7 * P + m) + (D ++ [e]).length) := by
      rw [nI_1, List.length_append, List.length_singleton]
      rfl
    have hn' : t.length < n := by simp only [List.length_cons] at hn; omega
    refine ⟨pk_in (7 * P + m) 49 (by omega), pk_le _ (19 * (7 * P + m) + D.length) (fun z => absurd z (by omega)) (fun _ => ⟨pk_in (19 * (7 * P + m) + D.length) 931 (by omega), nm_r (e' := nI (x + e.1)) (by rw [h8, fb_s4 (by omega) hy, fb_s6 (by omega) (by omega), nI_add]) ⟨pk_in (19 * (7 * P + m) + D.length) 931 (by omega), nm_r (e' := nI (y + e.2)) (by rw [h8, fb_a4 (by omega) hy, fb_a6 (by omega) (by omega), nI_add]) ?_⟩⟩) hlim rfl (by omega) (by omega)⟩
    refine pk_lt 15 (x + e.1) (fun z => nm_r hix (ih _ _ _ hD' hn' (fc_inv_out hI (Or.inl z)))) (fun z => ?_)
    refine pk_lt 15 (y + e.2) (fun w => nm_r hix (ih _ _ _ hD' hn' (fc_inv_out hI (Or.inr w)))) (fun w => ?_)
    have hv : 256 * nI m + 16 * nI (x + e.1) + nI (y + e.2) = nI (256 * m + 16 * (x + e.1) + (y + e.2)) := fb_ix _ _ _
    refine ⟨pk_in _ 1792 (by omega) hv, pk_in _ 1792 (by omega) hv, nm_r (e' := upd M' (256 * m + 16 * (x + e.1) + (y + e.2)) (M' (256 * m + 16 * (x + e.1) + (y + e.2)) + d)) (by rw [pk_cl _ hv]) (nm_r hix (ih _ _ _ hD' hn' (fc_inv_in hI hm heD z w)))⟩
theorem fc_count (hR : fw_rows R a7 a8) (hok : fw_ok R) (hP : P ≤ 6) (hx : x ≤ 15) (hy : y ≤ 15) (H : ∀ M', fc_cnt R P x y d a10 M' → post (f0_lines, f0_tokens, f0_gathered, a1, a2, a3, a4, a5, a6, a7, a8, a9, M')) :
    wpX_count post (f0_lines, f0_tokens, f0_gathered, a1, a2, a3, a4, a5, a6, a7, a8, a9, a10) (nI P) (nI (16 * x + y)) d := by
  refine pk_loop (fun n i s => wX_count_3 post (nI P) (nI (16 * x + y)) d f0_lines f0_tokens f0_gathered n (nI i) a1 a2 a3 a4 a5 a6 a7 a8 a9 s) (fun i s => fc_inv R P x y d a10 i [] s) 7 0 a10 (by omega) ?_ ?_ ?_
  · intro m a b _ _ _
    rw [if_neg]
    rintro (z | z)
    · exact absurd z.1 (by omega)
    · exact fc_hit_nil z.2
  · intro n s h
    refine pk_le 7 7 (fun _ => H s (fun m a b hm ha hb => ?_)) (fun z => absurd z (by omega))
    rw [h m a b hm ha hb]
    have c : ((m < 7 ∧ fc_hit (R (7 * P + m)) x y a b = true) ∨ (m = 7 ∧ fc_hit [] x y a b = true)) ↔ fc_hit (R (7 * P + m)) x y a b = true := by
      constructor
      · rintro (z | z)
        · exact z.2
        · exact absurd z.2 fc_hit_nil
      · exact fun z => Or.inl ⟨by omega, z⟩
    simp only [c]
  · intro n i s hi h hw
    refine pk_le 7 i (fun z => absurd z (by omega)) (fun _ => nm_r (fb_7 P i) (nm_r (fb_19 _) ⟨(R (7 * P + i)).length + 1, ?_⟩))
    exact fc_26 hR hok hP (by omega) hx hy (fun M' hM' => hw M' (fc_inv_next hM')) (R (7 * P + i)) [] s _ rfl (by omega) h
end
end
section
/-- gather holds G -/
def fa_hold (G : List (Nat × Nat)) (a9 : Nat → Int32) : Prop := ∀ j, j < G.length → a9 j = nI (64 * (G.getD j (0, 0)).1 + (G.getD j (0, 0)).2)
theorem fa_hold_nil (a9 : Nat → Int32) : fa_hold [] a9 := fun j hj => absurd hj (by simp)
theorem fa_hold_add {G : List (Nat × Nat)} {a9 : Nat → Int32} {e : Nat × Nat} (h : fa_hold G a9) : fa_hold (G ++ [e]) (upd a9 G.length (nI (64 * e.1 + e.2))) := by
  intro j hj
  rw [List.length_append, List.length_singleton] at hj
  by_cases c : j = G.length
  · rw [c, pk_us, fb_get]
  · have hj' : j < G.length := by omega
    rw [pk_un c, h j hj', List.getD_eq_getElem?_getD, List.getD_eq_getElem?_getD, List.getElem?_append_left hj']
theorem fw_go_cons {s e : Nat × Nat} {pl : Bool} {t : List (Nat × Nat)} : fw_go s pl (e :: t) = if e.1 ≤ s.1 ∧ e.2 ≤ s.2 then none else
      (fw_go s (pl || decide (s.1 < e.1)) t).map (fun r => (if s.1 < e.1 ∧ pl = false then [s] else []) ++ ((if s.1 ≤ e.1 ∧ s.2 ≤ e.2 then [] else [e]) ++ r)) := rfl
def fa_b : Bool → Int32
  | true => 1
  | false => 0
theorem fw_set_set {R : Nat → List (Nat × Nat)} {r : Nat} {S S' : List (Nat × Nat)} : fw_set (fw_set R r S) r S' = fw_set R r S' := by
  funext j
  by_cases c : j = r
  · rw [c, fw_set_s, fw_set_s]
  · rw [fw_set_n c, fw_set_n c, fw_set_n c]
theorem fw_set_self {R : Nat → List (Nat × Nat)} {r : Nat} : fw_set R r (R r) = R := by
  funext j
  by_cases c : j = r
  · rw [c, fw_set_s]
  · rw [fw_set_n c]
section
variable {post : St1 → Prop} {f0_lines f0_tokens : Int32} {a1 a2 a3 a4 a5 a6 a7 a8 a10 : Nat → Int32} {R : Nat → List (Nat × Nat)} {r : Nat} {s : Nat × Nat}
theorem fa_215 {l : List (Nat × Nat)} {a9 : Nat → Int32} (hr : r < 49) (hR : fw_rows R a7 a8) (hok : fw_ok R) (hl : l.length ≤ 19) (h9 : fa_hold l a9)
    (H : ∀ a7' a8', fw_rows (fw_set R r l) a7' a8' → post (f0_lines, f0_tokens, nI l.length, a1, a2, a3, a4, a5, a6, a7', a8', a9, a10)) :
    ∃ fu, wX_addSum_215 post (nI r) (nI (19 * r)) f0_lines f0_tokens (nI l.length) fu 0 a1 a2 a3 a4 a5 a6 a7 a8 a9 a10 := by
  refine pk_loop (fun n i s => wX_addSum_215 post (nI r) (nI (19 * r)) f0_lines f0_tokens (nI l.length) n (nI i) a1 a2 a3 a4 a5 a6 a7 s a9 a10) (fun i s => (∀ j, j < i → s (19 * r + j) = a9 j) ∧ ∀ j, (j < 19 * r ∨ 19 * r + 19 ≤ j) → s j = a8 j) l.length 0 a8 (Nat.zero_le _) ⟨fun j hj => absurd hj (by omega), fun j _ => rfl⟩ ?_ ?_
  · intro n s hs
    refine pk_le l.length l.length (fun _ => ⟨pk_in r 49 hr, nm_r (e' := upd a7 r (nI l.length)) (by rw [nI_clamp (by omega)]) (H _ _ (fun r' hr' => ?_))⟩) (fun z => absurd z (by omega))
    by_cases c : r' = r
    · rw [c, pk_us, fw_set_s]
      exact ⟨rfl, fun j hj => by rw [hs.1 j hj, h9 j hj]⟩
    · rw [pk_un c, fw_set_n c]
      refine ⟨(hR r' hr').1, fun j hj => ?_⟩
      have := fw_ok_len hok hr'
      rw [hs.2 _ (by omega)]
      exact (hR r' hr').2 j hj
  · intro n i s hi hs hw
    have e1 : nI (19 * r) + nI i = nI (19 * r + i) := nI_add _ _
    refine pk_le l.length i (fun z => absurd z (by omega)) (fun _ => ⟨pk_in i 40 (by omega), pk_in _ 931 (by omega) e1, nm_r (e' := upd s (19 * r + i) (a9 i)) (by rw [pk_cl _ e1 (by omega), nI_clamp (by omega)]) (nm_r (nI_1 i) (hw _ ⟨fun j hj => ?_, fun j hj => ?_⟩))⟩)
    · by_cases c : j = i
      · rw [c, pk_us]
      · rw [pk_un (by omega)]
        exact hs.1 j (by omega)
    · rw [pk_un (by omega)]
      exact hs.2 j hj
theorem fa_109 {J : Int32 → Int32 → Int32 → (Nat → Int32) → (Nat → Int32) → (Nat → Int32) → (Nat → Int32) → (Nat → Int32) → (Nat → Int32) → (Nat → Int32) → (Nat → Int32) → (Nat → Int32) → (Nat → Int32) → Prop} {x1 x3 x4 : Int32} {k g : Nat} {e : Nat × Nat} {a9 : Nat → Int32}
    (hs : s.1 ≤ 36 ∧ s.2 ≤ 36) (he : e.1 ≤ 36 ∧ e.2 ≤ 36) (hk : k < 931) (hg : g < 40) (h8 : a8 (nI k).toNatClampNeg = nI (64 * e.1 + e.2))
    (h1 : s.1 ≤ e.1 ∧ s.2 ≤ e.2 → J x4 (nI (k + 1)) (nI g) a1 a2 a3 a4 a5 a6 a7 a8 a9 a10)
    (h0 : ¬ (s.1 ≤ e.1 ∧ s.2 ≤ e.2) → J x4 (nI (k + 1)) (nI (g + 1)) a1 a2 a3 a4 a5 a6 a7 a8 (upd a9 g (nI (64 * e.1 + e.2))) a10) :
    wX_addSum_109 post J x1 (nI (64 * s.1 + s.2)) x3 x4 (nI k) f0_lines f0_tokens (nI g) a1 a2 a3 a4 a5 a6 a7 a8 a9 a10 := by
  have q1 : a8 (nI k).toNatClampNeg >>> ((6 : Int32) &&& 31) = nI e.1 := by rw [h8, fb_s6 (by omega) (by omega)]
  have q2 : a8 (nI k).toNatClampNeg &&& 63 = nI e.2 := by rw [h8, fb_a6 (by omega) (by omega)]
  have q3 : nI (64 * s.1 + s.2) >>> ((6 : Int32) &&& 31) = nI s.1 := fb_s6 (by omega) (by omega)
  have q4 : nI (64 * s.1 + s.2) &&& 63 = nI s.2 := fb_a6 (by omega) (by omega)
  have kp : ¬ (s.1 ≤ e.1 ∧ s.2 ≤ e.2) → wX_addSum_147 post J x1 (nI (64 * s.1 + s.2)) x3 x4 (nI k) f0_lines f0_tokens (nI g) a1 a2 a3 a4 a5 a6 a7 a8 a9 a10 := by
    intro z
    exact br_t rfl ⟨pk_in k 931 hk, pk_in g 40 hg, nm_r (e' := upd a9 g (nI (64 * e.1 + e.2))) (by rw [h8, nI_clamp (show g < 2 ^ 31 by omega)]) (nm_r (nI_1 g) (nm_r (nI_1 k) (h0 z)))⟩
  refine ⟨pk_in k 931 hk, pk_lt e.1 s.1 (fun z => kp (by omega)) (fun z => ⟨pk_in k 931 hk, pk_lt e.2 s.2 (fun w => kp (by omega)) (fun w => ?_) q2 q4⟩) q1 q3⟩
  exact br_f (by decide) (nm_r (nI_1 k) (h1 ⟨z, w⟩))
theorem fa_16 (hr : r < 49) (hR : fw_rows R a7 a8) (hok : fw_ok R) (hs : s.1 ≤ 36 ∧ s.2 ≤ 36)
    (Hn : fw_go s false (R r) = none → ∀ g a9, post (f0_lines, f0_tokens, g, a1, a2, a3, a4, a5, a6, a7, a8, a9, a10))
    (Hs : ∀ l a9, fw_go s false (R r) = some l → fa_hold l a9 → ∃ fu, wX_addSum_215 post (nI r) (nI (19 * r)) f0_lines f0_tokens (nI l.length) fu 0 a1 a2 a3 a4 a5 a6 a7 a8 a9 a10) :
    ∀ (rest D G : List (Nat × Nat)) (pl : Bool) (a9 : Nat → Int32) (n : Nat), R r = D ++ rest → rest.length < n → G.length ≤ D.length + (if pl = true then 1 else 0) → fa_hold G a9 → fw_go s false (R r) = (fw_go s pl rest).map (fun l => G ++ l) →
      wX_addSum_16 post (nI r) (nI (64 * s.1 + s.2)) (nI (19 * r)) f0_lines f0_tokens n (fa_b pl) (nI (19 * r + D.length)) (nI G.length) a1 a2 a3 a4 a5 a6 a7 a8 a9 a10 := by
  intro rest
  have hlen := fw_ok_len hok hr
  have h7 : a7 (nI r).toNatClampNeg = nI (R r).length := by
    rw [nI_clamp (by omega)]
    exact (hR r hr).1
  have hlim : nI (19 * r) + a7 (nI r).toNatClampNeg = nI (19 * r + (R r).length) := by
    rw [h7, nI_add]
  induction rest with
  | nil =>
    intro D G pl a9 n hD hn hG h9 hgo
    rw [List.append_nil] at hD
    obtain ⟨n, rfl⟩ : ∃ k, n = k + 1 := ⟨n - 1, by simp only [List.length_nil] at hn; omega⟩
    have hDl : (R r).length = D.length := by rw [hD]
    refine ⟨pk_in r 49 hr, pk_le _ (19 * r + D.length) (fun _ => ?_) (fun z => absurd z (by omega)) hlim rfl (by omega) (by omega)⟩
    cases pl with
    | false =>
      have hG' : G.length ≤ D.length := hG
      refine br_t rfl ⟨pk_in G.length 40 (by omega), nm_r (e' := upd a9 G.length (nI (64 * s.1 + s.2))) (by rw [nI_clamp (by omega)]) (nm_r (e' := nI (G ++ [s]).length) (by rw [nI_1, List.length_append]; rfl) ?_)⟩
      exact Hs (G ++ [s]) _ hgo (fa_hold_add h9)
    | true =>
      refine br_f (by decide) ?_
      have := Hs (G ++ []) a9 hgo
      rw [List.append_nil] at this
      exact this h9
  | cons e t ih =>
    intro D G pl a9 n hD hn hG h9 hgo
    obtain ⟨n, rfl⟩ : ∃ k, n = k + 1 := ⟨n - 1, by omega⟩
    have hl : (R r).length = D.length + (t.length + 1) := by rw [hD, List.length_append, List.length_cons]
    have hGl : G.length ≤ 20 := by
      have : (if pl = true then 1 else 0) ≤ 1 := by cases pl <;> decide
      omega
    have he : e ∈ R r := by rw [hD]; exact List.mem_append_right _ List.mem_cons_self
    have hb := (hok r hr).2 e he
    have h8 : a8 (nI (19 * r + D.length)).toNatClampNeg = nI (64 * e.1 + e.2) := by
      rw [nI_clamp (by omega)]
      exact fw_rows_at hR hr hD
    have q1 : a8 (nI (19 * r + D.length)).toNatClampNeg >>> ((6 : Int32) &&& 31) = nI e.1 := by rw [h8, fb_s6 (by omega) (by omega)]
    have q2 : a8 (nI (19 * r + D.length)).toNatClampNeg &&& 63 = nI e.2 := by rw [h8, fb_a6 (by omega) (by omega)]
    have q3 : nI (64 * s.1 + s.2) >>> ((6 : Int32) &&& 31) = nI s.1 := fb_s6 (by omega) (by omega)
    have q4 : nI (64 * s.1 + s.2) &&& 63 = nI s.2 := fb_a6 (by omega) (by omega)
    have hD' : R r = (D ++ [e]) ++ t := by rw [hD, List.append_assoc]; rfl
    have hn' : t.length < n := by simp only [List.length_cons] at hn; omega
    have hk : 19 * r + D.length + 1 = 19 * r + (D ++ [e]).length := by rw [List.length_append, List.length_singleton]; rfl
    have hDe : (D ++ [e]).length = D.length + 1 := by rw [List.length_append, List.length_singleton]
    -- the common end of the pass, G1 gathered ahead of e
    have go : ∀ (G1 : List (Nat × Nat)) (pl' : Bool) (b9 : Nat → Int32), G1.length ≤ D.length + (if pl' = true then 1 else 0) → fa_hold G1 b9 →
        fw_go s false (R r) = (fw_go s pl' t).map (fun l => G1 ++ ((if s.1 ≤ e.1 ∧ s.2 ≤ e.2 then [] else [e]) ++ l)) →
        wX_addSum_109 post (wX_addSum_16 post (nI r) (nI (64 * s.1 + s.2)) (nI (19 * r)) f0_lines f0_tokens n) (nI r) (nI (64 * s.1 + s.2)) (nI (19 * r)) (fa_b pl') (nI (19 * r + D.length)) f0_lines f0_tokens (nI G1.length) a1 a2 a3 a4 a5 a6 a7 a8 b9 a10 := by
      intro G1 pl' b9 hG1 hb9 hg1
      have : (if pl' = true then 1 else 0) ≤ 1 := by cases pl' <;> decide
      refine fa_109 hs (by omega) (by omega) (by omega) h8 (fun z => ?_) (fun z => ?_)
      · rw [hk]
        refine ih (D ++ [e]) G1 pl' b9 n hD' hn' (by omega) hb9 ?_
        rw [hg1, if_pos z]
        rfl
      · rw [hk]
        have hh := ih (D ++ [e]) (G1 ++ [e]) pl' _ n hD' hn' (by rw [List.length_append, List.length_singleton]; omega) (fa_hold_add hb9) (by rw [hg1, if_neg z]; congr 1; funext l; rw [List.append_assoc])
        rw [List.length_append (as := G1), List.length_singleton] at hh
        exact hh
    refine ⟨pk_in r 49 hr, pk_le _ (19 * r + D.length) (fun z => absurd z (by omega)) (fun _ => ⟨pk_in (19 * r + D.length) 931 (by omega), pk_lt s.1 e.1 (fun z => ?_) (fun z => ?_) q3 q1⟩) hlim rfl (by omega) (by omega)⟩
    · refine br_t rfl (br_t rfl ?_)
      have c0 : ¬ (e.1 ≤ s.1 ∧ e.2 ≤ s.2) := by omega
      have d1 : decide (s.1 < e.1) = true := decide_eq_true z
      rw [fw_go_cons] at hgo
      cases pl with
      | false =>
        have hG' : G.length ≤ D.length := hG
        refine br_t rfl ⟨pk_in G.length 40 (by omega), nm_r (e' := upd a9 G.length (nI (64 * s.1 + s.2))) (by rw [nI_clamp (by omega)]) (nm_r (nI_1 _) ?_)⟩
        have hh := go (G ++ [s]) true _ (by rw [List.length_append, List.length_singleton]; show _ ≤ D.length + 1; omega) (fa_hold_add h9) (by
          rw [hgo, if_neg c0, d1, if_pos ⟨z, rfl⟩, Bool.or_true, Option.map_map]
          congr 1
          funext l
          simp only [Function.comp, List.append_assoc])
        rw [List.length_append (as := G), List.length_singleton] at hh
        exact hh
      | true =>
        refine br_f (by decide) ?_
        refine go G true a9 hG h9 ?_
        rw [hgo, if_neg c0, d1, if_neg (fun y => nomatch y.2), Bool.or_true, Option.map_map]
        rfl
    · refine br_f (by decide) ⟨pk_in (19 * r + D.length) 931 (by omega), pk_lt s.2 e.2 (fun w => ?_) (fun w => ?_) q4 q2⟩
      · refine br_f (by decide) ?_
        have c0 : ¬ (e.1 ≤ s.1 ∧ e.2 ≤ s.2) := by omega
        have d1 : decide (s.1 < e.1) = false := decide_eq_false (by omega)
        refine go G pl a9 hG h9 ?_
        rw [fw_go_cons] at hgo
        rw [hgo, if_neg c0, d1, if_neg (fun y => absurd y.1 (by omega)), Bool.or_false, Option.map_map]
        rfl
      · refine Hn ?_ _ _
        rw [fw_go_cons] at hgo
        rw [hgo, if_pos ⟨z, w⟩]
        rfl
theorem fa_addSum {f0_gathered : Int32} {a9 : Nat → Int32} (hr : r < 49) (hR : fw_rows R a7 a8) (hok : fw_ok R) (hs : s.1 ≤ 36 ∧ s.2 ≤ 36) (hnew : ∀ e, e ∈ fw_ad s (R r) → e.1 ≤ 18 ∧ e.2 ≤ 18)
    (H : ∀ g a7' a8' a9', fw_rows (fw_set R r (fw_ad s (R r))) a7' a8' → post (f0_lines, f0_tokens, g, a1, a2, a3, a4, a5, a6, a7', a8', a9', a10)) :
    wpX_addSum post (f0_lines, f0_tokens, f0_gathered, a1, a2, a3, a4, a5, a6, a7, a8, a9, a10) (nI r) (nI (64 * s.1 + s.2)) := by
  have hlen : (fw_ad s (R r)).length ≤ 19 := fw_len _ 0 19 (fw_ad_srt (hok r hr).1) (fun e he => ⟨Nat.zero_le _, by have := (hnew e he).1; omega⟩)
  refine nm_r (fb_19 r) ⟨(R r).length + 1, ?_⟩
  refine fa_16 hr hR hok hs (fun e g a9' => ?_) (fun l a9' e hl => ?_) (R r) [] [] false a9 _ rfl (by omega) (Nat.le_refl _) (fa_hold_nil _) ?_
  · have ad : fw_ad s (R r) = R r := by
      unfold fw_ad
      rw [e]
      rfl
    rw [ad, fw_set_self] at H
    exact H _ _ _ _ hR
  · have ad : fw_ad s (R r) = l := by
      unfold fw_ad
      rw [e]
      rfl
    rw [ad] at H hlen
    exact fa_215 hr hR hok hlen hl (fun a7' a8' h' => H _ _ _ _ h')
  · cases fw_go s false (R r) <;> rfl
end
end
section
theorem fj_get {L : List (Nat × Nat)} {i : Nat} (h : i < L.length) : L.getD i (0, 0) ∈ L := by
  rw [List.getD_eq_getElem?_getD, List.getElem?_eq_getElem h]
  exact List.getElem_mem h
theorem fj_idx {L : List (Nat × Nat)} {e : Nat × Nat} (h : e ∈ L) : ∃ i, i < L.length ∧ L.getD i (0, 0) = e := by
  obtain ⟨i, hi, e1⟩ := List.mem_iff_getElem.mp h
  refine ⟨i, hi, ?_⟩
  rw [List.getD_eq_getElem?_getD, List.getElem?_eq_getElem hi]
  exact e1
section
variable {post : St1 → Prop} {f0_lines f0_tokens : Int32} {a1 a2 a3 a4 a5 a6 a10 : Nat → Int32} {E : Nat → Nat → Nat → Nat → Prop} {R0 R : Nat → List (Nat × Nat)} {k l m : Nat}
/-- the rows R, that of l and m aside, where S stands -/
def fj_st (E : Nat → Nat → Nat → Nat → Prop) (R0 R : Nat → List (Nat × Nat)) (k l m : Nat) (S : List (Nat × Nat)) (a7 a8 : Nat → Int32) : Prop := fw_J E k R0 l m S ∧ fw_rows (fw_set R (7 * l + m) S) a7 a8
theorem fj_ok (hE : ∀ l m p q, E l m p q → l ≤ 6 ∧ m ≤ 6 ∧ p ≤ 3 ∧ q ≤ 3) (hk : k ≤ 6) (hl : l ≤ 6) (hm : m ≤ 6) (hok : fw_ok R) {S : List (Nat × Nat)} (hJ : fw_J E k R0 l m S) : fw_ok (fw_set R (7 * l + m) S) := by
  intro r hr
  by_cases c : r = 7 * l + m
  · rw [c, fw_set_s]
    exact ⟨hJ.1, fw_sm_diag hE (k := k + 1) (by omega) hl hm hJ.2.2.2.1 hJ.2.2.2.2⟩
  · rw [fw_set_n c]
    exact hok r hr
theorem fj_62 {J48 : Int32 → Int32 → Int32 → Int32 → (Nat → Int32) → (Nat → Int32) → (Nat → Int32) → (Nat → Int32) → (Nat → Int32) → (Nat → Int32) → (Nat → Int32) → (Nat → Int32) → (Nat → Int32) → (Nat → Int32) → Prop} {i : Nat}
    (hE : ∀ l m p q, E l m p q → l ≤ 6 ∧ m ≤ 6 ∧ p ≤ 3 ∧ q ≤ 3) (hI : fw_I E k R0) (hk : k ≤ 6) (hl : l ≤ 6) (hm : m ≤ 6) (lk : l ≠ k) (mk : m ≠ k) (lm : l ≠ m) (hok : fw_ok R)
    (r1 : R (7 * l + k) = R0 (7 * l + k)) (r2 : R (7 * k + m) = R0 (7 * k + m)) (hi : i < (R0 (7 * l + k)).length)
    (H : ∀ S g a7 a8 a9, fj_st E R0 R k l m S a7 a8 → (∀ i' j', i' < i + 1 → j' < (R0 (7 * k + m)).length → fw_up S (((R0 (7 * l + k)).getD i' (0, 0)).1 + ((R0 (7 * k + m)).getD j' (0, 0)).1) (((R0 (7 * l + k)).getD i' (0, 0)).2 + ((R0 (7 * k + m)).getD j' (0, 0)).2)) → J48 (nI (i + 1)) f0_lines f0_tokens g a1 a2 a3 a4 a5 a6 a7 a8 a9 a10) :
    ∀ (c j : Nat) (S : List (Nat × Nat)) (g : Int32) (a7 a8 a9 : Nat → Int32) (n : Nat), j + c = (R0 (7 * k + m)).length → c < n → fj_st E R0 R k l m S a7 a8 →
      (∀ i' j', (i' < i ∨ (i' = i ∧ j' < j)) → j' < (R0 (7 * k + m)).length → fw_up S (((R0 (7 * l + k)).getD i' (0, 0)).1 + ((R0 (7 * k + m)).getD j' (0, 0)).1) (((R0 (7 * l + k)).getD i' (0, 0)).2 + ((R0 (7 * k + m)).getD j' (0, 0)).2)) →
      wX_joinOver_62 post J48 (nI (7 * l + m)) (nI (7 * l + k)) (nI (7 * k + m)) (nI i) n (nI j) f0_lines f0_tokens g a1 a2 a3 a4 a5 a6 a7 a8 a9 a10 := by
  have ok0 := fw_I_ok hE (by omega) hI
  have len1 := fw_ok_len ok0 (r := 7 * l + k) (by omega)
  have len2 := fw_ok_len ok0 (r := 7 * k + m) (by omega)
  intro c
  induction c with
  | zero =>
    intro j S g a7 a8 a9 n hj hn hS hD
    obtain ⟨n, rfl⟩ : ∃ k, n = k + 1 := ⟨n - 1, by omega⟩
    have h7 : a7 (nI (7 * k + m)).toNatClampNeg = nI (R0 (7 * k + m)).length := by
      rw [nI_clamp (by omega), (hS.2 (7 * k + m) (by omega)).1, fw_set_n (by omega), r2]
    refine ⟨pk_in (7 * k + m) 49 (by omega), pk_le (R0 (7 * k + m)).length j (fun _ => nm_r (nI_1 i) (H S g a7 a8 a9 hS (fun i' j' hi' hj' => hD i' j' (by omega) hj'))) (fun z => absurd z (by omega)) h7 rfl (by omega) (by omega)⟩
  | succ c ih =>
    intro j S g a7 a8 a9 n hj hn hS hD
    obtain ⟨n, rfl⟩ : ∃ k, n = k + 1 := ⟨n - 1, by omega⟩
    have hj2 : j < (R0 (7 * k + m)).length := by omega
    have h7 : a7 (nI (7 * k + m)).toNatClampNeg = nI (R0 (7 * k + m)).length := by
      rw [nI_clamp (by omega), (hS.2 (7 * k + m) (by omega)).1, fw_set_n (by omega), r2]
    have e1 := fj_get hi
    have e2 := fj_get hj2
    have b1 := (ok0 (7 * l + k) (by omega)).2 _ e1
    have b2 := (ok0 (7 * k + m) (by omega)).2 _ e2
    have x1 : 19 * nI (7 * l + k) + nI i = nI (19 * (7 * l + k) + i) := by rw [fb_19, nI_add]
    have x2 : 19 * nI (7 * k + m) + nI j = nI (19 * (7 * k + m) + j) := by rw [fb_19, nI_add]
    have v1 : a8 (19 * (7 * l + k) + i) = nI (64 * ((R0 (7 * l + k)).getD i (0, 0)).1 + ((R0 (7 * l + k)).getD i (0, 0)).2) := by
      have := (hS.2 (7 * l + k) (by omega)).2 i
      rw [fw_set_n (by omega), r1] at this
      exact this hi
    have v2 : a8 (19 * (7 * k + m) + j) = nI (64 * ((R0 (7 * k + m)).getD j (0, 0)).1 + ((R0 (7 * k + m)).getD j (0, 0)).2) := by
      have := (hS.2 (7 * k + m) (by omega)).2 j
      rw [fw_set_n (by omega), r2] at this
      exact this hj2
    generalize he1 : (R0 (7 * l + k)).getD i (0, 0) = d1 at e1 b1 v1
    generalize he2 : (R0 (7 * k + m)).getD j (0, 0) = d2 at e2 b2 v2
    have vs : a8 (19 * nI (7 * l + k) + nI i).toNatClampNeg + a8 (19 * nI (7 * k + m) + nI j).toNatClampNeg = nI (64 * (d1.1 + d2.1) + (d1.2 + d2.2)) := by
      rw [pk_cl _ x1 (by omega), pk_cl _ x2 (by omega), v1, v2, nI_add]
      congr 1
      omega
    refine ⟨pk_in (7 * k + m) 49 (by omega), pk_le (R0 (7 * k + m)).length j (fun z => absurd z (by omega)) (fun _ => ⟨pk_in _ 931 (by omega) x1, pk_in _ 931 (by omega) x2, ?_⟩) h7 rfl (by omega) (by omega)⟩
    rw [vs]
    have hJ' := fw_J_s hI hk hl hm lk mk lm e1 e2 hS.1
    refine fa_addSum (s := (d1.1 + d2.1, d1.2 + d2.2)) (R := fw_set R (7 * l + m) S) (by omega) hS.2 (fj_ok hE hk hl hm hok hS.1) ⟨by show d1.1 + d2.1 ≤ 36; omega, by show d1.2 + d2.2 ≤ 36; omega⟩ ?_ ?_
    · rw [fw_set_s]
      exact fw_sm_diag hE (k := k + 1) (by omega) hl hm hJ'.2.2.2.1 hJ'.2.2.2.2
    · rw [fw_set_s, fw_set_set]
      intro g' a7' a8' a9' hr'
      refine nm_r (nI_1 j) (ih (j + 1) _ g' a7' a8' a9' n (by omega) (by omega) ⟨hJ', hr'⟩ (fun i' j' hij hj' => ?_))
      by_cases z : i' = i ∧ j' = j
      · rw [z.1, z.2, he1, he2]
        exact fw_ad_up.mpr (Or.inr ⟨Nat.le_refl _, Nat.le_refl _⟩)
      · exact fw_ad_up.mpr (Or.inl (hD i' j' (by omega) hj'))
theorem fj_48 (hE : ∀ l m p q, E l m p q → l ≤ 6 ∧ m ≤ 6 ∧ p ≤ 3 ∧ q ≤ 3) (hI : fw_I E k R0) (hk : k ≤ 6) (hl : l ≤ 6) (hm : m ≤ 6) (lk : l ≠ k) (mk : m ≠ k) (lm : l ≠ m) (hok : fw_ok R)
    (r1 : R (7 * l + k) = R0 (7 * l + k)) (r2 : R (7 * k + m) = R0 (7 * k + m))
    (H : ∀ S g a7 a8 a9, fj_st E R0 R k l m S a7 a8 → fw_D k R0 l m S → post (f0_lines, f0_tokens, g, a1, a2, a3, a4, a5, a6, a7, a8, a9, a10)) :
    ∀ (c i : Nat) (S : List (Nat × Nat)) (g : Int32) (a7 a8 a9 : Nat → Int32) (n : Nat), i + c = (R0 (7 * l + k)).length → c < n → fj_st E R0 R k l m S a7 a8 →
      (∀ i' j', i' < i → j' < (R0 (7 * k + m)).length → fw_up S (((R0 (7 * l + k)).getD i' (0, 0)).1 + ((R0 (7 * k + m)).getD j' (0, 0)).1) (((R0 (7 * l + k)).getD i' (0, 0)).2 + ((R0 (7 * k + m)).getD j' (0, 0)).2)) →
      wX_joinOver_48 post (nI (7 * l + m)) (nI (7 * l + k)) (nI (7 * k + m)) n (nI i) f0_lines f0_tokens g a1 a2 a3 a4 a5 a6 a7 a8 a9 a10 := by
  have ok0 := fw_I_ok hE (by omega) hI
  have len1 := fw_ok_len ok0 (r := 7 * l + k) (by omega)
  intro c
  induction c with
  | zero =>
    intro i S g a7 a8 a9 n hi hn hS hD
    obtain ⟨n, rfl⟩ : ∃ k, n = k + 1 := ⟨n - 1, by omega⟩
    have h7 : a7 (nI (7 * l + k)).toNatClampNeg = nI (R0 (7 * l + k)).length := by
      rw [nI_clamp (by omega), (hS.2 (7 * l + k) (by omega)).1, fw_set_n (by omega), r1]
    refine ⟨pk_in (7 * l + k) 49 (by omega), pk_le (R0 (7 * l + k)).length i (fun _ => H S g a7 a8 a9 hS (fun e1 e2 h1 h2 => ?_)) (fun z => absurd z (by omega)) h7 rfl (by omega) (by omega)⟩
    obtain ⟨i1, q1, rfl⟩ := fj_idx h1
    obtain ⟨j1, q2, rfl⟩ := fj_idx h2
    exact hD i1 j1 (by omega) q2
  | succ c ih =>
    intro i S g a7 a8 a9 n hi hn hS hD
    obtain ⟨n, rfl⟩ : ∃ k, n = k + 1 := ⟨n - 1, by omega⟩
    have h7 : a7 (nI (7 * l + k)).toNatClampNeg = nI (R0 (7 * l + k)).length := by
      rw [nI_clamp (by omega), (hS.2 (7 * l + k) (by omega)).1, fw_set_n (by omega), r1]
    refine ⟨pk_in (7 * l + k) 49 (by omega), pk_le (R0 (7 * l + k)).length i (fun z => absurd z (by omega)) (fun _ => ⟨(R0 (7 * k + m)).length + 1, ?_⟩) h7 rfl (by omega) (by omega)⟩
    exact fj_62 hE hI hk hl hm lk mk lm hok r1 r2 (by omega) (fun S' g' a7' a8' a9' hS' hD' => ih (i + 1) S' g' a7' a8' a9' n (by omega) (by omega) hS' (fun i' j' hi' hj' => hD' i' j' hi' hj')) (R0 (7 * k + m)).length 0 S g a7 a8 a9 _ (by omega) (by omega) hS (fun i' j' hij hj' => hD i' j' (by omega) hj')
theorem fj_join {g : Int32} {a7 a8 a9 : Nat → Int32} (hE : ∀ l m p q, E l m p q → l ≤ 6 ∧ m ≤ 6 ∧ p ≤ 3 ∧ q ≤ 3) (hI : fw_I E k R0) (hk : k ≤ 6) (hl : l ≤ 6) (hm : m ≤ 6) (hok : fw_ok R) (hR : fw_rows R a7 a8)
    (r0 : R (7 * l + m) = R0 (7 * l + m)) (r1 : R (7 * l + k) = R0 (7 * l + k)) (r2 : R (7 * k + m) = R0 (7 * k + m))
    (H0 : (l = k ∨ m = k ∨ l = m) → post (f0_lines, f0_tokens, g, a1, a2, a3, a4, a5, a6, a7, a8, a9, a10))
    (H : l ≠ k → m ≠ k → l ≠ m → ∀ S g a7 a8 a9, fw_J E k R0 l m S → fw_rows (fw_set R (7 * l + m) S) a7 a8 → fw_D k R0 l m S → post (f0_lines, f0_tokens, g, a1, a2, a3, a4, a5, a6, a7, a8, a9, a10)) :
    wpX_joinOver post (f0_lines, f0_tokens, g, a1, a2, a3, a4, a5, a6, a7, a8, a9, a10) (nI (7 * l + m)) (nI k) := by
  have q1 : nI (7 * l + m) / 7 = nI l := by
    rw [show (7 : Int32) = nI 7 from rfl, pk_div (by omega) (by omega) (by omega), show (7 * l + m) / 7 = l by omega]
  have q2 : nI (7 * l + m) - nI (7 * l + m) / 7 * 7 = nI m := by
    rw [show (7 : Int32) = nI 7 from rfl, pk_rem (by omega) (by omega) (by omega), show (7 * l + m) % 7 = m by omega]
  have q3 : nI (7 * l + m) - nI (7 * l + m) / 8 * 8 = nI ((7 * l + m) % 8) := by
    rw [show (8 : Int32) = nI 8 from rfl, pk_rem (by omega) (by omega) (by omega)]
  refine ⟨by decide, nm_r (e' := nI (7 * l + k)) (by rw [q1, fb_7]) ⟨by decide, nm_r (e' := nI (7 * k + m)) (by rw [q2, fb_7]) ⟨by decide, pk_eq l k (fun z => H0 (Or.inl z)) (fun z1 => ⟨by decide, pk_eq m k (fun z => H0 (Or.inr (Or.inl z))) (fun z2 => ⟨by decide, pk_eq ((7 * l + m) % 8) 0 (fun z => H0 (Or.inr (Or.inr (by omega)))) (fun z3 => ⟨(R0 (7 * l + k)).length + 1, ?_⟩) q3 rfl (by omega) (by omega)⟩) q2 rfl (by omega) (by omega)⟩) q1 rfl (by omega) (by omega)⟩⟩⟩
  have lm : l ≠ m := by omega
  refine fj_48 hE hI hk hl hm z1 z2 lm hok r1 r2 (fun S g a7 a8 a9 hS hD => H z1 z2 lm S g a7 a8 a9 hS.1 hS.2 hD) (R0 (7 * l + k)).length 0 (R (7 * l + m)) g a7 a8 a9 _ (by omega) (by omega) ⟨?_, ?_⟩ (fun i' j' hi' => absurd hi' (by omega))
  · rw [r0]
    exact fw_J_0 hI hl hm
  · rw [fw_set_self]
    exact hR
end
end
section
/-- how many of the tokens below c lead to the time (a, b) at the place m -/
def ft_sum (R : Nat → List (Nat × Nat)) (P X Y : Nat → Nat) (m a b : Nat) : Nat → Int32
  | 0 => 0
  | k + 1 => if fc_hit (R (7 * P k + m)) (X k) (Y k) a b = true then ft_sum R P X Y m a b k + 1 else ft_sum R P X Y m a b k
def ft_marks (R : Nat → List (Nat × Nat)) (P X Y : Nat → Nat) (t : Nat) (M : Nat → Int32) : Prop := ∀ m a b, m ≤ 6 → a ≤ 15 → b ≤ 15 → M (256 * m + 16 * a + b) = ft_sum R P X Y m a b t
/-- the lines -/
def fs_L (n : Nat) (F T A B : Nat → Nat) (a1 a2 a3 a4 : Nat → Int32) : Prop := n ≤ 12 ∧ ∀ k, k < n → a1 k = nI (F k) ∧ a2 k = nI (T k) ∧ a3 k = nI (A k) ∧ a4 k = nI (B k) ∧ F k ≤ 6 ∧ T k ≤ 6 ∧ A k ≤ 3 ∧ B k ≤ 3
/-- the tokens -/
def fs_T (t : Nat) (P X Y : Nat → Nat) (a5 a6 : Nat → Int32) : Prop := t ≤ 20 ∧ ∀ k, k < t → a5 k = nI (P k) ∧ a6 k = nI (16 * X k + Y k) ∧ P k ≤ 6 ∧ X k ≤ 15 ∧ Y k ≤ 15
theorem fs_E {n : Nat} {F T A B : Nat → Nat} {a1 a2 a3 a4 : Nat → Int32} (h : fs_L n F T A B a1 a2 a3 a4) : ∀ l m p q, fw_E n F T A B l m p q → l ≤ 6 ∧ m ≤ 6 ∧ p ≤ 3 ∧ q ≤ 3 := by
  rintro l m p q ⟨k, hk, rfl, rfl, rfl, rfl⟩
  exact (h.2 k hk).2.2.2.2
section
variable {post : St1 → Prop} {f0_lines f0_tokens : Int32} {a1 a2 a3 a4 a5 a6 : Nat → Int32}
theorem ft_167 {t : Nat} {P X Y : Nat → Nat} {R : Nat → List (Nat × Nat)} {g : Int32} {a7 a8 a9 : Nat → Int32} (hT : fs_T t P X Y a5 a6) (hR : fw_rows R a7 a8) (hok : fw_ok R)
    (H : ∀ M, ft_marks R P X Y t M → post (f0_lines, nI t, g, a1, a2, a3, a4, a5, a6, a7, a8, a9, M)) :
    ∀ (c k : Nat) (M : Nat → Int32) (n : Nat), k + c = t → c < n → ft_marks R P X Y k M → wX_rebuild_167 post n (nI k) f0_lines (nI t) g a1 a2 a3 a4 a5 a6 a7 a8 a9 M := by
  have ht := hT.1
  intro c
  induction c with
  | zero =>
    intro k M n hk hn hM
    obtain ⟨n, rfl⟩ : ∃ k, n = k + 1 := ⟨n - 1, by omega⟩
    obtain rfl : k = t := by omega
    exact pk_le k k (fun _ => H M hM) (fun z => absurd z (by omega))
  | succ c ih =>
    intro k M n hk hn hM
    obtain ⟨n, rfl⟩ : ∃ k, n = k + 1 := ⟨n - 1, by omega⟩
    obtain ⟨t1, t2, t3, t4, t5⟩ := hT.2 k (by omega)
    refine pk_le t k (fun z => absurd z (by omega)) (fun _ => ⟨pk_in k 20 (by omega), pk_in k 20 (by omega), ?_⟩)
    rw [nI_clamp (show k < 2 ^ 31 by omega), t1, t2]
    refine fc_count hR hok t3 t4 t5 (fun M' hM' => nm_r (nI_1 k) (ih (k + 1) M' n (by omega) (by omega) (fun m a b hm ha hb => ?_)))
    rw [hM' m a b hm ha hb, hM m a b hm ha hb]
    rfl
theorem ft_145 {t : Nat} {P X Y : Nat → Nat} {R : Nat → List (Nat × Nat)} {g : Int32} {a7 a8 a9 a10 : Nat → Int32} (hT : fs_T t P X Y a5 a6) (hR : fw_rows R a7 a8) (hok : fw_ok R)
    (H : ∀ M, ft_marks R P X Y t M → post (f0_lines, nI t, g, a1, a2, a3, a4, a5, a6, a7, a8, a9, M)) :
    ∃ n, wX_rebuild_145 post f0_lines (nI t) g n 0 a1 a2 a3 a4 a5 a6 a7 a8 a9 a10 := by
  refine pk_loop (fun n i s => wX_rebuild_145 post f0_lines (nI t) g n (nI i) a1 a2 a3 a4 a5 a6 a7 a8 a9 s) (fun i s => ∀ j, j < i → s j = 0) 1792 0 a10 (by omega) (fun j hj => absurd hj (by omega)) ?_ ?_
  · intro n s hs
    refine pk_le 1792 1792 (fun _ => ⟨t + 1, ?_⟩) (fun z => absurd z (by omega))
    exact ft_167 hT hR hok H t 0 s (t + 1) (by omega) (by omega) (fun m a b hm ha hb => hs _ (by omega))
  · intro n i s hi hs hw
    refine pk_le 1792 i (fun z => absurd z (by omega)) (fun _ => ⟨pk_in i 1792 (by omega), nm_r (e' := upd s i 0) (by rw [nI_clamp (by omega)]) (nm_r (nI_1 i) (hw _ (fun j hj => ?_)))⟩)
    by_cases c : j = i
    · rw [c, pk_us]
    · rw [pk_un c]
      exact hs j (by omega)
/-- the rows within the phase k, those below r joined -/
def ft_inv (E : Nat → Nat → Nat → Nat → Prop) (k : Nat) (R0 : Nat → List (Nat × Nat)) (r : Nat) (R : Nat → List (Nat × Nat)) : Prop :=
  (∀ r', r ≤ r' → r' < 49 → R r' = R0 r') ∧ (∀ l m, l ≤ 6 → m ≤ 6 → (l = k ∨ m = k) → R (7 * l + m) = R0 (7 * l + m)) ∧ (∀ l m, l ≤ 6 → m ≤ 6 → 7 * l + m < r → fw_J E k R0 l m (R (7 * l + m)) ∧ fw_D k R0 l m (R (7 * l + m)))
theorem ft_inv_ok {E : Nat → Nat → Nat → Nat → Prop} (hE : ∀ l m p q, E l m p q → l ≤ 6 ∧ m ≤ 6 ∧ p ≤ 3 ∧ q ≤ 3) {k : Nat} {R0 : Nat → List (Nat × Nat)} {r : Nat} {R : Nat → List (Nat × Nat)} (hk : k ≤ 6) (hI : fw_I E k R0) (h : ft_inv E k R0 r R) : fw_ok R := by
  intro r' hr'
  obtain ⟨l, m, hl, hm, rfl⟩ : ∃ l m, l ≤ 6 ∧ m ≤ 6 ∧ r' = 7 * l + m := ⟨r' / 7, r' % 7, by omega, by omega, by omega⟩
  by_cases c : 7 * l + m < r
  · have hJ := (h.2.2 l m hl hm c).1
    exact ⟨hJ.1, fw_sm_diag hE (k := k + 1) (by omega) hl hm hJ.2.2.2.1 hJ.2.2.2.2⟩
  · rw [h.1 _ (by omega) hr']
    exact fw_I_ok hE (by omega) hI _ hr'
theorem ft_119 {J111 : Int32 → Int32 → Int32 → Int32 → (Nat → Int32) → (Nat → Int32) → (Nat → Int32) → (Nat → Int32) → (Nat → Int32) → (Nat → Int32) → (Nat → Int32) → (Nat → Int32) → (Nat → Int32) → (Nat → Int32) → Prop} {E : Nat → Nat → Nat → Nat → Prop} {k : Nat} {R0 : Nat → List (Nat × Nat)} {a10 : Nat → Int32}
    (hE : ∀ l m p q, E l m p q → l ≤ 6 ∧ m ≤ 6 ∧ p ≤ 3 ∧ q ≤ 3) (hI : fw_I E k R0) (hk : k ≤ 6)
    (H : ∀ R g a7 a8 a9, fw_I E (k + 1) R → fw_rows R a7 a8 → J111 (nI (k + 1)) f0_lines f0_tokens g a1 a2 a3 a4 a5 a6 a7 a8 a9 a10) :
    ∀ (c r : Nat) (R : Nat → List (Nat × Nat)) (g : Int32) (a7 a8 a9 : Nat → Int32) (n : Nat), r + c = 49 → c < n → fw_rows R a7 a8 → ft_inv E k R0 r R → wX_rebuild_119 post J111 (nI k) n (nI r) f0_lines f0_tokens g a1 a2 a3 a4 a5 a6 a7 a8 a9 a10 := by
  intro c
  induction c with
  | zero =>
    intro r R g a7 a8 a9 n hr hn hR hV
    obtain ⟨n, rfl⟩ : ∃ k, n = k + 1 := ⟨n - 1, by omega⟩
    refine pk_le 49 r (fun _ => nm_r (nI_1 k) (H R g a7 a8 a9 (fw_phase hI hk (fun l m hl hm => hV.2.2 l m hl hm (by omega))) hR)) (fun z => absurd z (by omega))
  | succ c ih =>
    intro r R g a7 a8 a9 n hr hn hR hV
    obtain ⟨n, rfl⟩ : ∃ k, n = k + 1 := ⟨n - 1, by omega⟩
    obtain ⟨l, m, hl, hm, rfl⟩ : ∃ l m, l ≤ 6 ∧ m ≤ 6 ∧ r = 7 * l + m := ⟨r / 7, r % 7, by omega, by omega, by omega⟩
    have r0 : R (7 * l + m) = R0 (7 * l + m) := hV.1 _ (Nat.le_refl _) (by omega)
    refine pk_le 49 (7 * l + m) (fun z => absurd z (by omega)) (fun _ => ?_)
    refine fj_join hE hI hk hl hm (ft_inv_ok hE hk hI hV) hR r0 (hV.2.1 l k hl hk (Or.inr rfl)) (hV.2.1 k m hk hm (Or.inl rfl)) (fun z => ?_) (fun z1 z2 z3 S g' a7' a8' a9' hJ hS hD => ?_)
    · refine nm_r (nI_1 _) (ih (7 * l + m + 1) R g a7 a8 a9 n (by omega) (by omega) hR ⟨fun r' h1 h2 => hV.1 r' (by omega) h2, hV.2.1, fun l' m' hl' hm' h' => ?_⟩)
      by_cases q : 7 * l' + m' = 7 * l + m
      · obtain ⟨rfl, rfl⟩ : l' = l ∧ m' = m := by omega
        rw [r0]
        exact ⟨fw_J_0 hI hl' hm', fw_D_skip hI hk hl' hm' z⟩
      · exact hV.2.2 l' m' hl' hm' (by omega)
    · refine nm_r (nI_1 _) (ih (7 * l + m + 1) _ g' a7' a8' a9' n (by omega) (by omega) hS ⟨fun r' h1 h2 => ?_, fun l' m' hl' hm' h' => ?_, fun l' m' hl' hm' h' => ?_⟩)
      · rw [fw_set_n (by omega)]
        exact hV.1 r' (by omega) h2
      · rw [fw_set_n (by omega)]
        exact hV.2.1 l' m' hl' hm' h'
      · by_cases q : 7 * l' + m' = 7 * l + m
        · obtain ⟨rfl, rfl⟩ : l' = l ∧ m' = m := by omega
          rw [fw_set_s]
          exact ⟨hJ, hD⟩
        · rw [fw_set_n q]
          exact hV.2.2 l' m' hl' hm' (by omega)
theorem ft_111 {E : Nat → Nat → Nat → Nat → Prop} {a10 : Nat → Int32} (hE : ∀ l m p q, E l m p q → l ≤ 6 ∧ m ≤ 6 ∧ p ≤ 3 ∧ q ≤ 3)
    (H : ∀ R g a7 a8 a9, fw_I E 7 R → fw_rows R a7 a8 → ∃ n, wX_rebuild_145 post f0_lines f0_tokens g n 0 a1 a2 a3 a4 a5 a6 a7 a8 a9 a10) :
    ∀ (c k : Nat) (R : Nat → List (Nat × Nat)) (g : Int32) (a7 a8 a9 : Nat → Int32) (n : Nat), k + c = 7 → c < n → fw_I E k R → fw_rows R a7 a8 → wX_rebuild_111 post n (nI k) f0_lines f0_tokens g a1 a2 a3 a4 a5 a6 a7 a8 a9 a10 := by
  intro c
  induction c with
  | zero =>
    intro k R g a7 a8 a9 n hk hn hI hR
    obtain ⟨n, rfl⟩ : ∃ k, n = k + 1 := ⟨n - 1, by omega⟩
    obtain rfl : k = 7 := by omega
    exact pk_le 7 7 (fun _ => H R g a7 a8 a9 hI hR) (fun z => absurd z (by omega))
  | succ c ih =>
    intro k R g a7 a8 a9 n hk hn hI hR
    obtain ⟨n, rfl⟩ : ∃ k, n = k + 1 := ⟨n - 1, by omega⟩
    refine pk_le 7 k (fun z => absurd z (by omega)) (fun _ => ⟨50, ?_⟩)
    exact ft_119 hE hI (by omega) (fun R' g' a7' a8' a9' hI' hR' => ih (k + 1) R' g' a7' a8' a9' n (by omega) (by omega) hI' hR') 49 0 R g a7 a8 a9 50 (by omega) (by omega) hR ⟨fun _ _ _ => rfl, fun _ _ _ _ _ => rfl, fun l m _ _ h => absurd h (by omega)⟩
theorem ft_44 {N : Nat} {F T A B : Nat → Nat} {a10 : Nat → Int32} (hL : fs_L N F T A B a1 a2 a3 a4)
    (H : ∀ R g a7 a8 a9, fw_I (fw_E N F T A B) 0 R → fw_rows R a7 a8 → ∃ n, wX_rebuild_111 post n 0 (nI N) f0_tokens g a1 a2 a3 a4 a5 a6 a7 a8 a9 a10) :
    ∀ (c k : Nat) (R : Nat → List (Nat × Nat)) (g : Int32) (a7 a8 a9 : Nat → Int32) (n : Nat), k + c = N → c < n → fw_I (fw_E k F T A B) 0 R → fw_rows R a7 a8 → wX_rebuild_44 post n (nI k) (nI N) f0_tokens g a1 a2 a3 a4 a5 a6 a7 a8 a9 a10 := by
  have hN := hL.1
  intro c
  induction c with
  | zero =>
    intro k R g a7 a8 a9 n hk hn hI hR
    obtain ⟨n, rfl⟩ : ∃ k, n = k + 1 := ⟨n - 1, by omega⟩
    obtain rfl : k = N := by omega
    exact pk_le k k (fun _ => H R g a7 a8 a9 hI hR) (fun z => absurd z (by omega))
  | succ c ih =>
    intro k R g a7 a8 a9 n hk hn hI hR
    obtain ⟨n, rfl⟩ : ∃ k, n = k + 1 := ⟨n - 1, by omega⟩
    obtain ⟨t1, t2, t3, t4, t5, t6, t7, t8⟩ := hL.2 k (by omega)
    have hE : ∀ l m p q, fw_E k F T A B l m p q → l ≤ 6 ∧ m ≤ 6 ∧ p ≤ 3 ∧ q ≤ 3 := by
      rintro l m p q ⟨k', hk', rfl, rfl, rfl, rfl⟩
      exact (hL.2 k' (by omega)).2.2.2.2
    have hE' : ∀ l m p q, fw_E (k + 1) F T A B l m p q → l ≤ 6 ∧ m ≤ 6 ∧ p ≤ 3 ∧ q ≤ 3 := by
      rintro l m p q ⟨k', hk', rfl, rfl, rfl, rfl⟩
      exact (hL.2 k' (by omega)).2.2.2.2
    refine pk_le N k (fun z => absurd z (by omega)) (fun _ => ⟨pk_in k 12 (by omega), pk_in k 12 (by omega), ?_⟩)
    rw [nI_clamp (show k < 2 ^ 31 by omega), t1, t2, t3, t4]
    refine pk_eq (F k) (T k) (fun z => nm_r (nI_1 k) (ih (k + 1) R g a7 a8 a9 n (by omega) (by omega) (fw_I_self hI z) hR)) (fun z => ⟨pk_in k 12 (by omega), pk_in k 12 (by omega), pk_in k 12 (by omega), pk_in k 12 (by omega), ?_⟩)
    rw [fb_7, fb_64]
    have hI' := fw_I_line t5 t6 hI z
    have ok' := fw_I_ok hE' (by omega) hI' (7 * F k + T k) (by omega)
    rw [fw_set_s] at ok'
    exact fa_addSum (s := (A k, B k)) (by omega) hR (fw_I_ok hE (by omega) hI) ⟨by show A k ≤ 36; omega, by show B k ≤ 36; omega⟩ ok'.2 (fun g' a7' a8' a9' hR' => nm_r (nI_1 k) (ih (k + 1) _ g' a7' a8' a9' n (by omega) (by omega) hI' hR'))
theorem ft_rebuild {N t : Nat} {F T A B P X Y : Nat → Nat} {g : Int32} {a7 a8 a9 a10 : Nat → Int32} (hL : fs_L N F T A B a1 a2 a3 a4) (hT : fs_T t P X Y a5 a6)
    (H : ∀ R g a7 a8 a9 M, fw_rows R a7 a8 → fw_fin (fw_E N F T A B) R → ft_marks R P X Y t M → post (nI N, nI t, g, a1, a2, a3, a4, a5, a6, a7, a8, a9, M)) :
    wpX_rebuild post (nI N, nI t, g, a1, a2, a3, a4, a5, a6, a7, a8, a9, a10) := by
  refine pk_loop (σ := (Nat → Int32) × (Nat → Int32)) (fun n i s => wX_rebuild_2 post (nI N) (nI t) g n (nI i) a1 a2 a3 a4 a5 a6 s.1 s.2 a9 a10) (fun i s => ∀ r, r < i → s.1 r = nI (fw_R0 r).length ∧ s.2 (19 * r) = 0) 49 0 (a7, a8) (by omega) (fun j hj => absurd hj (by omega)) ?_ ?_
  · intro n s hs
    have hE := fs_E hL
    refine pk_le 49 49 (fun _ => ⟨N + 1, ?_⟩) (fun z => absurd z (by omega))
    refine ft_44 hL (fun R g a7 a8 a9 hI hR => ⟨8, ft_111 hE (fun R g a7 a8 a9 hI hR => ft_145 hT hR (fw_I_ok hE (by omega) hI) (fun M hM => H R g a7 a8 a9 M hR (fw_I_fin hE hI) hM)) 7 0 R g a7 a8 a9 8 (by omega) (by omega) hI hR⟩) N 0 fw_R0 g s.1 s.2 a9 (N + 1) (by omega) (by omega) (fw_I_0 F T A B) (fun r hr => ⟨(hs r hr).1, fun j hj => ?_⟩)
    have h2 := (hs r hr).2
    revert hj
    unfold fw_R0
    by_cases c : r % 8 = 0
    · rw [if_pos c]
      intro hj
      have hj : j < 1 := hj
      obtain rfl : j = 0 := by omega
      exact h2
    · rw [if_neg c]
      intro hj
      exact absurd hj (by simp)
  · intro n i s hi hs hw
    have q3 : nI i - nI i / 8 * 8 = nI (i % 8) := by
      rw [show (8 : Int32) = nI 8 from rfl, pk_rem (by omega) (by omega) (by omega)]
    have st : ∀ z : Nat, z = (fw_R0 i).length → wX_rebuild_25 post (wX_rebuild_2 post (nI N) (nI t) g n) (nI i) (nI z) (nI i) (nI N) (nI t) g a1 a2 a3 a4 a5 a6 s.1 s.2 a9 a10 := by
      intro z hz
      refine ⟨pk_in i 49 hi, nm_r (e' := upd s.1 i (nI z)) (by rw [nI_clamp (by omega)]) ⟨pk_in _ 931 (by omega) (fb_19 i), nm_r (e' := upd s.2 (19 * i) 0) (by rw [pk_cl _ (fb_19 i) (by omega)]) (nm_r (nI_1 i) (hw (upd s.1 i (nI z), upd s.2 (19 * i) 0) (fun r hr => ?_)))⟩⟩
      show upd s.1 i (nI z) r = nI (fw_R0 r).length ∧ upd s.2 (19 * i) 0 (19 * r) = 0
      by_cases c : r = i
      · rw [c, pk_us, pk_us, hz]
        exact ⟨rfl, rfl⟩
      · rw [pk_un c, pk_un (by omega)]
        exact hs r (by omega)
    refine pk_le 49 i (fun z => absurd z (by omega)) (fun _ => ⟨by decide, pk_eq (i % 8) 0 (fun z => st 1 ?_) (fun z => st 0 ?_) q3 rfl (by omega) (by omega)⟩)
    · unfold fw_R0
      rw [if_pos z]
      rfl
    · unfold fw_R0
      rw [if_neg z]
      rfl
end
end
section
/-- the mark of the time (a, b) at the place m is above 0 -/
def fq_S (M : Nat → Int32) (m a b : Nat) : Bool := decide (¬ M (256 * m + 16 * a + b) ≤ 0)
theorem fq_S_t {M : Nat → Int32} {m a b : Nat} (h : fq_S M m a b = true) : ¬ M (256 * m + 16 * a + b) ≤ 0 := of_decide_eq_true h
theorem fq_S_f {M : Nat → Int32} {m a b : Nat} (h : fq_S M m a b = false) : M (256 * m + 16 * a + b) ≤ 0 := Decidable.not_not.mp (of_decide_eq_false h)
theorem fq_lts {a x p : Nat} (ha : a ≤ 100) (hx : x ≤ 100) (hp : p ≤ 100) : nI a - nI x < nI p ↔ a < x + p := by
  rw [Int32.lt_iff_toInt_lt, pk_sub_toInt (by omega) (by omega), nI_toInt (by omega)]
  omega
theorem fq_place {post : Int32 → Prop} {l : Nat} (hl : l ≤ 6) (H : post 1) : wpX_isPlace post () (nI l) :=
  br_f (nI_pos (by omega)) (pk_lt 6 l (fun z => absurd z (by omega)) (fun _ => H))
theorem fq_time {post : Int32 → Prop} {a b : Nat} (ha : a ≤ 15) (hb : b ≤ 15) (H : post 1) : wpX_isTime post () (nI a) (nI b) :=
  br_f (nI_pos (by omega)) (pk_lt 15 a (fun z => absurd z (by omega)) (fun _ => br_f (nI_pos (by omega)) (pk_lt 15 b (fun z => absurd z (by omega)) (fun _ => H))))
/-- ready's answer from the tokens k, k + 1, .. (c of them): h: the token lies there, r: it leads there -/
def fq_rd (h r : Nat → Bool) : Nat → Nat → Nat → Int32
  | 0, _, own => if own = 0 then 0 else 1
  | c + 1, k, own => if h k = true then fq_rd h r c (k + 1) (own + 1) else if r k = true then 0 else fq_rd h r c (k + 1) own
theorem fq_rd_eq {h r h' r' : Nat → Bool} {t : Nat} (e1 : ∀ k, k < t → h k = h' k) (e2 : ∀ k, k < t → r k = r' k) : ∀ c k own, k + c ≤ t → fq_rd h r c k own = fq_rd h' r' c k own
  | 0, _, _, _ => rfl
  | c + 1, k, own, hk => by
    unfold fq_rd
    rw [e1 k (by omega), e2 k (by omega), fq_rd_eq e1 e2 c (k + 1) (own + 1) (by omega), fq_rd_eq e1 e2 c (k + 1) own (by omega)]
/-- an entry leads from the time (x, y) to a time up to (a, b) -/
def fq_rb (L : List (Nat × Nat)) (x y a b : Nat) : Bool := L.any (fun e => decide (x + e.1 ≤ a ∧ y + e.2 ≤ b))
theorem fq_rb_iff {L : List (Nat × Nat)} {x y a b : Nat} : fq_rb L x y a b = true ↔ ∃ e, e ∈ L ∧ x + e.1 ≤ a ∧ y + e.2 ≤ b := by
  unfold fq_rb
  rw [List.any_eq_true]
  constructor
  · rintro ⟨e, he, h⟩
    exact ⟨e, he, of_decide_eq_true h⟩
  · rintro ⟨e, he, h⟩
    exact ⟨e, he, decide_eq_true h⟩
theorem fq_rb_cons {L : List (Nat × Nat)} {e : Nat × Nat} {x y a b : Nat} : fq_rb (e :: L) x y a b = (decide (x + e.1 ≤ a ∧ y + e.2 ≤ b) || fq_rb L x y a b) := rfl
section
variable {post : Int32 → Prop} {f0_lines f0_tokens f0_gathered : Int32} {a1 a2 a3 a4 a5 a6 a7 a8 a9 a10 : Nat → Int32}
theorem fq_first {m a best : Nat} (hm : m ≤ 6) (ha : a ≤ 15) (hb : best ≤ 16) (H : post (nI (fr_f (fq_S a10 m a) best 0))) :
    wpX_firstMark post (f0_lines, f0_tokens, f0_gathered, a1, a2, a3, a4, a5, a6, a7, a8, a9, a10) (nI m) (nI a) (nI best) := by
  obtain ⟨b1, b2, b3, b4⟩ := fr_f_sp (fq_S a10 m a) best 0
  generalize fr_f (fq_S a10 m a) best 0 = d at b1 b2 b3 b4 H
  refine pk_loop (σ := Unit) (fun n i _ => wX_firstMark_3 post (nI m) (nI a) (nI best) f0_lines f0_tokens f0_gathered a1 a2 a3 a4 a5 a6 a7 a8 a9 a10 n (nI i)) (fun _ _ => True) d 0 () (by omega) trivial ?_ ?_
  · intro n _ _
    have hv := fb_ix m a d
    refine pk_le best d (fun z => ?_) (fun z => ⟨pk_in _ 1792 (by omega) hv, br_f ?_ H⟩)
    · obtain rfl : best = d := by omega
      exact H
    · rw [pk_cl _ hv (by omega)]
      exact fq_S_t (b4 (by omega))
  · intro n i _ hi _ hw
    have hv := fb_ix m a i
    refine pk_le best i (fun z => absurd z (by omega)) (fun z => ⟨pk_in _ 1792 (by omega) hv, br_t ?_ (nm_r (nI_1 i) (hw () trivial))⟩)
    rw [pk_cl _ hv (by omega)]
    exact fq_S_f (b3 i (by omega) hi)
theorem fq_17 {m : Nat} (hm : m ≤ 6) : ∀ (c a best cnt n : Nat), a + c = 16 → c < n → best ≤ 16 → post (nI (cnt + (fr_go (fq_S a10 m) c a best).length)) →
    wX_front_17 post (nI m) f0_lines f0_tokens f0_gathered a1 a2 a3 a4 a5 a6 a7 a8 a9 a10 n (nI cnt) (nI best) (nI a) := by
  intro c
  induction c with
  | zero =>
    intro a best cnt n ha hn hb H
    obtain ⟨n, rfl⟩ : ∃ k, n = k + 1 := ⟨n - 1, by omega⟩
    exact pk_le 16 a (fun _ => H) (fun z => absurd z (by omega))
  | succ c ih =>
    intro a best cnt n ha hn hb H
    obtain ⟨n, rfl⟩ : ∃ k, n = k + 1 := ⟨n - 1, by omega⟩
    refine pk_le 16 a (fun z => absurd z (by omega)) (fun _ => fq_first hm (by omega) hb ?_)
    have hs := fr_f_sp (fq_S a10 m a) best 0
    unfold fr_go at H
    generalize fr_f (fq_S a10 m a) best 0 = d at hs H
    refine pk_le best d (fun z => nm_r (e' := nI cnt) (nI_add cnt 0) (nm_r (nI_1 a) (ih (a + 1) d cnt n (by omega) (by omega) (by omega) ?_))) (fun z => nm_r (nI_1 cnt) (nm_r (nI_1 a) (ih (a + 1) d (cnt + 1) n (by omega) (by omega) (by omega) ?_)))
    · rw [if_neg (by omega)] at H
      exact H
    · rw [if_pos z, List.length_append, List.length_singleton] at H
      rw [show cnt + 1 + (fr_go (fq_S a10 m) c (a + 1) d).length = cnt + (1 + (fr_go (fq_S a10 m) c (a + 1) d).length) by omega]
      exact H
theorem fq_front {m : Nat} (hm : m ≤ 6) (H : post (nI (fr_go (fq_S a10 m) 16 0 16).length)) :
    wpX_front post (f0_lines, f0_tokens, f0_gathered, a1, a2, a3, a4, a5, a6, a7, a8, a9, a10) (nI m) := by
  unfold wpX_front
  refine fq_place hm (br_f (by decide) ⟨17, fq_17 hm 16 0 16 0 17 (by omega) (by omega) (by omega) ?_⟩)
  rw [Nat.zero_add]
  exact H
theorem fq_22 {m : Nat} (hm : m ≤ 6) : ∀ (c a best rest n : Nat), a + c = 16 → c < n → best ≤ 16 → rest < 100 → post (fr_at (fr_go (fq_S a10 m) c a best) rest) →
    wX_frontAt_22 post (nI m) f0_lines f0_tokens f0_gathered a1 a2 a3 a4 a5 a6 a7 a8 a9 a10 n (nI rest) (nI best) (nI a) := by
  intro c
  induction c with
  | zero =>
    intro a best rest n ha hn hb hr H
    obtain ⟨n, rfl⟩ : ∃ k, n = k + 1 := ⟨n - 1, by omega⟩
    exact pk_le 16 a (fun _ => H) (fun z => absurd z (by omega))
  | succ c ih =>
    intro a best rest n ha hn hb hr H
    obtain ⟨n, rfl⟩ : ∃ k, n = k + 1 := ⟨n - 1, by omega⟩
    refine pk_le 16 a (fun z => absurd z (by omega)) (fun _ => fq_first hm (by omega) hb ?_)
    have hs := fr_f_sp (fq_S a10 m a) best 0
    unfold fr_go at H
    generalize fr_f (fq_S a10 m a) best 0 = d at hs H
    refine pk_le best d (fun z => nm_r (nI_1 a) (ih (a + 1) d rest n (by omega) (by omega) (by omega) hr ?_)) (fun z => ?_)
    · rw [if_neg (by omega)] at H
      exact H
    · rw [if_pos z] at H
      refine pk_eq rest 0 (fun w => ?_) (fun w => nm_r (sb_m1 (by omega)) (nm_r (nI_1 a) (ih (a + 1) d (rest - 1) n (by omega) (by omega) (by omega) (by omega) ?_)))
      · subst w
        rw [fb_16]
        exact H
      · obtain ⟨q, rfl⟩ : ∃ q, rest = q + 1 := ⟨rest - 1, by omega⟩
        have H : post (fr_at ((a, d) :: fr_go (fq_S a10 m) c (a + 1) d) (q + 1)) := H
        rw [fr_at_s] at H
        exact H
theorem fq_frontAt {m i : Nat} (hm : m ≤ 6) (hi : i < 100) (H : post (fr_at (fr_go (fq_S a10 m) 16 0 16) i)) :
    wpX_frontAt post (f0_lines, f0_tokens, f0_gathered, a1, a2, a3, a4, a5, a6, a7, a8, a9, a10) (nI m) (nI i) := by
  unfold wpX_frontAt
  exact fq_place hm (br_f (by decide) (br_t (nI_pos' (by omega)) ⟨17, fq_22 hm 16 0 16 i 17 (by omega) (by omega) (by omega) hi H⟩))
theorem fq_29 {J20 : Int32 → Prop} {m a b x : Nat} (hm : m ≤ 6) (hb : b ≤ 15) (hx : x ≤ 15) (H1 : ∀ y, y ≤ b → fq_S a10 m x y = true → post 1) (HJ : (∀ y, y ≤ b → fq_S a10 m x y = false) → J20 (nI (x + 1))) :
    ∃ n, wX_possible_29 post J20 (nI m) (nI a) (nI b) (nI x) f0_lines f0_tokens f0_gathered a1 a2 a3 a4 a5 a6 a7 a8 a9 a10 n 0 := by
  refine pk_loop (σ := Unit) (fun n i _ => wX_possible_29 post J20 (nI m) (nI a) (nI b) (nI x) f0_lines f0_tokens f0_gathered a1 a2 a3 a4 a5 a6 a7 a8 a9 a10 n (nI i)) (fun i _ => ∀ y, y < i → fq_S a10 m x y = false) (b + 1) 0 () (by omega) (fun y hy => absurd hy (by omega)) ?_ ?_
  · intro n _ h
    exact pk_lt b (b + 1) (fun _ => nm_r (nI_1 x) (HJ (fun y hy => h y (by omega)))) (fun z => absurd z (by omega))
  · intro n i _ hi h hw
    have hv := fb_ix m x i
    refine pk_lt b i (fun z => absurd z (by omega)) (fun z => ⟨pk_in _ 1792 (by omega) hv, ?_⟩)
    rw [pk_cl _ hv (by omega)]
    cases hS : fq_S a10 m x i with
    | true => exact br_f (fq_S_t hS) (H1 i z hS)
    | false =>
      refine br_t (fq_S_f hS) (nm_r (nI_1 i) (hw () (fun y hy => ?_)))
      by_cases e : y = i
      · rw [e]
        exact hS
      · exact h y (by omega)
theorem fq_possible {m a b : Nat} (hm : m ≤ 6) (ha : a ≤ 15) (hb : b ≤ 15) (H1 : (∃ x y, x ≤ a ∧ y ≤ b ∧ fq_S a10 m x y = true) → post 1) (H0 : ¬ (∃ x y, x ≤ a ∧ y ≤ b ∧ fq_S a10 m x y = true) → post 0) :
    wpX_possible post (f0_lines, f0_tokens, f0_gathered, a1, a2, a3, a4, a5, a6, a7, a8, a9, a10) (nI m) (nI a) (nI b) := by
  unfold wpX_possible
  refine fq_place hm (br_f (by decide) (fq_time ha hb (br_f (by decide) ?_)))
  refine pk_loop (σ := Unit) (fun n i _ => wX_possible_20 post (nI m) (nI a) (nI b) f0_lines f0_tokens f0_gathered a1 a2 a3 a4 a5 a6 a7 a8 a9 a10 n (nI i)) (fun i _ => ∀ x y, x < i → y ≤ b → fq_S a10 m x y = false) (a + 1) 0 () (by omega) (fun x y hx => absurd hx (by omega)) ?_ ?_
  · intro n _ h
    refine pk_lt a (a + 1) (fun _ => H0 ?_) (fun z => absurd z (by omega))
    rintro ⟨x, y, h1, h2, h3⟩
    rw [h x y (by omega) h2] at h3
    exact nomatch h3
  · intro n i _ hi h hw
    refine pk_lt a i (fun z => absurd z (by omega)) (fun z => fq_29 hm hb (by omega) (fun y hy hS => H1 ⟨i, y, z, hy, hS⟩) (fun hf => hw () (fun x y hx hy => ?_)))
    by_cases e : x = i
    · rw [e]
      exact hf y hy
    · exact h x y (by omega) hy
theorem fq_46 {R : Nat → List (Nat × Nat)} {r x y a b : Nat} (hr : r < 49) (hR : fw_rows R a7 a8) (hok : fw_ok R) (hx : x ≤ 15) (hy : y ≤ 15) (ha : a ≤ 15) (hb : b ≤ 15) :
    ∀ (rest D : List (Nat × Nat)) (n : Nat), R r = D ++ rest → rest.length < n → post (if fq_rb rest x y a b = true then 1 else 0) →
      wX_reaches_46 post (nI r) (nI a - nI x) (nI b - nI y) f0_lines f0_tokens f0_gathered a1 a2 a3 a4 a5 a6 a7 a8 a9 a10 n (nI (19 * r + D.length)) := by
  intro rest
  have hlen := fw_ok_len hok hr
  have h7 : a7 (nI r).toNatClampNeg = nI (R r).length := by
    rw [nI_clamp (by omega)]
    exact (hR r hr).1
  have hlim : 19 * nI r + a7 (nI r).toNatClampNeg = nI (19 * r + (R r).length) := by
    rw [h7, fb_19, nI_add]
  induction rest with
  | nil =>
    intro D n hD hn H
    rw [List.append_nil] at hD
    obtain ⟨n, rfl⟩ : ∃ k, n = k + 1 := ⟨n - 1, by simp only [List.length_nil] at hn; omega⟩
    have hDl : (R r).length = D.length := by rw [hD]
    exact ⟨pk_in r 49 hr, pk_le _ (19 * r + D.length) (fun _ => H) (fun z => absurd z (by omega)) hlim rfl (by omega) (by omega)⟩
  | cons e t ih =>
    intro D n hD hn H
    obtain ⟨n, rfl⟩ : ∃ k, n = k + 1 := ⟨n - 1, by omega⟩
    have hl : (R r).length = D.length + (t.length + 1) := by rw [hD, List.length_append, List.length_cons]
    have he : e ∈ R r := by rw [hD]; exact List.mem_append_right _ List.mem_cons_self
    have hbd := (hok r hr).2 e he
    have h8 : a8 (nI (19 * r + D.length)).toNatClampNeg = nI (64 * e.1 + e.2) := by
      rw [nI_clamp (by omega)]
      exact fw_rows_at hR hr hD
    have hD' : R r = (D ++ [e]) ++ t := by rw [hD, List.append_assoc]; rfl
    have hix : nI (19 * r + D.length) + 1 = nI (19 * r + (D ++ [e]).length) := by
      rw [nI_1, List.length_append, List.length_singleton]
      rfl
    have hn' : t.length < n := by simp only [List.length_cons] at hn; omega
    rw [fq_rb_cons] at H
    refine ⟨pk_in r 49 hr, pk_le _ (19 * r + D.length) (fun z => absurd z (by omega)) (fun _ => ⟨pk_in (19 * r + D.length) 931 (by omega), ?_⟩) hlim rfl (by omega) (by omega)⟩
    rw [h8, fb_s6 (by omega) (by omega), fb_a6 (by omega) (by omega)]
    refine ek_if (fq_lts (by omega) (by omega) (by omega)) (fun z => nm_r hix (ih _ _ hD' hn' ?_)) (fun z => ⟨pk_in (19 * r + D.length) 931 (by omega), ek_if (fq_lts (by omega) (by omega) (by omega)) (fun w => nm_r hix (ih _ _ hD' hn' ?_)) (fun w => ?_)⟩)
    · rw [decide_eq_false (by omega), Bool.false_or] at H
      exact H
    · rw [decide_eq_false (by omega), Bool.false_or] at H
      exact H
    · rw [decide_eq_true (by omega), Bool.true_or] at H
      exact H
theorem fq_reaches {t : Nat} {P X Y : Nat → Nat} {R : Nat → List (Nat × Nat)} {k l a b : Nat} (hT : fs_T t P X Y a5 a6) (hR : fw_rows R a7 a8) (hok : fw_ok R) (hk : k < t) (hl : l ≤ 6) (ha : a ≤ 15) (hb : b ≤ 15)
    (H : post (if fq_rb (R (7 * P k + l)) (X k) (Y k) a b = true then 1 else 0)) :
    wpX_reaches post (f0_lines, f0_tokens, f0_gathered, a1, a2, a3, a4, a5, a6, a7, a8, a9, a10) (nI k) (nI l) (nI a) (nI b) := by
  have ht := hT.1
  obtain ⟨t1, t2, t3, t4, t5⟩ := hT.2 k hk
  have c5 : a5 (nI k).toNatClampNeg = nI (P k) := by rw [nI_clamp (by omega), t1]
  have c6 : a6 (nI k).toNatClampNeg = nI (16 * X k + Y k) := by rw [nI_clamp (by omega), t2]
  refine ⟨pk_in k 20 (by omega), nm_r (e' := nI (7 * P k + l)) (by rw [c5, fb_7]) ⟨pk_in k 20 (by omega), nm_r (e' := nI a - nI (X k)) (by rw [c6, fb_s4 (by omega) t5]) ⟨pk_in k 20 (by omega), nm_r (e' := nI b - nI (Y k)) (by rw [c6, fb_a4 (by omega) t5]) (nm_r (fb_19 _) ⟨(R (7 * P k + l)).length + 1, ?_⟩)⟩⟩⟩
  exact fq_46 (by omega) hR hok t4 t5 ha hb (R (7 * P k + l)) [] _ rfl (by omega) H
theorem fq_eqt {x y a b : Nat} (hx : x ≤ 15) (hy : y ≤ 15) (ha : a ≤ 15) (hb : b ≤ 15) : nI (16 * x + y) = 16 * nI a + nI b ↔ x = a ∧ y = b := by
  rw [fb_16, nI_eq (by omega) (by omega)]
  omega
theorem fq_ready {t : Nat} {P X Y : Nat → Nat} {R : Nat → List (Nat × Nat)} {l a b : Nat} (hT : fs_T t P X Y a5 a6) (hR : fw_rows R a7 a8) (hok : fw_ok R) (hl : l ≤ 6) (ha : a ≤ 15) (hb : b ≤ 15)
    (H : post (fq_rd (fun k => decide (P k = l ∧ X k = a ∧ Y k = b)) (fun k => fq_rb (R (7 * P k + l)) (X k) (Y k) a b) t 0 0)) :
    wpX_ready post (f0_lines, nI t, f0_gathered, a1, a2, a3, a4, a5, a6, a7, a8, a9, a10) (nI l) (nI a) (nI b) := by
  have ht := hT.1
  unfold wpX_ready
  refine fq_place hl (br_f (by decide) (fq_time ha hb (br_f (by decide) ⟨t + 1, ?_⟩)))
  have key : ∀ (c k own n : Nat), k + c = t → c < n → own ≤ k → post (fq_rd (fun k => decide (P k = l ∧ X k = a ∧ Y k = b)) (fun k => fq_rb (R (7 * P k + l)) (X k) (Y k) a b) c k own) →
      wX_ready_23 post (nI l) (nI a) (nI b) f0_lines (nI t) f0_gathered a1 a2 a3 a4 a5 a6 a7 a8 a9 a10 n (nI own) (nI k) := by
    intro c
    induction c with
    | zero =>
      intro k own n hk hn ho H
      obtain ⟨n, rfl⟩ : ∃ k, n = k + 1 := ⟨n - 1, by omega⟩
      unfold fq_rd at H
      refine pk_le t k (fun _ => pk_le own 0 (fun z => ?_) (fun z => ?_)) (fun z => absurd z (by omega))
      · rw [if_pos (by omega)] at H
        exact H
      · rw [if_neg (by omega)] at H
        exact H
    | succ c ih =>
      intro k own n hk hn ho H
      obtain ⟨n, rfl⟩ : ∃ k, n = k + 1 := ⟨n - 1, by omega⟩
      obtain ⟨t1, t2, t3, t4, t5⟩ := hT.2 k (by omega)
      unfold fq_rd at H
      have there : (P k = l ∧ X k = a ∧ Y k = b) → wX_ready_64 post (wX_ready_23 post (nI l) (nI a) (nI b) f0_lines (nI t) f0_gathered a1 a2 a3 a4 a5 a6 a7 a8 a9 a10 n) (nI l) (nI a) (nI b) (nI own) (nI k) 1 f0_lines (nI t) f0_gathered a1 a2 a3 a4 a5 a6 a7 a8 a9 a10 := by
        intro z
        rw [if_pos (decide_eq_true z)] at H
        exact br_f (by decide) (nm_r (nI_1 own) (br_f (by decide) (nm_r (nI_1 k) (ih (k + 1) (own + 1) n (by omega) (by omega) (by omega) H))))
      have away : ¬ (P k = l ∧ X k = a ∧ Y k = b) → wX_ready_63 post (wX_ready_23 post (nI l) (nI a) (nI b) f0_lines (nI t) f0_gathered a1 a2 a3 a4 a5 a6 a7 a8 a9 a10 n) (nI l) (nI a) (nI b) (nI own) (nI k) f0_lines (nI t) f0_gathered a1 a2 a3 a4 a5 a6 a7 a8 a9 a10 := by
        intro z
        rw [if_neg (fun w => z (of_decide_eq_true w))] at H
        refine br_t rfl (nm_r (e' := nI own) (nI_add own 0) (br_t rfl (fq_reaches hT hR hok (by omega) hl ha hb ?_)))
        cases hq : fq_rb (R (7 * P k + l)) (X k) (Y k) a b with
        | true =>
          rw [if_pos rfl]
          rw [if_pos hq] at H
          exact br_f (by decide) H
        | false =>
          rw [if_neg (by decide)]
          rw [if_neg (by rw [hq]; decide)] at H
          exact br_t rfl (nm_r (nI_1 k) (ih (k + 1) own n (by omega) (by omega) (by omega) H))
      refine pk_le t k (fun z => absurd z (by omega)) (fun _ => ⟨pk_in k 20 (by omega), ?_⟩)
      rw [nI_clamp (show k < 2 ^ 31 by omega), t1, t2]
      refine pk_eq (P k) l (fun z => ⟨pk_in k 20 (by omega), ek_if (fq_eqt t4 t5 ha hb) (fun w => there ⟨z, w⟩) (fun w => away (fun v => w v.2))⟩) (fun z => away (fun v => z v.1))
  exact key t 0 0 (t + 1) (by omega) (by omega) (by omega) H
theorem fq_tokenAt {t : Nat} {P X Y : Nat → Nat} {l a b k0 : Nat} (hT : fs_T t P X Y a5 a6) (hl : l ≤ 6) (ha : a ≤ 15) (hb : b ≤ 15) (h0 : k0 ≤ t) (h1 : ∀ j, j < k0 → ¬ (P j = l ∧ X j = a ∧ Y j = b)) (h2 : k0 < t → P k0 = l ∧ X k0 = a ∧ Y k0 = b)
    (H1 : k0 < t → post (nI k0)) (H0 : k0 = t → post (-1)) :
    wpX_tokenAt post (f0_lines, nI t, f0_gathered, a1, a2, a3, a4, a5, a6, a7, a8, a9, a10) (nI l) (16 * nI a + nI b) := by
  have ht := hT.1
  refine pk_loop (σ := Unit) (fun n i _ => wX_tokenAt_2 post (nI l) (16 * nI a + nI b) f0_lines (nI t) f0_gathered a1 a2 a3 a4 a5 a6 a7 a8 a9 a10 n (nI i)) (fun _ _ => True) k0 0 () (by omega) trivial ?_ ?_
  · intro n _ _
    refine pk_le t k0 (fun z => H0 (by omega)) (fun z => ⟨pk_in k0 20 (by omega), ?_⟩)
    obtain ⟨t1, t2, t3, t4, t5⟩ := hT.2 k0 z
    obtain ⟨q1, q2, q3⟩ := h2 z
    rw [nI_clamp (show k0 < 2 ^ 31 by omega), t1, t2]
    exact br_t (by rw [q1]) ⟨pk_in k0 20 (by omega), br_t ((fq_eqt t4 t5 ha hb).mpr ⟨q2, q3⟩) (H1 z)⟩
  · intro n i _ hi _ hw
    obtain ⟨t1, t2, t3, t4, t5⟩ := hT.2 i (by omega)
    refine pk_le t i (fun z => absurd z (by omega)) (fun z => ⟨pk_in i 20 (by omega), ?_⟩)
    rw [nI_clamp (show i < 2 ^ 31 by omega), t1, t2]
    exact pk_eq (P i) l (fun z => ⟨pk_in i 20 (by omega), br_f (fun w => h1 i hi ⟨z, (fq_eqt t4 t5 ha hb).mp w⟩) (nm_r (nI_1 i) (hw () trivial))⟩) (fun z => nm_r (nI_1 i) (hw () trivial))
theorem fq_shortest {R : Nat → List (Nat × Nat)} {l m : Nat} (hR : fw_rows R a7 a8) (hl : l ≤ 6) (hm : m ≤ 6) (H : post (nI (R (7 * l + m)).length)) :
    wpX_shortest post (f0_lines, f0_tokens, f0_gathered, a1, a2, a3, a4, a5, a6, a7, a8, a9, a10) (nI l) (nI m) := by
  unfold wpX_shortest
  refine fq_place hl (br_f (by decide) (fq_place hm (br_f (by decide) ⟨pk_in _ 49 (by omega) (fb_7 l m), ?_⟩)))
  rw [pk_cl _ (fb_7 l m) (by omega), (hR (7 * l + m) (by omega)).1]
  exact H
end
theorem fq_tk (t : Nat) (M : Nat → Prop) : ∃ k, k ≤ t ∧ (∀ j, j < k → ¬ M j) ∧ (k < t → M k) := by
  induction t with
  | zero => exact ⟨0, Nat.le_refl 0, fun j h => absurd h (by omega), fun h => absurd h (by omega)⟩
  | succ t ih =>
    obtain ⟨d, h1, h2, h3⟩ := ih
    by_cases hd : d < t
    · exact ⟨d, by omega, h2, fun _ => h3 hd⟩
    · by_cases he : M d
      · exact ⟨d, by omega, h2, fun _ => he⟩
      · refine ⟨d + 1, by omega, fun j hj => ?_, fun h => absurd h (by omega)⟩
        by_cases e : j = d
        · rw [e]
          exact he
        · exact h2 j (by omega)
end
section
def fu_up (F : Nat → Nat) (k v : Nat) : Nat → Nat := fun j => if j = k then v else F j
theorem fu_up_s {F : Nat → Nat} {k v : Nat} : fu_up F k v k = v := if_pos rfl
theorem fu_up_n {F : Nat → Nat} {k v j : Nat} (h : j ≠ k) : fu_up F k v j = F j := if_neg h
/-- the numbers from k on move down by one place, those up to i -/
def fu_del {α : Type} (f : Nat → α) (k i : Nat) : Nat → α := fun j => if k ≤ j ∧ j < i then f (j + 1) else f j
theorem fu_del_k {α : Type} (f : Nat → α) (k : Nat) : fu_del f k k = f := by
  funext j
  exact if_neg (by omega)
theorem fu_del_s (f : Nat → Int32) {k i : Nat} (h : k ≤ i) : upd (fu_del f k i) i (fu_del f k i (i + 1)) = fu_del f k (i + 1) := by
  funext j
  by_cases c : j = i
  · rw [c, pk_us]
    unfold fu_del
    rw [if_neg (by omega), if_pos (by omega)]
  · rw [pk_un c]
    unfold fu_del
    by_cases d : k ≤ j ∧ j < i
    · rw [if_pos d, if_pos (by omega)]
    · rw [if_neg d, if_neg (by omega)]
theorem fu_del_L {N k : Nat} {F T A B : Nat → Nat} {a1 a2 a3 a4 : Nat → Int32} (h : fs_L N F T A B a1 a2 a3 a4) (hk : k < N) : fs_L (N - 1) (fu_del F k (N - 1)) (fu_del T k (N - 1)) (fu_del A k (N - 1)) (fu_del B k (N - 1)) (fu_del a1 k (N - 1)) (fu_del a2 k (N - 1)) (fu_del a3 k (N - 1)) (fu_del a4 k (N - 1)) := by
  have hN := h.1
  refine ⟨by omega, fun j hj => ?_⟩
  unfold fu_del
  by_cases c : k ≤ j ∧ j < N - 1
  · simp only [if_pos c]
    exact h.2 (j + 1) (by omega)
  · simp only [if_neg c]
    exact h.2 j (by omega)
theorem fu_add_L {N l m p q : Nat} {F T A B : Nat → Nat} {a1 a2 a3 a4 : Nat → Int32} (h : fs_L N F T A B a1 a2 a3 a4) (hN : N < 12) (hl : l ≤ 6) (hm : m ≤ 6) (hp : p ≤ 3) (hq : q ≤ 3) :
    fs_L (N + 1) (fu_up F N l) (fu_up T N m) (fu_up A N p) (fu_up B N q) (upd a1 N (nI l)) (upd a2 N (nI m)) (upd a3 N (nI p)) (upd a4 N (nI q)) := by
  refine ⟨by omega, fun j hj => ?_⟩
  by_cases c : j = N
  · subst c
    rw [pk_us, pk_us, pk_us, pk_us, fu_up_s, fu_up_s, fu_up_s, fu_up_s]
    exact ⟨rfl, rfl, rfl, rfl, hl, hm, hp, hq⟩
  · rw [pk_un c, pk_un c, pk_un c, pk_un c, fu_up_n c, fu_up_n c, fu_up_n c, fu_up_n c]
    exact h.2 j (by omega)
theorem fu_add_T {t l a b : Nat} {P X Y : Nat → Nat} {a5 a6 : Nat → Int32} (h : fs_T t P X Y a5 a6) (ht : t < 20) (hl : l ≤ 6) (ha : a ≤ 15) (hb : b ≤ 15) :
    fs_T (t + 1) (fu_up P t l) (fu_up X t a) (fu_up Y t b) (upd a5 t (nI l)) (upd a6 t (nI (16 * a + b))) := by
  refine ⟨by omega, fun j hj => ?_⟩
  by_cases c : j = t
  · subst c
    rw [pk_us, pk_us, fu_up_s, fu_up_s, fu_up_s]
    exact ⟨rfl, rfl, hl, ha, hb⟩
  · rw [pk_un c, pk_un c, fu_up_n c, fu_up_n c, fu_up_n c]
    exact h.2 j (by omega)
theorem fu_set_T {t k l a b : Nat} {P X Y : Nat → Nat} {a5 a6 : Nat → Int32} (h : fs_T t P X Y a5 a6) (hl : l ≤ 6) (ha : a ≤ 15) (hb : b ≤ 15) :
    fs_T t (fu_up P k l) (fu_up X k a) (fu_up Y k b) (upd a5 k (nI l)) (upd a6 k (nI (16 * a + b))) := by
  refine ⟨h.1, fun j hj => ?_⟩
  by_cases c : j = k
  · subst c
    rw [pk_us, pk_us, fu_up_s, fu_up_s, fu_up_s]
    exact ⟨rfl, rfl, hl, ha, hb⟩
  · rw [pk_un c, pk_un c, fu_up_n c, fu_up_n c, fu_up_n c]
    exact h.2 j (by omega)
theorem fu_rem_T {t k : Nat} {P X Y : Nat → Nat} {a5 a6 : Nat → Int32} (h : fs_T t P X Y a5 a6) (hk : k < t) :
    fs_T (t - 1) (fu_up P k (P (t - 1))) (fu_up X k (X (t - 1))) (fu_up Y k (Y (t - 1))) (upd a5 k (a5 (t - 1))) (upd a6 k (a6 (t - 1))) := by
  have ht := h.1
  refine ⟨by omega, fun j hj => ?_⟩
  by_cases c : j = k
  · subst c
    rw [pk_us, pk_us, fu_up_s, fu_up_s, fu_up_s]
    exact h.2 (t - 1) (by omega)
  · rw [pk_un c, pk_un c, fu_up_n c, fu_up_n c, fu_up_n c]
    exact h.2 j (by omega)
section
variable {post : Int32 → St1 → Prop} {g : Int32} {a1 a2 a3 a4 a5 a6 a7 a8 a9 a10 : Nat → Int32} {N t : Nat} {F T A B P X Y : Nat → Nat} {R : Nat → List (Nat × Nat)}
theorem fu_link {l m p q : Nat} (hL : fs_L N F T A B a1 a2 a3 a4) (hT : fs_T t P X Y a5 a6) (hl : l ≤ 6) (hm : m ≤ 6) (hp : p ≤ 3) (hq : q ≤ 3)
    (H0 : 12 ≤ N → post (-1) (nI N, nI t, g, a1, a2, a3, a4, a5, a6, a7, a8, a9, a10))
    (H1 : N < 12 → ∀ R g a7 a8 a9 M, fw_rows R a7 a8 → fw_fin (fw_E (N + 1) (fu_up F N l) (fu_up T N m) (fu_up A N p) (fu_up B N q)) R → ft_marks R P X Y t M → post (nI (N + 1)) (nI (N + 1), nI t, g, upd a1 N (nI l), upd a2 N (nI m), upd a3 N (nI p), upd a4 N (nI q), a5, a6, a7, a8, a9, M)) :
    wpX_link post (nI N, nI t, g, a1, a2, a3, a4, a5, a6, a7, a8, a9, a10) (nI l) (nI m) (nI p) (nI q) := by
  have hN := hL.1
  unfold wpX_link
  refine fq_place hl (br_f (by decide) (fq_place hm (br_f (by decide) (br_f (nI_pos (by omega)) (pk_lt 3 p (fun z => absurd z (by omega)) (fun _ => br_f (nI_pos (by omega)) (pk_lt 3 q (fun z => absurd z (by omega)) (fun _ => pk_lt N 12 (fun z => ?_) (fun z => H0 z)))))))))
  have e : (nI N).toNatClampNeg = N := nI_clamp (by omega)
  refine ⟨pk_in N 12 z, nm_r (e' := upd a1 N (nI l)) (by rw [e]) ⟨pk_in N 12 z, nm_r (e' := upd a2 N (nI m)) (by rw [e]) ⟨pk_in N 12 z, nm_r (e' := upd a3 N (nI p)) (by rw [e]) ⟨pk_in N 12 z, nm_r (e' := upd a4 N (nI q)) (by rw [e]) (nm_r (nI_1 N) ?_)⟩⟩⟩⟩
  exact ft_rebuild (fu_add_L hL z hl hm hp hq) hT (fun R g a7 a8 a9 M h1 h2 h3 => H1 z R g a7 a8 a9 M h1 h2 h3)
theorem fu_unlink {k : Nat} (hL : fs_L N F T A B a1 a2 a3 a4) (hT : fs_T t P X Y a5 a6) (hk : k < 100)
    (H0 : N ≤ k → post (-1) (nI N, nI t, g, a1, a2, a3, a4, a5, a6, a7, a8, a9, a10))
    (H1 : k < N → ∀ R g a7 a8 a9 M, fw_rows R a7 a8 → fw_fin (fw_E (N - 1) (fu_del F k (N - 1)) (fu_del T k (N - 1)) (fu_del A k (N - 1)) (fu_del B k (N - 1))) R → ft_marks R P X Y t M →
      post (nI (N - 1)) (nI (N - 1), nI t, g, fu_del a1 k (N - 1), fu_del a2 k (N - 1), fu_del a3 k (N - 1), fu_del a4 k (N - 1), a5, a6, a7, a8, a9, M)) :
    wpX_unlink post (nI N, nI t, g, a1, a2, a3, a4, a5, a6, a7, a8, a9, a10) (nI k) := by
  have hN := hL.1
  refine br_f (nI_pos (by omega)) (pk_lt k N (fun z => nm_r (e' := nI (N - 1)) (pk_sub (a := N) (b := 1) (by omega)) ?_) (fun z => H0 z))
  have st := pk_loop (σ := Unit) (fun n i _ => wX_unlink_26 post (nI (N - 1)) (nI t) g n (nI i) (fu_del a1 k i) (fu_del a2 k i) (fu_del a3 k i) (fu_del a4 k i) a5 a6 a7 a8 a9 a10) (fun i _ => k ≤ i) (N - 1) k () (by omega) (Nat.le_refl k) ?_ ?_
  · rw [fu_del_k, fu_del_k, fu_del_k, fu_del_k] at st
    exact st
  · intro n _ _
    exact pk_le (N - 1) (N - 1) (fun _ => ft_rebuild (fu_del_L hL z) hT (fun R g a7 a8 a9 M h1 h2 h3 => H1 z R g a7 a8 a9 M h1 h2 h3)) (fun w => absurd w (by omega))
  · intro n i _ hi hki hw
    have e1 : (nI i).toNatClampNeg = i := nI_clamp (by omega)
    have e2 : (nI i + 1).toNatClampNeg = i + 1 := pk_cl (i + 1) (nI_1 i) (by omega)
    have hw' := hw () (show k ≤ i + 1 by omega)
    refine pk_le (N - 1) i (fun w => absurd w (by omega)) (fun _ => ?_)
    have p1 : vp_in (nI i + 1) 12 := pk_in (i + 1) 12 (by omega) (nI_1 i)
    have p2 : vp_in (nI i) 12 := pk_in i 12 (by omega)
    refine ⟨p1, p2, nm_r (e' := fu_del a1 k (i + 1)) (by rw [e1, e2, fu_del_s a1 hki]) ⟨p1, p2, nm_r (e' := fu_del a2 k (i + 1)) (by rw [e1, e2, fu_del_s a2 hki]) ⟨p1, p2, nm_r (e' := fu_del a3 k (i + 1)) (by rw [e1, e2, fu_del_s a3 hki]) ⟨p1, p2, nm_r (e' := fu_del a4 k (i + 1)) (by rw [e1, e2, fu_del_s a4 hki]) (nm_r (nI_1 i) hw')⟩⟩⟩⟩
theorem fu_put {f0_lines : Int32} {l a b : Nat} (hT : fs_T t P X Y a5 a6) (hR : fw_rows R a7 a8) (hok : fw_ok R) (hl : l ≤ 6) (ha : a ≤ 15) (hb : b ≤ 15)
    (H0 : 20 ≤ t → post (-1) (f0_lines, nI t, g, a1, a2, a3, a4, a5, a6, a7, a8, a9, a10))
    (H1 : t < 20 → ∀ M, fc_cnt R l a b 1 a10 M → post (nI (t + 1)) (f0_lines, nI (t + 1), g, a1, a2, a3, a4, upd a5 t (nI l), upd a6 t (nI (16 * a + b)), a7, a8, a9, M)) :
    wpX_put post (f0_lines, nI t, g, a1, a2, a3, a4, a5, a6, a7, a8, a9, a10) (nI l) (nI a) (nI b) := by
  have ht := hT.1
  unfold wpX_put
  refine fq_place hl (br_f (by decide) (fq_time ha hb (br_f (by decide) (pk_lt t 20 (fun z => ?_) (fun z => H0 z)))))
  have e : (nI t).toNatClampNeg = t := nI_clamp (by omega)
  refine ⟨pk_in t 20 z, nm_r (e' := upd a5 t (nI l)) (by rw [e]) ⟨pk_in t 20 z, nm_r (e' := upd a6 t (nI (16 * a + b))) (by rw [e, fb_16]) (nm_r (nI_1 t) ?_)⟩⟩
  rw [fb_16]
  exact fc_count hR hok hl ha hb (fun M hM => H1 z M hM)
theorem fu_take {f0_lines : Int32} {l a b k0 : Nat} (hT : fs_T t P X Y a5 a6) (hR : fw_rows R a7 a8) (hok : fw_ok R) (hl : l ≤ 6) (ha : a ≤ 15) (hb : b ≤ 15)
    (h0 : k0 ≤ t) (h1 : ∀ j, j < k0 → ¬ (P j = l ∧ X j = a ∧ Y j = b)) (h2 : k0 < t → P k0 = l ∧ X k0 = a ∧ Y k0 = b)
    (H0 : k0 = t → post (-1) (f0_lines, nI t, g, a1, a2, a3, a4, a5, a6, a7, a8, a9, a10))
    (H1 : k0 < t → ∀ M, fc_cnt R l a b (-1) a10 M → post (nI (t - 1)) (f0_lines, nI (t - 1), g, a1, a2, a3, a4, upd a5 k0 (a5 (t - 1)), upd a6 k0 (a6 (t - 1)), a7, a8, a9, M)) :
    wpX_take post (f0_lines, nI t, g, a1, a2, a3, a4, a5, a6, a7, a8, a9, a10) (nI l) (nI a) (nI b) := by
  have ht := hT.1
  unfold wpX_take
  refine fq_place hl (br_f (by decide) (fq_time ha hb (br_f (by decide) (fq_tokenAt hT hl ha hb h0 h1 h2 (fun z => ?_) (fun z => br_f (by decide) (H0 z))))))
  have e1 : (nI k0).toNatClampNeg = k0 := nI_clamp (by omega)
  have e2 : (nI (t - 1)).toNatClampNeg = t - 1 := nI_clamp (by omega)
  refine br_t (nI_pos' (by omega)) (nm_r (e' := nI (t - 1)) (pk_sub (a := t) (b := 1) (by omega)) ⟨pk_in (t - 1) 20 (by omega), pk_in k0 20 (by omega), nm_r (e' := upd a5 k0 (a5 (t - 1))) (by rw [e1, e2]) ⟨pk_in (t - 1) 20 (by omega), pk_in k0 20 (by omega), nm_r (e' := upd a6 k0 (a6 (t - 1))) (by rw [e1, e2]) ?_⟩⟩)
  rw [fb_16]
  exact fc_count hR hok hl ha hb (fun M hM => H1 z M hM)
theorem fu_pass {i a b k0 : Nat} (hL : fs_L N F T A B a1 a2 a3 a4) (hT : fs_T t P X Y a5 a6) (hR : fw_rows R a7 a8) (hok : fw_ok R) (hi : i < 100) (ha : a ≤ 15) (hb : b ≤ 15)
    (h0 : k0 ≤ t) (h1 : i < N → ∀ j, j < k0 → ¬ (P j = F i ∧ X j = a ∧ Y j = b)) (h2 : i < N → k0 < t → P k0 = F i ∧ X k0 = a ∧ Y k0 = b)
    (H0 : N ≤ i → post (-1) (nI N, nI t, g, a1, a2, a3, a4, a5, a6, a7, a8, a9, a10))
    (H1 : i < N → k0 = t → post (-1) (nI N, nI t, g, a1, a2, a3, a4, a5, a6, a7, a8, a9, a10))
    (H2 : i < N → k0 < t → (15 < a + A i ∨ 15 < b + B i) → post (-2) (nI N, nI t, g, a1, a2, a3, a4, a5, a6, a7, a8, a9, a10))
    (H3 : i < N → k0 < t → a + A i ≤ 15 → b + B i ≤ 15 → ∀ M M', fc_cnt R (F i) a b (-1) a10 M → fc_cnt R (T i) (a + A i) (b + B i) 1 M M' →
      post 0 (nI N, nI t, g, a1, a2, a3, a4, upd a5 k0 (nI (T i)), upd a6 k0 (nI (16 * (a + A i) + (b + B i))), a7, a8, a9, M')) :
    wpX_pass post (nI N, nI t, g, a1, a2, a3, a4, a5, a6, a7, a8, a9, a10) (nI i) (nI a) (nI b) := by
  have ht := hT.1
  have hN := hL.1
  refine br_f (nI_pos (by omega)) (pk_le N i (fun z => H0 z) (fun z => fq_time ha hb (br_f (by decide) ⟨pk_in i 12 (by omega), ?_⟩)))
  obtain ⟨t1, t2, t3, t4, t5, t6, t7, t8⟩ := hL.2 i z
  have e1 : (nI i).toNatClampNeg = i := nI_clamp (by omega)
  rw [e1, t1, t3, t4]
  refine fq_tokenAt hT t5 ha hb h0 (h1 z) (h2 z) (fun w => ?_) (fun w => br_f (by decide) (H1 z w))
  have e2 : (nI k0).toNatClampNeg = k0 := nI_clamp (by omega)
  obtain ⟨u1, u2, u3, u4, u5⟩ := hT.2 k0 w
  obtain ⟨q1, q2, q3⟩ := h2 z w
  refine br_t (nI_pos' (by omega)) ⟨pk_in i 12 (by omega), pk_lt 15 (a + A i) (fun y => H2 z w (Or.inl y)) (fun y => ⟨pk_in i 12 (by omega), pk_le (b + B i) 15 (fun x => ⟨pk_in k0 20 (by omega), pk_in k0 20 (by omega), ?_⟩) (fun x => H2 z w (Or.inr x)) (nI_add _ _) rfl (by omega) (by omega)⟩) rfl (nI_add _ _) (by omega) (by omega)⟩
  rw [e2, u1, u2, q1, q2, q3]
  refine fc_count hR hok t5 ha hb (fun M hM => ?_)
  have v6 : upd a6 k0 (a6 k0 + (16 * a3 i + a4 i)) = upd a6 k0 (nI (16 * (a + A i) + (b + B i))) := by
    rw [u2, q2, q3, t3, t4, fb_16, nI_add]
    congr 2
    omega
  refine ⟨pk_in i 12 (by omega), pk_in k0 20 (by omega), nm_r (e' := upd a5 k0 (nI (T i))) (by rw [t2]) ⟨pk_in k0 20 (by omega), pk_in i 12 (by omega), pk_in i 12 (by omega), pk_in k0 20 (by omega), nm_r (e' := upd a6 k0 (nI (16 * (a + A i) + (b + B i)))) v6 ⟨pk_in k0 20 (by omega), pk_in k0 20 (by omega), ?_⟩⟩⟩
  rw [pk_us, pk_us]
  exact fc_count hR hok t6 y x (fun M' hM' => H3 z w y x M M' hM hM')
end
end
section
/-- the marks of the one mirror those of the other -/
def fk_M (M M' : Nat → Int32) : Prop := ∀ m a b, m ≤ 6 → a ≤ 15 → b ≤ 15 → M' (256 * (6 - m) + 16 * b + a) = M (256 * m + 16 * a + b)
def fk_R (R R' : Nat → List (Nat × Nat)) : Prop := ∀ r, r < 49 → R' (48 - r) = fw_mir (R r)
theorem fk_row {R R' : Nat → List (Nat × Nat)} (h : fk_R R R') {l m : Nat} (hl : l ≤ 6) (hm : m ≤ 6) : R' (7 * (6 - l) + (6 - m)) = fw_mir (R (7 * l + m)) := by
  rw [show 7 * (6 - l) + (6 - m) = 48 - (7 * l + m) by omega]
  exact h _ (by omega)
theorem fk_hit (L : List (Nat × Nat)) (x y a b : Nat) : fc_hit (fw_mir L) y x b a = fc_hit L x y a b := by
  rw [Bool.eq_iff_iff, fc_hit_iff, fc_hit_iff]
  constructor
  · rintro ⟨e, he, h1, h2⟩
    exact ⟨fw_sw e, fw_mir_mem.mp he, h2, h1⟩
  · rintro ⟨e, he, h1, h2⟩
    exact ⟨fw_sw e, fw_mir_mem.mpr he, h2, h1⟩
theorem fk_rb (L : List (Nat × Nat)) (x y a b : Nat) : fq_rb (fw_mir L) y x b a = fq_rb L x y a b := by
  rw [Bool.eq_iff_iff, fq_rb_iff, fq_rb_iff]
  constructor
  · rintro ⟨e, he, h1, h2⟩
    exact ⟨fw_sw e, fw_mir_mem.mp he, h2, h1⟩
  · rintro ⟨e, he, h1, h2⟩
    exact ⟨fw_sw e, fw_mir_mem.mpr he, h2, h1⟩
theorem fk_cnt {R R' : Nat → List (Nat × Nat)} {P x y : Nat} {d : Int32} {M M1 N N1 : Nat → Int32} (hR : fk_R R R') (hP : P ≤ 6) (h : fc_cnt R P x y d M M1) (h' : fc_cnt R' (6 - P) y x d N N1) (hM : fk_M M N) : fk_M M1 N1 := by
  intro m a b hm ha hb
  rw [h m a b hm ha hb, h' (6 - m) b a (by omega) hb ha, fk_row hR hP hm, fk_hit, hM m a b hm ha hb]
theorem fk_sum {R R' : Nat → List (Nat × Nat)} (hR : fk_R R R') {P X Y : Nat → Nat} {m a b : Nat} (hm : m ≤ 6) : ∀ t, (∀ k, k < t → P k ≤ 6) → ft_sum R' (fun k => 6 - P k) Y X (6 - m) b a t = ft_sum R P X Y m a b t
  | 0, _ => rfl
  | t + 1, h => by
    unfold ft_sum
    rw [fk_row hR (h t (by omega)) hm, fk_hit, fk_sum hR hm t (fun k hk => h k (by omega))]
theorem fk_marks {R R' : Nat → List (Nat × Nat)} (hR : fk_R R R') {P X Y : Nat → Nat} {t : Nat} {M N : Nat → Int32} (hP : ∀ k, k < t → P k ≤ 6) (h : ft_marks R P X Y t M) (h' : ft_marks R' (fun k => 6 - P k) Y X t N) : fk_M M N := by
  intro m a b hm ha hb
  rw [h m a b hm ha hb, h' (6 - m) b a (by omega) hb ha, fk_sum hR hm t hP]
theorem fk_fin {N : Nat} {F T A B : Nat → Nat} {R R' : Nat → List (Nat × Nat)} (hF : ∀ k, k < N → F k ≤ 6 ∧ T k ≤ 6) (h : fw_fin (fw_E N F T A B) R) (h' : fw_fin (fw_E N (fun k => 6 - F k) (fun k => 6 - T k) B A) R') : fk_R R R' := by
  refine fw_mirror h h' ?_ ?_
  · rintro l m p q ⟨k, hk, rfl, rfl, rfl, rfl⟩
    exact ⟨k, hk, rfl, rfl, rfl, rfl⟩
  · rintro l m p q ⟨k, hk, rfl, rfl, rfl, rfl⟩
    have := hF k hk
    exact ⟨k, hk, by show F k = 6 - (6 - F k); omega, by show T k = 6 - (6 - T k); omega, rfl, rfl⟩
theorem fk_up (F : Nat → Nat) (k v : Nat) : fu_up (fun j => 6 - F j) k (6 - v) = fun j => 6 - fu_up F k v j := by
  funext j
  by_cases c : j = k
  · rw [c, fu_up_s, fu_up_s]
  · rw [fu_up_n c, fu_up_n c]
theorem fk_del (F : Nat → Nat) (k n : Nat) : fu_del (fun j => 6 - F j) k n = fun j => 6 - fu_del F k n j := by
  funext j
  unfold fu_del
  by_cases c : k ≤ j ∧ j < n
  · rw [if_pos c, if_pos c]
  · rw [if_neg c, if_neg c]
/-- the two watches: what the one holds, the other holds mirrored -/
def fk_K (N t : Nat) (F T A B P X Y : Nat → Nat) (R R' : Nat → List (Nat × Nat)) (u v : St1) : Prop := match u, v with
  | (f0, f1, _, a1, a2, a3, a4, a5, a6, a7, a8, _, a10), (g0, g1, _, b1, b2, b3, b4, b5, b6, b7, b8, _, b10) =>
    f0 = nI N ∧ f1 = nI t ∧ g0 = nI N ∧ g1 = nI t ∧ fs_L N F T A B a1 a2 a3 a4 ∧ fs_L N (fun k => 6 - F k) (fun k => 6 - T k) B A b1 b2 b3 b4 ∧ fs_T t P X Y a5 a6 ∧ fs_T t (fun k => 6 - P k) Y X b5 b6 ∧
    fw_rows R a7 a8 ∧ fw_rows R' b7 b8 ∧ fw_ok R ∧ fw_ok R' ∧ fk_R R R' ∧ fk_M a10 b10
def fk_Q (u v : St1) : Prop := ∃ N t F T A B P X Y R R', fk_K N t F T A B P X Y R R' u v
def fk_pb (S : Nat → Nat → Bool) (a b : Nat) : Bool := (List.range (a + 1)).any (fun x => (List.range (b + 1)).any (fun y => S x y))
theorem fk_pb_iff {S : Nat → Nat → Bool} {a b : Nat} : fk_pb S a b = true ↔ ∃ x y, x ≤ a ∧ y ≤ b ∧ S x y = true := by
  unfold fk_pb
  rw [List.any_eq_true]
  constructor
  · rintro ⟨x, hx, h⟩
    obtain ⟨y, hy, h'⟩ := List.any_eq_true.mp h
    rw [List.mem_range] at hx hy
    exact ⟨x, y, by omega, by omega, h'⟩
  · rintro ⟨x, y, hx, hy, h⟩
    exact ⟨x, List.mem_range.mpr (by omega), List.any_eq_true.mpr ⟨y, List.mem_range.mpr (by omega), h⟩⟩
theorem fk_S {M M' : Nat → Int32} (h : fk_M M M') {m : Nat} (hm : m ≤ 6) : ∀ a b, a < 16 → b < 16 → fq_S M' (6 - m) b a = fq_S M m a b := by
  intro a b ha hb
  unfold fq_S
  rw [h m a b hm (by omega) (by omega)]
theorem fk_pbm {M M' : Nat → Int32} (h : fk_M M M') {m a b : Nat} (hm : m ≤ 6) (ha : a ≤ 15) (hb : b ≤ 15) : fk_pb (fq_S M' (6 - m)) b a = fk_pb (fq_S M m) a b := by
  rw [Bool.eq_iff_iff, fk_pb_iff, fk_pb_iff]
  constructor
  · rintro ⟨x, y, hx, hy, e⟩
    rw [fk_S h hm y x (by omega) (by omega)] at e
    exact ⟨y, x, hy, hx, e⟩
  · rintro ⟨x, y, hx, hy, e⟩
    refine ⟨y, x, hy, hx, ?_⟩
    rw [fk_S h hm x y (by omega) (by omega)]
    exact e
section
variable {post : Int32 → Prop} {f0 f1 g : Int32} {a1 a2 a3 a4 a5 a6 a7 a8 a9 a10 : Nat → Int32} {g0 g1 h : Int32} {b1 b2 b3 b4 b5 b6 b7 b8 b9 b10 : Nat → Int32}
theorem fk_possible {m a b : Nat} (hm : m ≤ 6) (ha : a ≤ 15) (hb : b ≤ 15) (H : post (if fk_pb (fq_S a10 m) a b = true then 1 else 0)) :
    wpX_possible post (f0, f1, g, a1, a2, a3, a4, a5, a6, a7, a8, a9, a10) (nI m) (nI a) (nI b) := by
  refine fq_possible hm ha hb (fun z => ?_) (fun z => ?_)
  · rw [if_pos (fk_pb_iff.mpr z)] at H
    exact H
  · rw [if_neg (fun w => z (fk_pb_iff.mp w))] at H
    exact H
theorem fk_alike {l m a b : Nat} (hQ : fk_Q (f0, f1, g, a1, a2, a3, a4, a5, a6, a7, a8, a9, a10) (g0, g1, h, b1, b2, b3, b4, b5, b6, b7, b8, b9, b10)) (hl : l ≤ 6) (hm : m ≤ 6) (ha : a ≤ 15) (hb : b ≤ 15) (H : post 1) :
    wpL_alike post (f0, f1, g, a1, a2, a3, a4, a5, a6, a7, a8, a9, a10, g0, g1, h, b1, b2, b3, b4, b5, b6, b7, b8, b9, b10) (nI l) (nI m) (nI a) (nI b) := by
  obtain ⟨N, t, F, T, A, B, P, X, Y, R, R', rfl, rfl, rfl, rfl, hL, hL', hT, hT', hR, hR', hok, hok', hRR, hM⟩ := hQ
  have e6m : (6 : Int32) - nI m = nI (6 - m) := pk_sub (a := 6) hm
  have e6l : (6 : Int32) - nI l = nI (6 - l) := pk_sub (a := 6) hl
  have htr := fr_tr (fk_S hM hm)
  unfold wpL_alike
  refine fq_front hm ?_
  rw [e6m, e6l]
  refine fq_front (by omega) ?_
  rw [htr, fw_mir_len]
  refine br_t rfl ?_
  refine fk_possible hm ha hb (fk_possible (by omega) hb ha ?_)
  rw [fk_pbm hM hm ha hb]
  refine br_t rfl ?_
  refine fq_ready hT hR hok hl ha hb (fq_ready hT' hR' hok' (by omega) hb ha (br_t ?_ ?_))
  · refine fq_rd_eq (t := t) (fun k hk => ?_) (fun k hk => ?_) t 0 0 (by omega)
    · have := (hT.2 k hk).2.2.1
      have c : (P k = l ∧ X k = a ∧ Y k = b) ↔ (6 - P k = 6 - l ∧ Y k = b ∧ X k = a) := by omega
      exact decide_eq_decide.mpr c
    · have := (hT.2 k hk).2.2.1
      rw [fk_row hRR this hl, fk_rb]
  · have hL16 : (fr_go (fq_S a10 m) 16 0 16).length ≤ 16 := fw_len _ 0 16 (fr_srt _ _ _ _) (fun e he => ⟨Nat.zero_le _, by have := ((fr_mem _ _ _ _ e).mp he).2.1; omega⟩)
    have hin : ∀ e, e ∈ fr_go (fq_S a10 m) 16 0 16 → e.1 ≤ 15 ∧ e.2 ≤ 15 := fun e he => by
      have := (fr_mem _ _ _ _ e).mp he
      omega
    generalize hLL : fr_go (fq_S a10 m) 16 0 16 = LL at htr hL16 hin
    refine pk_loop (σ := Unit) (fun n i _ => wL_alike_73 post (nI l) (nI m) (nI LL.length) (nI N) (nI t) g a1 a2 a3 a4 a5 a6 a7 a8 a9 a10 (nI N) (nI t) h b1 b2 b3 b4 b5 b6 b7 b8 b9 b10 n (nI i)) (fun _ _ => True) LL.length 0 () (by omega) trivial ?_ ?_
    · intro n _ _
      refine pk_le LL.length LL.length (fun _ => fq_shortest hR hl hm ?_) (fun z => absurd z (by omega))
      rw [e6m, e6l]
      refine fq_shortest hR' (by omega) (by omega) (br_t ?_ H)
      rw [fk_row hRR hl hm, fw_mir_len]
    · intro n i _ hi _ hw
      obtain ⟨e, g1, g2, g3⟩ := fr_mir_get hi
      have hbd := hin e g2
      have ei : nI LL.length - 1 - nI i = nI (LL.length - 1 - i) := by
        rw [show (1 : Int32) = nI 1 from rfl, pk_sub (by omega), pk_sub (by omega)]
      refine pk_le LL.length i (fun z => absurd z (by omega)) (fun _ => fq_frontAt hm (by omega) ?_)
      rw [hLL, fr_at_some g1, e6m, ei]
      refine fq_frontAt (by omega) (by omega) ?_
      rw [htr, fr_at_some g3, fb_a4 (by omega) (by omega), fb_s4 (by omega) (by omega), fb_16]
      exact br_t rfl (nm_r (nI_1 i) (hw () trivial))
end
end
section
section
variable {post : Int32 → Prop} {L kc ks i l m a b : Nat} {xs : Nat → Int32} {J18 : Int32 → Int32 → Int32 → Int32 → (Nat → Int32) → (Nat → Int32) → (Nat → Int32) → (Nat → Int32) → (Nat → Int32) → (Nat → Int32) → (Nat → Int32) → (Nat → Int32) → (Nat → Int32) → (Nat → Int32) → Int32 → Int32 → Int32 → (Nat → Int32) → (Nat → Int32) → (Nat → Int32) → (Nat → Int32) → (Nat → Int32) → (Nat → Int32) → (Nat → Int32) → (Nat → Int32) → (Nat → Int32) → (Nat → Int32) → Prop}
variable {f0 f1 g : Int32} {a1 a2 a3 a4 a5 a6 a7 a8 a9 a10 : Nat → Int32} {g0 g1 h : Int32} {b1 b2 b3 b4 b5 b6 b7 b8 b9 b10 : Nat → Int32}
theorem fl_321 (hl : l ≤ 6) (hm : m ≤ 6) (ha : a ≤ 15) (hb : b ≤ 15) (HJ : ∀ (f0 f1 g : Int32) (a1 a2 a3 a4 a5 a6 a7 a8 a9 a10 : Nat → Int32) (g0 g1 h : Int32) (b1 b2 b3 b4 b5 b6 b7 b8 b9 b10 : Nat → Int32), fk_Q (f0, f1, g, a1, a2, a3, a4, a5, a6, a7, a8, a9, a10) (g0, g1, h, b1, b2, b3, b4, b5, b6, b7, b8, b9, b10) → J18 (nI (4 * i + 4)) f0 f1 g a1 a2 a3 a4 a5 a6 a7 a8 a9 a10 g0 g1 h b1 b2 b3 b4 b5 b6 b7 b8 b9 b10) (hQ : fk_Q (f0, f1, g, a1, a2, a3, a4, a5, a6, a7, a8, a9, a10) (g0, g1, h, b1, b2, b3, b4, b5, b6, b7, b8, b9, b10)) :
    wL_law_321 post L xs J18 (nI (4 * i)) (nI l) (nI m) (nI a) (nI b) kc ks f0 f1 g a1 a2 a3 a4 a5 a6 a7 a8 a9 a10 g0 g1 h b1 b2 b3 b4 b5 b6 b7 b8 b9 b10 := by
  unfold wL_law_321
  exact fk_alike hQ hl hm ha hb (br_f (by decide) (fk_alike hQ hm hl hb ha (br_f (by decide) (nm_r (nI_add (4 * i) 4) (HJ _ _ _ _ _ _ _ _ _ _ _ _ _ _ _ _ _ _ _ _ _ _ _ _ _ _ hQ)))))
theorem fl_294 {x y : Nat} (hl : l ≤ 6) (hm : m ≤ 6) (ha : a ≤ 15) (hb : b ≤ 15) (hx : x ≤ 15) (hy : y ≤ 15) (HJ : ∀ (f0 f1 g : Int32) (a1 a2 a3 a4 a5 a6 a7 a8 a9 a10 : Nat → Int32) (g0 g1 h : Int32) (b1 b2 b3 b4 b5 b6 b7 b8 b9 b10 : Nat → Int32), fk_Q (f0, f1, g, a1, a2, a3, a4, a5, a6, a7, a8, a9, a10) (g0, g1, h, b1, b2, b3, b4, b5, b6, b7, b8, b9, b10) → J18 (nI (4 * i + 4)) f0 f1 g a1 a2 a3 a4 a5 a6 a7 a8 a9 a10 g0 g1 h b1 b2 b3 b4 b5 b6 b7 b8 b9 b10) (hQ : fk_Q (f0, f1, g, a1, a2, a3, a4, a5, a6, a7, a8, a9, a10) (g0, g1, h, b1, b2, b3, b4, b5, b6, b7, b8, b9, b10)) :
    wL_law_294 post L xs J18 (nI (4 * i)) (nI l) (nI m) (nI a) (nI b) (nI x) (nI y) kc ks f0 f1 g a1 a2 a3 a4 a5 a6 a7 a8 a9 a10 g0 g1 h b1 b2 b3 b4 b5 b6 b7 b8 b9 b10 := by
  obtain ⟨N, t, F, T, A, B, P, X, Y, R, R', rfl, rfl, rfl, rfl, hL, hL', hT, hT', hR, hR', hok, hok', hRR, hM⟩ := hQ
  obtain ⟨k0, h0, h1, h2⟩ := fq_tk t (fun j => P j = F m ∧ X j = x ∧ Y j = y)
  have v1 : m < N → ∀ j, j < k0 → ¬ (6 - P j = 6 - F m ∧ Y j = y ∧ X j = x) := by
    intro hn j hj z
    have c1 := (hT.2 j (by omega)).2.2.1
    have c2 := (hL.2 m hn).2.2.2.2.1
    exact h1 j hj ⟨by omega, z.2.2, z.2.1⟩
  have v2 : m < N → k0 < t → 6 - P k0 = 6 - F m ∧ Y k0 = y ∧ X k0 = x := by
    intro hn hk
    have z := h2 hk
    exact ⟨by rw [z.1], z.2.2, z.2.1⟩
  unfold wL_law_294
  refine fu_pass hL hT hR hok (by omega) hx hy h0 (fun _ => h1) (fun _ => h2) (fun z => ?_) (fun z w => ?_) (fun z w q => ?_) (fun z w q1 q2 M M' hM1 hM2 => ?_)
  · refine fu_pass hL' hT' hR' hok' (by omega) hy hx h0 v1 v2 (fun z' => ?_) (fun z' w' => absurd z' (by omega)) (fun z' w' q' => absurd z' (by omega)) (fun z' w' q1' q2' N1 N2 hN1 hN2 => absurd z' (by omega))
    exact br_t rfl (fl_321 hl hm ha hb HJ ⟨N, t, F, T, A, B, P, X, Y, R, R', rfl, rfl, rfl, rfl, hL, hL', hT, hT', hR, hR', hok, hok', hRR, hM⟩)
  · refine fu_pass hL' hT' hR' hok' (by omega) hy hx h0 v1 v2 (fun z' => absurd z' (by omega)) (fun z' w' => ?_) (fun z' w' q' => absurd w' (by omega)) (fun z' w' q1' q2' N1 N2 hN1 hN2 => absurd w' (by omega))
    exact br_t rfl (fl_321 hl hm ha hb HJ ⟨N, t, F, T, A, B, P, X, Y, R, R', rfl, rfl, rfl, rfl, hL, hL', hT, hT', hR, hR', hok, hok', hRR, hM⟩)
  · refine fu_pass hL' hT' hR' hok' (by omega) hy hx h0 v1 v2 (fun z' => absurd z' (by omega)) (fun z' w' => absurd w' (by omega)) (fun z' w' q' => ?_) (fun z' w' q1' q2' N1 N2 hN1 hN2 => absurd q (by omega))
    exact br_t rfl (fl_321 hl hm ha hb HJ ⟨N, t, F, T, A, B, P, X, Y, R, R', rfl, rfl, rfl, rfl, hL, hL', hT, hT', hR, hR', hok, hok', hRR, hM⟩)
  · refine fu_pass hL' hT' hR' hok' (by omega) hy hx h0 v1 v2 (fun z' => absurd z' (by omega)) (fun z' w' => absurd w' (by omega)) (fun z' w' q' => absurd q' (by omega)) (fun z' w' q1' q2' N1 N2 hN1 hN2 => ?_)
    have l1 := hL.2 m z
    have nT := fu_set_T (k := k0) (l := T m) hT l1.2.2.2.2.2.1 q1 q2
    have nT' := fu_set_T (k := k0) (l := 6 - T m) hT' (by omega) q1' q2'
    rw [fk_up] at nT'
    exact br_t rfl (fl_321 hl hm ha hb HJ ⟨N, t, F, T, A, B, _, _, _, R, R', rfl, rfl, rfl, rfl, hL, hL', nT, nT', hR, hR', hok, hok', hRR, fk_cnt hRR l1.2.2.2.2.2.1 hM2 hN2 (fk_cnt hRR l1.2.2.2.2.1 hM1 hN1 hM)⟩)
end
theorem fl_a15 (x : Int32) : ∃ j : Nat, j ≤ 15 ∧ x &&& 15 = nI j := by
  obtain ⟨j, hj, e⟩ := pk_andE x (m := 15) 4 (by decide)
  exact ⟨j, by omega, e⟩
theorem fl_a3 (x : Int32) : ∃ j : Nat, j ≤ 3 ∧ x &&& 3 = nI j := by
  obtain ⟨j, hj, e⟩ := pk_andE x (m := 3) 2 (by decide)
  exact ⟨j, by omega, e⟩
theorem fl_m7 (x : Int32) : ∃ j : Nat, j ≤ 6 ∧ (x &&& 255) - (x &&& 255) / 7 * 7 = nI j := by
  obtain ⟨j, hj, e⟩ := pk_andE x (m := 255) 8 (by decide)
  refine ⟨j % 7, by omega, ?_⟩
  rw [e, show (7 : Int32) = nI 7 from rfl, pk_rem (by omega) (by omega) (by omega)]
theorem fl_18 {L kc ks : Nat} {xs : Nat → Int32} (hLL : L ≤ 260) : ∀ (c i n : Nat) (f0 f1 g : Int32) (a1 a2 a3 a4 a5 a6 a7 a8 a9 a10 : Nat → Int32) (g0 g1 h : Int32) (b1 b2 b3 b4 b5 b6 b7 b8 b9 b10 : Nat → Int32), i + c = 40 → c < n → fk_Q (f0, f1, g, a1, a2, a3, a4, a5, a6, a7, a8, a9, a10) (g0, g1, h, b1, b2, b3, b4, b5, b6, b7, b8, b9, b10) →
    wL_law_18 (fun r => r = 1) L xs kc ks n (nI (4 * i)) f0 f1 g a1 a2 a3 a4 a5 a6 a7 a8 a9 a10 g0 g1 h b1 b2 b3 b4 b5 b6 b7 b8 b9 b10 := by
  intro c
  induction c with
  | zero =>
    intro i n f0 f1 g a1 a2 a3 a4 a5 a6 a7 a8 a9 a10 g0 g1 h b1 b2 b3 b4 b5 b6 b7 b8 b9 b10 hi hn hQ
    obtain ⟨n, rfl⟩ : ∃ k, n = k + 1 := ⟨n - 1, by omega⟩
    exact pk_lt L (4 * i + 4) (fun _ => rfl) (fun z => pk_le 160 (4 * i) (fun _ => rfl) (fun w => absurd w (by omega))) rfl (nI_add (4 * i) 4) (by omega) (by omega)
  | succ c ih =>
    intro i n f0 f1 g a1 a2 a3 a4 a5 a6 a7 a8 a9 a10 g0 g1 h b1 b2 b3 b4 b5 b6 b7 b8 b9 b10 hi hn hQ
    obtain ⟨n, rfl⟩ : ∃ k, n = k + 1 := ⟨n - 1, by omega⟩
    obtain ⟨k, hk, ek⟩ := fl_a15 (xs (nI (4 * i)).toNatClampNeg)
    obtain ⟨l, hl, el⟩ := fl_m7 (xs (nI (4 * i) + 1).toNatClampNeg)
    obtain ⟨m, hm, em⟩ := fl_m7 (xs (nI (4 * i) + 2).toNatClampNeg)
    obtain ⟨a, ha, ea⟩ := fl_a15 (xs (nI (4 * i) + 3).toNatClampNeg)
    obtain ⟨b, hb, eb⟩ := fl_a15 (xs (nI (4 * i) + 3).toNatClampNeg >>> ((4 : Int32) &&& 31))
    obtain ⟨p, hp, ep⟩ := fl_a3 (xs (nI (4 * i) + 3).toNatClampNeg >>> ((8 : Int32) &&& 31))
    obtain ⟨q, hq, eq⟩ := fl_a3 (xs (nI (4 * i) + 3).toNatClampNeg >>> ((10 : Int32) &&& 31))
    have HJ : ∀ (f0 f1 g : Int32) (a1 a2 a3 a4 a5 a6 a7 a8 a9 a10 : Nat → Int32) (g0 g1 h : Int32) (b1 b2 b3 b4 b5 b6 b7 b8 b9 b10 : Nat → Int32), fk_Q (f0, f1, g, a1, a2, a3, a4, a5, a6, a7, a8, a9, a10) (g0, g1, h, b1, b2, b3, b4, b5, b6, b7, b8, b9, b10) → wL_law_18 (fun r => r = 1) L xs kc ks n (nI (4 * i + 4)) f0 f1 g a1 a2 a3 a4 a5 a6 a7 a8 a9 a10 g0 g1 h b1 b2 b3 b4 b5 b6 b7 b8 b9 b10 := fun f0 f1 g a1 a2 a3 a4 a5 a6 a7 a8 a9 a10 g0 g1 h b1 b2 b3 b4 b5 b6 b7 b8 b9 b10 hQ => ih (i + 1) n f0 f1 g a1 a2 a3 a4 a5 a6 a7 a8 a9 a10 g0 g1 h b1 b2 b3 b4 b5 b6 b7 b8 b9 b10 (by omega) (by omega) hQ
    refine pk_lt L (4 * i + 4) (fun _ => rfl) (fun z => pk_le 160 (4 * i) (fun _ => rfl) (fun w => ⟨pk_in (4 * i) L (by omega), nm_r ek ⟨pk_in (4 * i + 1) L (by omega) (nI_add (4 * i) 1), by decide, nm_r el ⟨pk_in (4 * i + 2) L (by omega) (nI_add (4 * i) 2), by decide, nm_r em ⟨pk_in (4 * i + 3) L (by omega) (nI_add (4 * i) 3), nm_r ea ⟨pk_in (4 * i + 3) L (by omega) (nI_add (4 * i) 3), nm_r eb ⟨pk_in (4 * i + 3) L (by omega) (nI_add (4 * i) 3), nm_r ep ⟨pk_in (4 * i + 3) L (by omega) (nI_add (4 * i) 3), nm_r eq ?_⟩⟩⟩⟩⟩⟩⟩)) rfl (nI_add (4 * i) 4) (by omega) (by omega)
    have e6l : (6 : Int32) - nI l = nI (6 - l) := pk_sub (a := 6) hl
    have e6m : (6 : Int32) - nI m = nI (6 - m) := pk_sub (a := 6) hm
    rw [e6l, e6m]
    refine pk_lt 4 k (fun z4 => pk_lt 9 k (fun z9 => pk_lt 11 k (fun z11 => pk_eq k 12 (fun z12 => ?_) (fun z12 => ?_)) (fun z11 => ?_)) (fun z9 => ?_)) (fun z4 => ?_)
    · -- unlink
      obtain ⟨N, t, F, T, A, B, P, X, Y, R, R', rfl, rfl, rfl, rfl, hL, hL', hT, hT', hR, hR', hok, hok', hRR, hM⟩ := hQ
      have e4 : nI m + 4 = nI (m + 4) := nI_add m 4
      rw [e4]
      refine fu_unlink hL hT (by omega) (fun z => ?_) (fun z R1 g1' c7 c8 c9 M1 r1 r2 r3 => ?_)
      · refine fu_unlink hL' hT' (by omega) (fun z' => ?_) (fun z' R2 g2' d7 d8 d9 M2 s1 s2 s3 => absurd z' (by omega))
        exact br_t rfl (fl_321 hl hm ha hb HJ ⟨N, t, F, T, A, B, P, X, Y, R, R', rfl, rfl, rfl, rfl, hL, hL', hT, hT', hR, hR', hok, hok', hRR, hM⟩)
      · refine fu_unlink hL' hT' (by omega) (fun z' => absurd z' (by omega)) (fun z' R2 g2' d7 d8 d9 M2 s1 s2 s3 => ?_)
        have nL := fu_del_L hL z
        have nL' := fu_del_L hL' z
        rw [fk_del, fk_del] at nL' s2
        have nR := fk_fin (fun j hj => ⟨(nL.2 j hj).2.2.2.2.1, (nL.2 j hj).2.2.2.2.2.1⟩) r2 s2
        exact br_t rfl (fl_321 hl hm ha hb HJ ⟨N - 1, t, _, _, _, _, P, X, Y, R1, R2, rfl, rfl, rfl, rfl, nL, nL', hT, hT', r1, s1, r2.1, s2.1, nR, fk_marks nR (fun j hj => (hT.2 j hj).2.2.1) r3 s3⟩)
    · -- pass
      refine fq_frontAt (i := 0) hl (by omega) ?_
      have hin : ∀ e, e ∈ fr_go (fq_S a10 l) 16 0 16 → e.1 ≤ 15 ∧ e.2 ≤ 15 := fun e he => by
        have := (fr_mem _ _ _ _ e).mp he
        omega
      cases hc : fr_go (fq_S a10 l) 16 0 16 with
      | nil =>
        have e0 : fr_at [] 0 = (-1 : Int32) := rfl
        rw [e0]
        exact br_f (by decide) (br_f (by decide) (fl_294 hl hm ha hb ha hb HJ hQ))
      | cons e s =>
        have hbd := hin e (by rw [hc]; exact List.mem_cons_self)
        rw [fr_at_0, fb_s4 (by omega) (by omega)]
        refine br_t (nI_pos' (by omega)) (br_t (nI_pos' (by omega)) ?_)
        rw [fb_a4 (by omega) (by omega)]
        exact fl_294 hl hm ha hb hbd.1 hbd.2 HJ hQ
    · -- take
      obtain ⟨N, t, F, T, A, B, P, X, Y, R, R', rfl, rfl, rfl, rfl, hL, hL', hT, hT', hR, hR', hok, hok', hRR, hM⟩ := hQ
      obtain ⟨k0, h0, h1, h2⟩ := fq_tk t (fun j => P j = l ∧ X j = a ∧ Y j = b)
      have v1 : ∀ j, j < k0 → ¬ (6 - P j = 6 - l ∧ Y j = b ∧ X j = a) := by
        intro j hj z
        have c1 := (hT.2 j (by omega)).2.2.1
        exact h1 j hj ⟨by omega, z.2.2, z.2.1⟩
      have v2 : k0 < t → 6 - P k0 = 6 - l ∧ Y k0 = b ∧ X k0 = a := by
        intro hk
        have z := h2 hk
        exact ⟨by rw [z.1], z.2.2, z.2.1⟩
      refine fu_take hT hR hok hl ha hb h0 h1 h2 (fun z => ?_) (fun z M hM1 => ?_)
      · refine fu_take hT' hR' hok' (by omega) hb ha h0 v1 v2 (fun z' => ?_) (fun z' M' hN1 => absurd z' (by omega))
        exact br_t rfl (fl_321 hl hm ha hb HJ ⟨N, t, F, T, A, B, P, X, Y, R, R', rfl, rfl, rfl, rfl, hL, hL', hT, hT', hR, hR', hok, hok', hRR, hM⟩)
      · refine fu_take hT' hR' hok' (by omega) hb ha h0 v1 v2 (fun z' => absurd z' (by omega)) (fun z' M' hN1 => ?_)
        have nT := fu_rem_T hT z
        have nT' := fu_rem_T hT' z
        rw [fk_up] at nT'
        exact br_t rfl (fl_321 hl hm ha hb HJ ⟨N, t - 1, F, T, A, B, _, _, _, R, R', rfl, rfl, rfl, rfl, hL, hL', nT, nT', hR, hR', hok, hok', hRR, fk_cnt hRR hl hM1 hN1 hM⟩)
    · -- put
      obtain ⟨N, t, F, T, A, B, P, X, Y, R, R', rfl, rfl, rfl, rfl, hL, hL', hT, hT', hR, hR', hok, hok', hRR, hM⟩ := hQ
      refine fu_put hT hR hok hl ha hb (fun z => ?_) (fun z M hM1 => ?_)
      · refine fu_put hT' hR' hok' (by omega) hb ha (fun z' => ?_) (fun z' M' hN1 => absurd z' (by omega))
        exact br_t rfl (fl_321 hl hm ha hb HJ ⟨N, t, F, T, A, B, P, X, Y, R, R', rfl, rfl, rfl, rfl, hL, hL', hT, hT', hR, hR', hok, hok', hRR, hM⟩)
      · refine fu_put hT' hR' hok' (by omega) hb ha (fun z' => absurd z' (by omega)) (fun z' M' hN1 => ?_)
        have nT := fu_add_T hT z hl ha hb
        have nT' := fu_add_T (l := 6 - l) hT' z (by omega) hb ha
        rw [fk_up] at nT'
        exact br_t rfl (fl_321 hl hm ha hb HJ ⟨N, t + 1, F, T, A, B, _, _, _, R, R', rfl, rfl, rfl, rfl, hL, hL', nT, nT', hR, hR', hok, hok', hRR, fk_cnt hRR hl hM1 hN1 hM⟩)
    · -- link
      obtain ⟨N, t, F, T, A, B, P, X, Y, R, R', rfl, rfl, rfl, rfl, hL, hL', hT, hT', hR, hR', hok, hok', hRR, hM⟩ := hQ
      refine fu_link hL hT hl hm hp hq (fun z => ?_) (fun z R1 g1' c7 c8 c9 M1 r1 r2 r3 => ?_)
      · refine fu_link hL' hT' (by omega) (by omega) hq hp (fun z' => ?_) (fun z' R2 g2' d7 d8 d9 M2 s1 s2 s3 => absurd z' (by omega))
        exact br_t rfl (fl_321 hl hm ha hb HJ ⟨N, t, F, T, A, B, P, X, Y, R, R', rfl, rfl, rfl, rfl, hL, hL', hT, hT', hR, hR', hok, hok', hRR, hM⟩)
      · refine fu_link hL' hT' (by omega) (by omega) hq hp (fun z' => absurd z' (by omega)) (fun z' R2 g2' d7 d8 d9 M2 s1 s2 s3 => ?_)
        have nL := fu_add_L hL z hl hm hp hq
        have nL' := fu_add_L (l := 6 - l) (m := 6 - m) hL' z (by omega) (by omega) hq hp
        rw [fk_up, fk_up] at nL' s2
        have nR := fk_fin (fun j hj => ⟨(nL.2 j hj).2.2.2.2.1, (nL.2 j hj).2.2.2.2.2.1⟩) r2 s2
        exact br_t rfl (fl_321 hl hm ha hb HJ ⟨N + 1, t, _, _, _, _, P, X, Y, R1, R2, rfl, rfl, rfl, rfl, nL, nL', hT, hT', r1, s1, r2.1, s2.1, nR, fk_marks nR (fun j hj => (hT.2 j hj).2.2.1) r3 s3⟩)
theorem fl_init {post : St1 → Prop} {mc ms : Nat} (hc : 10 ≤ mc) (hs : 2900 ≤ ms)
    (H : ∀ R g a7 a8 a9 M, fw_rows R a7 a8 → fw_fin (fw_E 0 (fun _ => 0) (fun _ => 0) (fun _ => 0) (fun _ => 0)) R → ft_marks R (fun _ => 0) (fun _ => 0) (fun _ => 0) 0 M → post (nI 0, nI 0, g, (fun _ => 0), (fun _ => 0), (fun _ => 0), (fun _ => 0), (fun _ => 0), (fun _ => 0), a7, a8, a9, M)) :
    wpX_init post mc ms (0, 0, 0) := by
  refine ⟨by omega, by omega, by omega, by omega, by omega, by omega, by omega, by omega, by omega, by omega, by omega, by omega, by omega, by omega, by omega, by omega, by omega, by omega, by omega, by omega, ?_⟩
  exact ft_rebuild (N := 0) (t := 0) (F := fun _ => 0) (T := fun _ => 0) (A := fun _ => 0) (B := fun _ => 0) (P := fun _ => 0) (X := fun _ => 0) (Y := fun _ => 0) ⟨by omega, fun k hk => absurd hk (by omega)⟩ ⟨by omega, fun k hk => absurd hk (by omega)⟩ (fun R g a7 a8 a9 M h1 h2 h3 => H R g a7 a8 a9 M h1 h2 h3)
theorem i_vc (xs : Nat → Int32) (L : Nat) (hL : L ≤ 260) : wpL_law (fun r => r = 1) L xs := by
  refine ⟨10, 2900, by omega, by omega, fl_init (by omega) (by omega) (fun R g a7 a8 a9 M r1 r2 r3 => ⟨by omega, by omega, 10, 2900, by omega, by omega, fl_init (by omega) (by omega) (fun R' g' b7 b8 b9 M' s1 s2 s3 => ⟨41, ?_⟩)⟩)⟩
  have nR : fk_R R R' := fw_mirror r2 s2 (fun l m p q e => by obtain ⟨k, hk, _⟩ := e; exact absurd hk (by omega)) (fun l m p q e => by obtain ⟨k, hk, _⟩ := e; exact absurd hk (by omega))
  refine fl_18 hL 40 0 41 _ _ _ _ _ _ _ _ _ _ _ _ _ _ _ _ _ _ _ _ _ _ _ _ _ _ (by omega) (by omega) ⟨0, 0, fun _ => 0, fun _ => 0, fun _ => 0, fun _ => 0, fun _ => 0, fun _ => 0, fun _ => 0, R, R', rfl, rfl, rfl, rfl, ⟨by omega, fun k hk => absurd hk (by omega)⟩, ⟨by omega, fun k hk => absurd hk (by omega)⟩, ⟨by omega, fun k hk => absurd hk (by omega)⟩, ⟨by omega, fun k hk => absurd hk (by omega)⟩, r1, s1, r2.1, s2.1, nR, fun m a b hm ha hb => ?_⟩
  rw [r3 m a b hm ha hb, s3 (6 - m) b a (by omega) hb ha]
  rfl
end
