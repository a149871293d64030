section
theorem kr_snoc (l : List Nat) : l = [] ∨ ∃ l' b, l = l' ++ [b] := by
  rcases List.eq_nil_or_concat l with e | ⟨l', b, e⟩
  · exact Or.inl e
  · exact Or.inr ⟨l', b, by rw [e, List.concat_eq_append]⟩
/-- an array holds a list from a place on -/
def kr_ar (a : Nat → Int32) : Nat → List Nat → Prop
  | _, [] => True
  | k, x :: l => a k = nI x ∧ kr_ar a (k + 1) l
theorem kr_ar_app (a : Nat → Int32) : ∀ (l m : List Nat) (k : Nat), kr_ar a k (l ++ m) ↔ (kr_ar a k l ∧ kr_ar a (k + l.length) m) := by
  intro l
  induction l with
  | nil => intro m k; simp [kr_ar]
  | cons x l ih =>
    intro m k
    have e : k + (x :: l).length = k + 1 + l.length := by simp only [List.length_cons]; omega
    rw [e]
    show (a k = nI x ∧ kr_ar a (k + 1) (l ++ m)) ↔ ((a k = nI x ∧ kr_ar a (k + 1) l) ∧ kr_ar a (k + 1 + l.length) m)
    rw [ih]
    constructor
    · intro ⟨h1, h2, h3⟩; exact ⟨⟨h1, h2⟩, h3⟩
    · intro ⟨⟨h1, h2⟩, h3⟩; exact ⟨h1, h2, h3⟩
theorem kr_ar_fr {a a' : Nat → Int32} : ∀ (l : List Nat) (k : Nat), kr_ar a k l → (∀ j, k ≤ j → j < k + l.length → a' j = a j) → kr_ar a' k l := by
  intro l
  induction l with
  | nil => intro k _ _; trivial
  | cons x l ih =>
    intro k h hf
    have hl : (x :: l).length = l.length + 1 := rfl
    exact ⟨by rw [hf k (Nat.le_refl k) (by omega)]; exact h.1, ih (k + 1) h.2 (fun j h1 h2 => hf j (by omega) (by omega))⟩
theorem kr_ar_get {a : Nat → Int32} : ∀ (l : List Nat) (k : Nat), kr_ar a k l → ∀ i (h : i < l.length), a (k + i) = nI (l[i]'h) := by
  intro l
  induction l with
  | nil => intro k _ i h; exact absurd h (by simp)
  | cons x l ih =>
    intro k h i hi
    cases i with
    | zero => exact h.1
    | succ i =>
      have := ih (k + 1) h.2 i (by simpa using hi)
      rw [show k + (i + 1) = k + 1 + i by omega]
      exact this
/-- a filter by one of two parts of which the first stands ahead -/
theorem kr_part (p q r : Nat → Bool) : ∀ l : List Nat, l.Pairwise (fun a b => q a = true → p b = false) → (∀ x, x ∈ l → r x = (p x || q x)) → (∀ x, p x = true → q x = false) → l.filter r = l.filter p ++ l.filter q := by
  intro l
  induction l with
  | nil => intro _ _ _; rfl
  | cons a l ih =>
    intro h hr hd
    rw [List.pairwise_cons] at h
    have ih' := ih h.2 (fun x hx => hr x (List.mem_cons_of_mem _ hx)) hd
    have ra := hr a List.mem_cons_self
    cases hp : p a with
    | true =>
      have hq := hd a hp
      rw [List.filter_cons_of_pos (by rw [ra, hp]; rfl), List.filter_cons_of_pos hp, List.filter_cons_of_neg (by rw [hq]; decide), ih']
      rfl
    | false =>
      cases hq : q a with
      | true =>
        have e : l.filter p = [] := List.filter_eq_nil_iff.mpr (fun x hx => by rw [h.1 x hx hq]; decide)
        rw [List.filter_cons_of_pos (by rw [ra, hp, hq]; rfl), List.filter_cons_of_neg (by rw [hp]; decide), List.filter_cons_of_pos hq, ih', e]
        rfl
      | false =>
        rw [List.filter_cons_of_neg (by rw [ra, hp, hq]; decide), List.filter_cons_of_neg (by rw [hp]; decide), List.filter_cons_of_neg (by rw [hq]; decide), ih']
/-- the children of a place: later places whose parent it is -/
def kr_kids (par : Nat → Nat) (n i : Nat) : List Nat := (List.range' (i + 1) (n - (i + 1))).filter (fun j => par j == i)
theorem kr_mem_kids {par : Nat → Nat} {n i j : Nat} : j ∈ kr_kids par n i ↔ i < j ∧ j < n ∧ par j = i := by
  unfold kr_kids
  rw [List.mem_filter, List.mem_range'_1, beq_iff_eq]
  omega
theorem kr_kids_pw (par : Nat → Nat) (n i : Nat) : (kr_kids par n i).Pairwise (· < ·) := List.Pairwise.filter _ (List.pairwise_lt_range' (s := i + 1) (n := n - (i + 1)))
theorem kr_kids_nd (par : Nat → Nat) (n i : Nat) : (kr_kids par n i).Nodup := List.Pairwise.imp (fun h => Nat.ne_of_lt h) (kr_kids_pw par n i)
/-- the shape: parents ahead; a place that has been left has no more children -/
def kr_Sh (par : Nat → Nat) (n : Nat) : Prop := (∀ j, 0 < j → j < n → par j < j) ∧ (∀ i j k, i < j → j < k → k < n → par j < i → par k ≠ i)
/-- e is the end of the part of d -/
def kr_En (par : Nat → Nat) (n d e : Nat) : Prop := d < e ∧ e ≤ n ∧ (∀ u, d < u → u < e → d ≤ par u) ∧ (e < n → par e < d)
theorem kr_en_ex (par : Nat → Nat) (n d : Nat) (h : d < n) : ∃ e, kr_En par n d e := by
  obtain ⟨e, he, hm⟩ := pk_least (fun e => d < e ∧ (e = n ∨ (e < n ∧ par e < d))) ⟨n, h, Or.inl rfl⟩
  have hen : e ≤ n := by
    rcases Nat.lt_or_ge n e with z | z
    · exact absurd ⟨h, Or.inl rfl⟩ (hm n z)
    · exact z
  refine ⟨e, he.1, hen, fun u h1 h2 => ?_, fun h1 => ?_⟩
  · rcases Nat.lt_or_ge (par u) d with z | z
    · exact absurd ⟨h1, Or.inr ⟨by omega, z⟩⟩ (hm u h2)
    · exact z
  · rcases he.2 with z | z
    · omega
    · exact z.2
theorem kr_en_0 {par : Nat → Nat} {n : Nat} (h : 0 < n) : kr_En par n 0 n := ⟨h, Nat.le_refl n, fun _ _ _ => Nat.zero_le _, fun z => absurd z (Nat.lt_irrefl n)⟩
theorem kr_en_kid {par : Nat → Nat} {n d e : Nat} (hS : kr_Sh par n) (hE : kr_En par n d e) {u k : Nat} (h1 : d ≤ u) (h2 : u < e) (hu : u < k) (hk : k < n) (hp : par k = u) : k < e := by
  obtain ⟨_, _, _, he⟩ := hE
  rcases Nat.lt_or_ge k e with z | z
  · exact z
  · exfalso
    have hen : e < n := by omega
    have := he hen
    rcases Nat.eq_or_lt_of_le z with w | w
    · subst w; omega
    · exact hS.2 u e k h2 w hk (by omega) hp
theorem kr_kids_e {par : Nat → Nat} {n d e : Nat} (hS : kr_Sh par n) (hE : kr_En par n d e) {c : Nat} (h1 : d ≤ c) (h2 : c < e) : kr_kids par n c = (List.range' (c + 1) (e - (c + 1))).filter (fun j => par j == c) := by
  unfold kr_kids
  have hen := hE.2.1
  have e1 : n - (c + 1) = (e - (c + 1)) + (n - e) := by omega
  rw [e1, ← List.range'_append_1, List.filter_append]
  have e2 : (List.range' (c + 1 + (e - (c + 1))) (n - e)).filter (fun j => par j == c) = [] := by
    rw [List.filter_eq_nil_iff]
    intro x hx hb
    rw [List.mem_range'_1] at hx
    have hp : par x = c := by simpa using hb
    have := kr_en_kid hS hE h1 h2 (k := x) (by omega) (by omega) hp
    omega
  rw [e2, List.append_nil]
/-- what waits on the pile, its top first, when t places of the part of d are listed -/
def kr_pd (par : Nat → Nat) (d e t : Nat) : List Nat := if t = 0 then [d] else (List.range' (d + t) (e - (d + t))).filter (fun j => decide (par j < d + t))
theorem kr_pd_step {par : Nat → Nat} {n d e : Nat} (hS : kr_Sh par n) (hE : kr_En par n d e) (t : Nat) (ht : d + t < e) : ∃ rest, kr_pd par d e t = (d + t) :: rest ∧ kr_pd par d e (t + 1) = kr_kids par n (d + t) ++ rest := by
  have k := kr_kids_e hS hE (c := d + t) (by omega) ht
  have hen := hE.2.1
  have hp1 : kr_pd par d e (t + 1) = (List.range' (d + t + 1) (e - (d + t + 1))).filter (fun j => decide (par j < d + t + 1)) := by
    unfold kr_pd; rw [if_neg (by omega)]; rfl
  rcases Nat.eq_zero_or_pos t with z | z
  · subst z
    refine ⟨[], by simp [kr_pd], ?_⟩
    rw [hp1, k, List.append_nil]
    apply List.filter_congr
    intro x hx
    rw [List.mem_range'_1] at hx
    have h3 := hE.2.2.1 x (by omega) (by omega)
    by_cases w : par x = d
    · simp [w]
    · have h4 : ¬ par x < d + 1 := by omega
      simp [h4, w]
  · refine ⟨(List.range' (d + t + 1) (e - (d + t + 1))).filter (fun j => decide (par j < d + t)), ?_, ?_⟩
    · unfold kr_pd
      rw [if_neg (by omega)]
      have e1 : e - (d + t) = (e - (d + t + 1)) + 1 := by omega
      have h5 := hS.1 (d + t) (by omega) (by omega)
      rw [e1, List.range'_succ, List.filter_cons_of_pos (by simpa using h5)]
    · rw [hp1, k]
      refine kr_part (fun j => par j == d + t) (fun j => decide (par j < d + t)) (fun j => decide (par j < d + t + 1)) _ ?_ ?_ ?_
      · refine List.Pairwise.imp_of_mem ?_ (List.pairwise_lt_range' (s := d + t + 1) (n := e - (d + t + 1)))
        intro a b ha hb hab hq
        rw [List.mem_range'_1] at ha hb
        have hq' : par a < d + t := by simpa using hq
        have h6 := hS.2 (d + t) a b (by omega) hab (by omega) hq'
        simpa using h6
      · intro x _
        by_cases w : par x = d + t
        · simp [w]
        · by_cases w2 : par x < d + t
          · simp [w2]; omega
          · have w3 : ¬ par x < d + t + 1 := by omega
            simp [w, w2, w3]
      · intro x hx
        have h7 : par x = d + t := by simpa using hx
        simp [h7]
theorem kr_pd_end {par : Nat → Nat} {d e : Nat} (h : d < e) : kr_pd par d e (e - d) = [] := by
  unfold kr_pd
  rw [if_neg (by omega), show e - (d + (e - d)) = 0 by omega]
  rfl
theorem kr_pd_len {par : Nat → Nat} {d e t : Nat} (h : d + t < e) : (kr_pd par d e t).length ≤ e - (d + t) := by
  unfold kr_pd
  by_cases z : t = 0
  · rw [if_pos z]; show 1 ≤ _; omega
  · rw [if_neg z]
    refine Nat.le_trans (List.length_filter_le _ _) ?_
    rw [List.length_range']
    exact Nat.le_refl _
/-- a stretch of siblings: q ahead of it, e behind it -/
def kr_sg (nx bf : Nat → Int32) : Nat → List Nat → Nat → Prop
  | _, [], _ => True
  | q, x :: l, e => bf x = nI q ∧ nx x = nI (l.headD e) ∧ kr_sg nx bf x l e
theorem kr_hd_app (A B : List Nat) (e : Nat) : (A ++ B).headD e = A.headD (B.headD e) := by cases A <;> rfl
theorem kr_sg_app (nx bf : Nat → Int32) : ∀ (A B : List Nat) (q e : Nat), kr_sg nx bf q (A ++ B) e ↔ (kr_sg nx bf q A (B.headD e) ∧ kr_sg nx bf (A.getLastD q) B e) := by
  intro A
  induction A with
  | nil => intro B q e; exact ⟨fun h => ⟨trivial, h⟩, fun h => h.2⟩
  | cons x A ih =>
    intro B q e
    rw [List.getLastD_cons]
    show (bf x = nI q ∧ nx x = nI ((A ++ B).headD e) ∧ kr_sg nx bf x (A ++ B) e) ↔ ((bf x = nI q ∧ nx x = nI (A.headD (B.headD e)) ∧ kr_sg nx bf x A (B.headD e)) ∧ kr_sg nx bf (A.getLastD x) B e)
    rw [ih, kr_hd_app]
    constructor
    · intro ⟨h1, h2, h3, h4⟩; exact ⟨⟨h1, h2, h3⟩, h4⟩
    · intro ⟨⟨h1, h2, h3⟩, h4⟩; exact ⟨h1, h2, h3, h4⟩
theorem kr_sg_fr {nx bf nx' bf' : Nat → Int32} : ∀ (l : List Nat) (q e : Nat), kr_sg nx bf q l e → (∀ x, x ∈ l → nx' x = nx x ∧ bf' x = bf x) → kr_sg nx' bf' q l e := by
  intro l
  induction l with
  | nil => intro q e _ _; trivial
  | cons x l ih =>
    intro q e h hf
    have h0 := hf x List.mem_cons_self
    exact ⟨by rw [h0.2]; exact h.1, by rw [h0.1]; exact h.2.1, ih x e h.2.2 (fun y hy => hf y (List.mem_cons_of_mem _ hy))⟩
theorem kr_sg_end {nx bf : Nat → Int32} {A : List Nat} {q y e : Nat} (e' : Nat) (h : kr_sg nx bf q (A ++ [y]) e) (hy : y ∉ A) : kr_sg (upd nx y (nI e')) bf q (A ++ [y]) e' := by
  rw [kr_sg_app] at h ⊢
  refine ⟨kr_sg_fr A q _ h.1 (fun x hx => ⟨pk_un (fun z => hy (z ▸ hx)), rfl⟩), h.2.1, pk_us, trivial⟩
theorem kr_sg_start {nx bf : Nat → Int32} {B : List Nat} {q z e : Nat} (w : Nat) (h : kr_sg nx bf q (z :: B) e) (hz : z ∉ B) : kr_sg nx (upd bf z (nI w)) w (z :: B) e :=
  ⟨pk_us, h.2.1, kr_sg_fr B z e h.2.2 (fun x hx => ⟨rfl, pk_un (fun y => hz (y ▸ hx))⟩)⟩
/-- the children of node p are linked as the list l -/
def kr_Nd (up ch nx bf : Nat → Int32) (p : Nat) (l : List Nat) : Prop := ch p = nI (l.headD 0) ∧ kr_sg nx bf 0 l 0 ∧ (∀ x, x ∈ l → up x = nI p ∧ 0 < x ∧ x < 33) ∧ l.Nodup
theorem kr_Nd_fr {up ch nx bf up' ch' nx' bf' : Nat → Int32} {q : Nat} {l : List Nat} (h : kr_Nd up ch nx bf q l) (hc : ch' q = ch q) (hf : ∀ y, y ∈ l → nx' y = nx y ∧ bf' y = bf y ∧ up' y = up y) : kr_Nd up' ch' nx' bf' q l :=
  ⟨by rw [hc]; exact h.1, kr_sg_fr l 0 0 h.2.1 (fun x hx => ⟨(hf x hx).1, (hf x hx).2.1⟩), fun x hx => by rw [(hf x hx).2.2]; exact h.2.2.1 x hx, h.2.2.2⟩
theorem kr_Nd_nil {up ch nx bf : Nat → Int32} {p : Nat} (h : ch p = 0) : kr_Nd up ch nx bf p [] := ⟨h, trivial, fun x hx => absurd hx List.not_mem_nil, List.nodup_nil⟩
theorem kr_Nd_ne {up ch nx bf : Nat → Int32} {p q x y : Nat} {l m : List Nat} (h : kr_Nd up ch nx bf p l) (h' : kr_Nd up ch nx bf q m) (hp : p < 33) (hq : q < 33) (hpq : q ≠ p) (hx : x ∈ l) (hy : y ∈ m) : y ≠ x := by
  intro e
  have h1 := (h.2.2.1 x hx).1
  have h2 := (h'.2.2.1 y hy).1
  rw [e, h1] at h2
  exact hpq ((nI_eq (by omega) (by omega)).mp h2).symm
/-- what unlink leaves -/
theorem kr_unl {up ch nx bf : Nat → Int32} {p x : Nat} {A B : List Nat} (h : kr_Nd up ch nx bf p (A ++ x :: B)) (hp : p < 33) :
    kr_Nd up (if A = [] then upd ch p (nI (B.headD 0)) else ch) (if A = [] then nx else upd nx (A.getLastD 0) (nI (B.headD 0))) (if B = [] then bf else upd bf (B.headD 0) (nI (A.getLastD 0))) p (A ++ B) ∧
    (∀ q l', q < 33 → q ≠ p → kr_Nd up ch nx bf q l' → kr_Nd up (if A = [] then upd ch p (nI (B.headD 0)) else ch) (if A = [] then nx else upd nx (A.getLastD 0) (nI (B.headD 0))) (if B = [] then bf else upd bf (B.headD 0) (nI (A.getLastD 0))) q l') := by
  have hnd := h.2.2.2
  rw [List.nodup_append] at hnd
  obtain ⟨nA, nxB, dAB⟩ := hnd
  rw [List.nodup_cons] at nxB
  have hs := h.2.1
  rw [kr_sg_app] at hs
  obtain ⟨hsA, hbx, hnx, hsB⟩ := hs
  have hsA' : kr_sg nx bf 0 A x := hsA
  constructor
  · refine ⟨?_, ?_, ?_, ?_⟩
    · rcases kr_snoc A with e | ⟨A', y, e⟩
      · subst e; rw [if_pos rfl]; exact pk_us
      · have hne : A ≠ [] := by rw [e]; simp
        rw [if_neg hne, h.1, kr_hd_app, kr_hd_app]
        rw [e]
        cases A' <;> rfl
    · rw [kr_sg_app]
      constructor
      · rcases kr_snoc A with e | ⟨A', y, e⟩
        · subst e; trivial
        · have hne : A ≠ [] := by rw [e]; simp
          have e' := e
          rw [if_neg hne]
          have hl : A.getLastD 0 = y := by rw [e', List.getLastD_concat]
          have hy : y ∉ A' := by
            rw [e', List.nodup_append] at nA
            intro hy
            exact nA.2.2 y hy y (List.mem_singleton.mpr rfl) rfl
          have t : kr_sg (upd nx y (nI (B.headD 0))) bf 0 A (B.headD 0) := by
            rw [e'] at hsA' ⊢
            exact kr_sg_end _ hsA' hy
          rw [hl]
          cases B with
          | nil => rw [if_pos rfl]; exact t
          | cons z B =>
            rw [if_neg (by simp)]
            refine kr_sg_fr A 0 _ t (fun a ha => ⟨rfl, pk_un (fun w => ?_)⟩)
            exact dAB a ha z (List.mem_cons_of_mem _ List.mem_cons_self) w
      · have t : kr_sg (if A = [] then nx else upd nx (A.getLastD 0) (nI (B.headD 0))) bf x B 0 := by
          refine kr_sg_fr B x 0 hsB (fun b hb => ⟨?_, rfl⟩)
          rcases kr_snoc A with e | ⟨A', y, e⟩
          · rw [if_pos e]
          · have hne : A ≠ [] := by rw [e]; simp
            have e' := e
            rw [if_neg hne]
            have hl : A.getLastD 0 = y := by rw [e', List.getLastD_concat]
            rw [hl]
            refine pk_un (fun w => ?_)
            exact dAB y (by rw [e']; simp) b (List.mem_cons_of_mem _ hb) w.symm
        cases B with
        | nil => trivial
        | cons z B =>
          rw [if_neg (show ¬ (z :: B) = [] by simp)]
          exact kr_sg_start _ t (by have := nxB.2; rw [List.nodup_cons] at this; exact this.1)
    · intro y hy
      refine h.2.2.1 y ?_
      rcases List.mem_append.mp hy with w | w
      · exact List.mem_append.mpr (Or.inl w)
      · exact List.mem_append.mpr (Or.inr (List.mem_cons_of_mem _ w))
    · rw [List.nodup_append]
      exact ⟨nA, nxB.2, fun a ha b hb => dAB a ha b (List.mem_cons_of_mem _ hb)⟩
  · intro q l' hq hqp h'
    refine kr_Nd_fr h' ?_ (fun y hy => ⟨?_, ?_, rfl⟩)
    · by_cases e : A = []
      · rw [if_pos e]; exact pk_un hqp
      · rw [if_neg e]
    · rcases kr_snoc A with e | ⟨A', z, e⟩
      · rw [if_pos e]
      · have hne : A ≠ [] := by rw [e]; simp
        have e' := e
        rw [if_neg hne]
        have hl : A.getLastD 0 = z := by rw [e', List.getLastD_concat]
        rw [hl]
        exact pk_un (kr_Nd_ne h h' hp hq hqp (by rw [e']; simp) hy)
    · cases B with
      | nil => rw [if_pos rfl]
      | cons z B =>
        rw [if_neg (by simp)]
        exact pk_un (kr_Nd_ne h h' hp hq hqp (by simp) hy)
/-- what link leaves -/
theorem kr_lnk {up ch nx bf : Nat → Int32} {p x : Nat} {A B : List Nat} (h : kr_Nd up ch nx bf p (A ++ B)) (hp : p < 33) (hx : x ∉ A ++ B) (hx0 : 0 < x) (hx1 : x < 33) :
    kr_Nd (upd up x (nI p)) (if A = [] then upd ch p (nI x) else ch) (if A = [] then upd nx x (nI (B.headD 0)) else upd (upd nx x (nI (B.headD 0))) (A.getLastD 0) (nI x)) (if B = [] then upd bf x (nI (A.getLastD 0)) else upd (upd bf x (nI (A.getLastD 0))) (B.headD 0) (nI x)) p (A ++ x :: B) ∧
    (∀ q l', q < 33 → q ≠ p → x ∉ l' → kr_Nd up ch nx bf q l' → kr_Nd (upd up x (nI p)) (if A = [] then upd ch p (nI x) else ch) (if A = [] then upd nx x (nI (B.headD 0)) else upd (upd nx x (nI (B.headD 0))) (A.getLastD 0) (nI x)) (if B = [] then upd bf x (nI (A.getLastD 0)) else upd (upd bf x (nI (A.getLastD 0))) (B.headD 0) (nI x)) q l') := by
  have hnd := h.2.2.2
  rw [List.nodup_append] at hnd
  obtain ⟨nA, nB, dAB⟩ := hnd
  have hs := h.2.1
  rw [kr_sg_app] at hs
  obtain ⟨hsA, hsB⟩ := hs
  have hxA : x ∉ A := fun w => hx (List.mem_append.mpr (Or.inl w))
  have hxB : x ∉ B := fun w => hx (List.mem_append.mpr (Or.inr w))
  have hlA : A ≠ [] → A.getLastD 0 ∈ A := by
    intro hne
    rcases kr_snoc A with e | ⟨A', y, e⟩
    · exact absurd e hne
    · rw [e, List.getLastD_concat]; simp
  have hhB : B ≠ [] → B.headD 0 ∈ B := by
    intro hne
    cases B with
    | nil => exact absurd rfl hne
    | cons z B => exact List.mem_cons_self
  constructor
  · refine ⟨?_, ?_, ?_, ?_⟩
    · rcases kr_snoc A with e | ⟨A', y, e⟩
      · subst e; rw [if_pos rfl]; exact pk_us
      · have hne : A ≠ [] := by rw [e]; simp
        rw [if_neg hne, h.1, kr_hd_app, kr_hd_app]
        rw [e]
        cases A' <;> rfl
    · rw [kr_sg_app]
      refine ⟨?_, ?_, ?_, ?_⟩
      · rcases kr_snoc A with e | ⟨A', y, e⟩
        · subst e; trivial
        · have hne : A ≠ [] := by rw [e]; simp
          rw [if_neg hne]
          have hl : A.getLastD 0 = y := by rw [e, List.getLastD_concat]
          have hy : y ∉ A' := by
            rw [e, List.nodup_append] at nA
            intro hy
            exact nA.2.2 y hy y (List.mem_singleton.mpr rfl) rfl
          have t0 : kr_sg (upd nx x (nI (B.headD 0))) bf 0 A (B.headD 0) := kr_sg_fr A 0 _ hsA (fun a ha => ⟨pk_un (fun w => hxA (w ▸ ha)), rfl⟩)
          have t : kr_sg (upd (upd nx x (nI (B.headD 0))) y (nI x)) bf 0 A x := by
            rw [e] at t0 ⊢
            exact kr_sg_end _ t0 hy
          rw [hl]
          show kr_sg _ _ 0 A x
          refine kr_sg_fr A 0 _ t (fun a ha => ⟨rfl, ?_⟩)
          by_cases eB : B = []
          · rw [if_pos eB]; exact pk_un (fun w => hxA (w ▸ ha))
          · rw [if_neg eB, pk_un (fun w => dAB a ha _ (hhB eB) w)]
            exact pk_un (fun w => hxA (w ▸ ha))
      · by_cases eB : B = []
        · rw [if_pos eB]; exact pk_us
        · rw [if_neg eB, pk_un (show x ≠ B.headD 0 from fun w => hxB (by rw [w]; exact hhB eB))]; exact pk_us
      · by_cases eA : A = []
        · rw [if_pos eA]; exact pk_us
        · rw [if_neg eA, pk_un (show x ≠ A.getLastD 0 from fun w => hxA (by rw [w]; exact hlA eA))]; exact pk_us
      · have t : kr_sg (if A = [] then upd nx x (nI (B.headD 0)) else upd (upd nx x (nI (B.headD 0))) (A.getLastD 0) (nI x)) (upd bf x (nI (A.getLastD 0))) (A.getLastD 0) B 0 := by
          refine kr_sg_fr B _ 0 hsB (fun b hb => ⟨?_, pk_un (fun w => hxB (w ▸ hb))⟩)
          by_cases eA : A = []
          · rw [if_pos eA]; exact pk_un (fun w => hxB (w ▸ hb))
          · rw [if_neg eA, pk_un (fun w => dAB _ (hlA eA) b hb w.symm)]; exact pk_un (fun w => hxB (w ▸ hb))
        cases B with
        | nil => trivial
        | cons z B =>
          rw [if_neg (show ¬ (z :: B) = [] by simp)]
          rw [List.nodup_cons] at nB
          exact kr_sg_start _ t nB.1
    · intro y hy
      by_cases e : y = x
      · subst e; exact ⟨pk_us, hx0, hx1⟩
      · rw [pk_un e]
        refine h.2.2.1 y ?_
        rcases List.mem_append.mp hy with w | w
        · exact List.mem_append.mpr (Or.inl w)
        · rcases List.mem_cons.mp w with w | w
          · exact absurd w e
          · exact List.mem_append.mpr (Or.inr w)
    · rw [List.nodup_append]
      refine ⟨nA, List.nodup_cons.mpr ⟨hxB, nB⟩, fun a ha b hb => ?_⟩
      rcases List.mem_cons.mp hb with w | w
      · subst w; exact fun w => hxA (w ▸ ha)
      · exact dAB a ha b w
  · intro q l' hq hqp hxl h'
    refine kr_Nd_fr h' ?_ (fun y hy => ⟨?_, ?_, pk_un (fun w => hxl (w ▸ hy))⟩)
    · by_cases e : A = []
      · rw [if_pos e]; exact pk_un hqp
      · rw [if_neg e]
    · by_cases e : A = []
      · rw [if_pos e]; exact pk_un (fun w => hxl (w ▸ hy))
      · rw [if_neg e, pk_un (kr_Nd_ne h h' hp hq hqp (List.mem_append.mpr (Or.inl (hlA e))) hy)]; exact pk_un (fun w => hxl (w ▸ hy))
    · by_cases e : B = []
      · rw [if_pos e]; exact pk_un (fun w => hxl (w ▸ hy))
      · rw [if_neg e, pk_un (kr_Nd_ne h h' hp hq hqp (List.mem_append.mpr (Or.inr (hhB e))) hy)]; exact pk_un (fun w => hxl (w ▸ hy))
end
section
theorem kr_sub1 (x : Int32) : x + (-1) = x - 1 := (Int32.sub_eq_add_neg x 1).symm
theorem kr_two (l : List Nat) (h : 2 ≤ l.length) : ∃ u m v, l = u :: (m ++ [v]) := by
  cases l with
  | nil => exact absurd h (by simp)
  | cons u t =>
    rcases kr_snoc t with e | ⟨m, v, e⟩
    · subst e; exact absurd h (by simp)
    · exact ⟨u, m, v, by rw [e]⟩
theorem kt_turn {post : St1 → Prop} {dr opn rt nid rs kc gc mv : Int32} {a1 a2 a3 a4 a5 a6 a7 a8 a9 a10 a11 a12 a13 a14 a15 a16 a17 a18 a19 a20 a21 a22 : Nat → Int32} : ∀ (m : Nat) (mid : List Nat) (a23 : Nat → Int32) (a k f : Nat), mid.length = m → kr_ar a23 a mid → 2 * k + m ≤ 10 → m < f → a + m ≤ 33 →
    (∀ a' : Nat → Int32, kr_ar a' a mid.reverse → (∀ j, j < a ∨ a + m ≤ j → a' j = a23 j) → post (dr, opn, rt, nid, rs, kc, gc, mv, a1, a2, a3, a4, a5, a6, a7, a8, a9, a10, a11, a12, a13, a14, a15, a16, a17, a18, a19, a20, a21, a22, a')) → wX_turnPile_10 post dr opn rt nid rs kc gc mv f (nI a) (nI (a + m) - 1) (nI k) a1 a2 a3 a4 a5 a6 a7 a8 a9 a10 a11 a12 a13 a14 a15 a16 a17 a18 a19 a20 a21 a22 a23 := by
  intro m
  induction m using Nat.strongRecOn with
  | ind m ih =>
    intro mid a23 a k f hm har hk hf ha H
    obtain ⟨f, rfl⟩ : ∃ g, f = g + 1 := ⟨f - 1, by omega⟩
    rcases Nat.lt_or_ge m 2 with z | z
    · have hx : nI (a + m) - 1 ≤ nI a := by
        rcases Nat.eq_zero_or_pos (a + m) with w | w
        · have h0 : a = 0 := by omega
          have h1 : m = 0 := by omega
          subst h0 h1
          decide
        · obtain ⟨c, hc⟩ : ∃ c, a + m = c + 1 := ⟨a + m - 1, by omega⟩
          rw [hc, nI_pred]
          exact nI_le (by omega) (by omega)
      have hrev : mid.reverse = mid := by
        match mid, hm with
        | [], _ => rfl
        | [x], _ => rfl
        | x :: y :: l, h => simp only [List.length_cons] at h; omega
      have hpost := H a23 (by rw [hrev]; exact har) (fun _ _ => rfl)
      exact pk_le 10 k (fun _ => hpost) (fun _ => br_t hx hpost)
    · obtain ⟨u, mid', v, rfl⟩ := kr_two mid (by omega)
      have hl : mid'.length + 2 = m := by simp only [List.length_cons, List.length_append, List.length_nil] at hm; omega
      have h1 := har.1
      have h2 := (kr_ar_app a23 mid' [v] (a + 1)).mp har.2
      have h3 : a23 (a + m - 1) = nI v := by
        have := h2.2.1
        rw [show a + 1 + mid'.length = a + m - 1 by omega] at this
        exact this
      have hx4 : nI (a + m) - 1 = nI (a + m - 1) := by
        obtain ⟨c, hc⟩ : ∃ c, a + m = c + 1 := ⟨a + m - 1, by omega⟩
        rw [hc, nI_pred]
        rfl
      rw [hx4]
      refine pk_le 10 k (fun w => absurd w (by omega)) (fun _ => pk_le (a + m - 1) a (fun w => absurd w (by omega)) (fun _ => ⟨pk_in a 33 (by omega), nm_r (e' := nI u) (by rw [nI_clamp (by omega)]; exact h1) ⟨pk_in (a + m - 1) 33 (by omega), pk_in a 33 (by omega), nm_r (e' := upd a23 a (nI v)) (by rw [nI_clamp (by omega), nI_clamp (by omega), h3]) ⟨pk_in (a + m - 1) 33 (by omega), nm_r (e' := upd (upd a23 a (nI v)) (a + m - 1) (nI u)) (by rw [nI_clamp (by omega)]) (nm_r (nI_1 a) (nm_r (e' := nI (a + 1 + (m - 2)) - 1) (by rw [kr_sub1, show a + 1 + (m - 2) = a + m - 1 by omega]) (nm_r (nI_1 k) ?_)))⟩⟩⟩))
      refine ih (m - 2) (by omega) mid' _ (a + 1) (k + 1) f (by omega) ?_ (by omega) (by omega) (by omega) ?_
      · refine kr_ar_fr mid' (a + 1) h2.1 (fun j hj1 hj2 => ?_)
        rw [pk_un (by omega), pk_un (by omega)]
      · intro a' h4 h5
        refine H a' ?_ ?_
        · have er : (u :: (mid' ++ [v])).reverse = v :: (mid'.reverse ++ [u]) := by simp
          rw [er]
          refine ⟨?_, ?_⟩
          · rw [h5 a (by omega), pk_un (by omega), pk_us]
          · rw [kr_ar_app]
            refine ⟨h4, ?_, trivial⟩
            rw [List.length_reverse, h5 _ (by omega), show a + 1 + mid'.length = a + m - 1 by omega, pk_us]
        · intro j hj
          rw [h5 j (by omega), pk_un (by omega), pk_un (by omega)]
theorem kt_turnPile {post : St1 → Prop} {dr opn rt nid rs kc gc mv : Int32} {a1 a2 a3 a4 a5 a6 a7 a8 a9 a10 a11 a12 a13 a14 a15 a16 a17 a18 a19 a20 a21 a22 a23 : Nat → Int32} {mid : List Nat} {a : Nat} (har : kr_ar a23 a mid) (hl : mid.length ≤ 10) (ha : a + mid.length ≤ 33)
    (H : ∀ a' : Nat → Int32, kr_ar a' a mid.reverse → (∀ j, j < a ∨ a + mid.length ≤ j → a' j = a23 j) → post (dr, opn, rt, nid, rs, kc, gc, mv, a1, a2, a3, a4, a5, a6, a7, a8, a9, a10, a11, a12, a13, a14, a15, a16, a17, a18, a19, a20, a21, a22, a')) : wpX_turnPile post (dr, opn, rt, nid, rs, kc, gc, mv, a1, a2, a3, a4, a5, a6, a7, a8, a9, a10, a11, a12, a13, a14, a15, a16, a17, a18, a19, a20, a21, a22, a23) (nI a) (nI (a + mid.length)) := by
  unfold wpX_turnPile
  exact nm_e ⟨mid.length + 1, kt_turn mid.length mid a23 a 0 (mid.length + 1) rfl har (by omega) (by omega) ha H⟩
theorem kt_push {post : Int32 → St1 → Prop} {J : Int32 → Int32 → Int32 → Int32 → Int32 → Int32 → Int32 → Int32 → Int32 → Int32 → Int32 → (Nat → Int32) → (Nat → Int32) → (Nat → Int32) → (Nat → Int32) → (Nat → Int32) → (Nat → Int32) → (Nat → Int32) → (Nat → Int32) → (Nat → Int32) → (Nat → Int32) → (Nat → Int32) → (Nat → Int32) → (Nat → Int32) → (Nat → Int32) → (Nat → Int32) → (Nat → Int32) → (Nat → Int32) → (Nat → Int32) → (Nat → Int32) → (Nat → Int32) → (Nat → Int32) → (Nat → Int32) → (Nat → Int32) → Prop} {x2 x4 x6 : Int32}
    {dr opn rt nid rs kc gc mv : Int32} {a1 a2 a3 a4 a5 a6 a7 a8 a9 a10 a11 a12 a13 a14 a15 a16 a17 a18 a19 a20 a21 a22 : Nat → Int32} : ∀ (rem : List Nat) (q : Nat) (a23 : Nat → Int32) (w k f : Nat), kr_sg a12 a13 q rem 0 → (∀ x, x ∈ rem → 0 < x ∧ x < 33) → k + rem.length ≤ 10 → w + rem.length ≤ 33 → rem.length < f →
    (∀ a' : Nat → Int32, kr_ar a' w rem → (∀ j, j < w → a' j = a23 j) → wX_listPlaces_106 post J x2 (nI (w + rem.length)) x4 x6 dr opn rt nid rs kc gc mv a1 a2 a3 a4 a5 a6 a7 a8 a9 a10 a11 a12 a13 a14 a15 a16 a17 a18 a19 a20 a21 a22 a') → wX_listPlaces_68 post J x2 x4 x6 dr opn rt nid rs kc gc mv f (nI w) (nI (rem.headD 0)) (nI k) a1 a2 a3 a4 a5 a6 a7 a8 a9 a10 a11 a12 a13 a14 a15 a16 a17 a18 a19 a20 a21 a22 a23 := by
  intro rem
  induction rem with
  | nil =>
    intro q a23 w k f _ _ hk hw hf H
    obtain ⟨f, rfl⟩ : ∃ g, f = g + 1 := ⟨f - 1, by simp only [List.length_nil] at hf; omega⟩
    have hpost : wX_listPlaces_106 post J x2 (nI w) x4 x6 dr opn rt nid rs kc gc mv a1 a2 a3 a4 a5 a6 a7 a8 a9 a10 a11 a12 a13 a14 a15 a16 a17 a18 a19 a20 a21 a22 a23 := H a23 trivial (fun _ _ => rfl)
    simp only [List.length_nil] at hk
    exact pk_le 10 k (fun _ => hpost) (fun _ => br_t rfl hpost)
  | cons x rem ih =>
    intro q a23 w k f hs hb hk hw hf H
    obtain ⟨f, rfl⟩ : ∃ g, f = g + 1 := ⟨f - 1, by simp only [List.length_cons] at hf; omega⟩
    simp only [List.length_cons] at hk hw hf
    have hx := hb x List.mem_cons_self
    rw [List.headD_cons]
    refine pk_le 10 k (fun z => absurd z (by omega)) (fun _ => br_f (nI_ne0 hx.1 (by omega)) ⟨pk_in w 33 (by omega), nm_r (e' := upd a23 w (nI x)) (by rw [nI_clamp (by omega)]) (nm_r (nI_1 w) ⟨pk_in x 33 hx.2, nm_r (e' := nI (rem.headD 0)) (by rw [nI_clamp (by omega)]; exact hs.2.1) (nm_r (nI_1 k) ?_)⟩)⟩)
    refine ih x _ (w + 1) (k + 1) f hs.2.2 (fun y hy => hb y (List.mem_cons_of_mem _ hy)) (by omega) (by omega) (by omega) (fun a' h1 h2 => ?_)
    have h3 := H a' ⟨by rw [h2 w (by omega), pk_us], h1⟩ (fun j hj => by rw [h2 j (by omega), pk_un (by omega)])
    rw [List.length_cons, show w + (rem.length + 1) = w + 1 + rem.length by omega] at h3
    exact h3
theorem kt_list {post : Int32 → St1 → Prop} {dr opn rt nid rs kc gc mv : Int32} {a1 a2 a3 a4 a5 a6 a7 a8 a9 a10 a11 a12 a13 a14 a15 a16 a17 a18 a19 a20 a21 : Nat → Int32}
    {n d e : Nat} {b par : Nat → Nat} (hS : kr_Sh par n) (hE : kr_En par n d e) (hn : e - d ≤ 16) (hb : ∀ t, d ≤ t → t < e → 0 < b t ∧ b t < 33) (hk : ∀ t, d ≤ t → t < e → (kr_kids par n t).length ≤ 10)
    (hN : ∀ t, d ≤ t → t < e → kr_Nd a10 a11 a12 a13 (b t) ((kr_kids par n t).map b))
    (H : ∀ o p : Nat → Int32, (∀ k, k < e - d → o k = nI (b (d + k))) → post (nI (e - d)) (dr, opn, rt, nid, rs, kc, gc, mv, a1, a2, a3, a4, a5, a6, a7, a8, a9, a10, a11, a12, a13, a14, a15, a16, a17, a18, a19, a20, a21, o, p)) :
    ∀ (r t f : Nat) (a22 a23 : Nat → Int32), (e - d) - t = r → t ≤ e - d → r < f → (∀ k, k < t → a22 k = nI (b (d + k))) → kr_ar a23 0 ((kr_pd par d e t).reverse.map b) → wX_listPlaces_20 post f (nI t) (nI (kr_pd par d e t).length) (nI t) dr opn rt nid rs kc gc mv a1 a2 a3 a4 a5 a6 a7 a8 a9 a10 a11 a12 a13 a14 a15 a16 a17 a18 a19 a20 a21 a22 a23 := by
  intro r
  induction r with
  | zero =>
    intro t f a22 a23 hr ht hf ho hp
    obtain ⟨f, rfl⟩ : ∃ g, f = g + 1 := ⟨f - 1, by omega⟩
    have e1 : t = e - d := by omega
    subst e1
    rw [kr_pd_end hE.1]
    exact pk_le 33 (e - d) (fun z => absurd z (by omega)) (fun _ => pk_le 0 0 (fun _ => H a22 a23 ho) (fun z => absurd z (by omega)))
  | succ r ih =>
    intro t f a22 a23 hr ht hf ho hp
    obtain ⟨f, rfl⟩ : ∃ g, f = g + 1 := ⟨f - 1, by omega⟩
    obtain ⟨rest, e1, e2⟩ := kr_pd_step hS hE t (by omega)
    have hlen := kr_pd_len (par := par) (d := d) (e := e) (t := t) (by omega)
    have hlen2 : (kr_pd par d e (t + 1)).length ≤ 16 := by
      rcases Nat.lt_or_ge (d + (t + 1)) e with z | z
      · have := kr_pd_len (par := par) (d := d) (e := e) (t := t + 1) z
        omega
      · have e3 : t + 1 = e - d := by omega
        rw [e3, kr_pd_end hE.1]
        exact Nat.zero_le _
    rw [e1] at hp hlen ⊢
    rw [e2, List.length_append] at hlen2
    simp only [List.length_cons] at hlen
    have hbt := hb (d + t) (by omega) (by omega)
    have hNt := hN (d + t) (by omega) (by omega)
    have hkt := hk (d + t) (by omega) (by omega)
    rw [List.reverse_cons, List.map_append, kr_ar_app] at hp
    have hat : a23 rest.length = nI (b (d + t)) := by
      have := hp.2.1
      rw [Nat.zero_add, List.length_map, List.length_reverse] at this
      exact this
    refine pk_le 33 t (fun z => absurd z (by omega)) (fun _ => pk_le (rest.length + 1) 0 (fun z => absurd z (by omega)) (fun _ => nm_r (pk_m1 rest.length) ⟨pk_in rest.length 33 (by omega), nm_r (e' := nI (b (d + t))) (by rw [nI_clamp (by omega)]; exact hat) ⟨pk_in t 33 (by omega), nm_r (e' := upd a22 t (nI (b (d + t)))) (by rw [nI_clamp (by omega)]) (nm_r (nI_1 t) ⟨pk_in (b (d + t)) 33 hbt.2, nm_r (e' := nI (((kr_kids par n (d + t)).map b).headD 0)) (by rw [nI_clamp (by omega)]; exact hNt.1) ⟨11, ?_⟩⟩)⟩⟩))
    refine kt_push ((kr_kids par n (d + t)).map b) 0 a23 rest.length 0 11 hNt.2.1 (fun x hx => (hNt.2.2.1 x hx).2) (by rw [List.length_map]; omega) (by rw [List.length_map]; omega) (by rw [List.length_map]; omega) (fun a' h1 h2 => ?_)
    unfold wX_listPlaces_106
    refine kt_turnPile h1 (by rw [List.length_map]; exact hkt) (by rw [List.length_map]; omega) (fun a'' h3 h4 => nm_r (nI_1 t) ?_)
    have h5 := ih (t + 1) f (upd a22 t (nI (b (d + t)))) a'' (by omega) (by omega) (by omega) ?_ ?_
    · rw [e2, List.length_append, Nat.add_comm (kr_kids par n (d + t)).length rest.length] at h5
      rw [List.length_map]
      exact h5
    · intro k hk1
      by_cases z : k = t
      · subst z; exact pk_us
      · rw [pk_un z]; exact ho k (by omega)
    · rw [e2, List.reverse_append, List.map_append, kr_ar_app]
      constructor
      · refine kr_ar_fr _ 0 hp.1 (fun j _ hj => ?_)
        rw [List.length_map, List.length_reverse] at hj
        rw [h4 j (by omega), h2 j (by omega)]
      · rw [List.length_map, List.length_reverse, Nat.zero_add, List.map_reverse]
        exact h3
theorem kt_listPlaces {post : Int32 → St1 → Prop} {dr opn rt nid rs kc gc mv : Int32} {a1 a2 a3 a4 a5 a6 a7 a8 a9 a10 a11 a12 a13 a14 a15 a16 a17 a18 a19 a20 a21 a22 a23 : Nat → Int32}
    {n d e : Nat} {b par : Nat → Nat} (hS : kr_Sh par n) (hE : kr_En par n d e) (hn : e - d ≤ 16) (hb : ∀ t, d ≤ t → t < e → 0 < b t ∧ b t < 33) (hk : ∀ t, d ≤ t → t < e → (kr_kids par n t).length ≤ 10)
    (hN : ∀ t, d ≤ t → t < e → kr_Nd a10 a11 a12 a13 (b t) ((kr_kids par n t).map b))
    (H : ∀ o p : Nat → Int32, (∀ k, k < e - d → o k = nI (b (d + k))) → post (nI (e - d)) (dr, opn, rt, nid, rs, kc, gc, mv, a1, a2, a3, a4, a5, a6, a7, a8, a9, a10, a11, a12, a13, a14, a15, a16, a17, a18, a19, a20, a21, o, p)) : wpX_listPlaces post (dr, opn, rt, nid, rs, kc, gc, mv, a1, a2, a3, a4, a5, a6, a7, a8, a9, a10, a11, a12, a13, a14, a15, a16, a17, a18, a19, a20, a21, a22, a23) (nI (b d)) := by
  have hde := hE.1
  have hbd := hb d (Nat.le_refl d) hde
  have hpd : kr_pd par d e 0 = [d] := by simp [kr_pd]
  have h := kt_list (dr := dr) (opn := opn) (rt := rt) (nid := nid) (rs := rs) (kc := kc) (gc := gc) (mv := mv) hS hE hn hb hk hN H (e - d) 0 (e - d + 1) a22 (upd a23 0 (nI (b d))) (by omega) (by omega) (by omega) (fun k hk => absurd hk (by omega)) (by rw [hpd]; exact ⟨pk_us, trivial⟩)
  rw [hpd] at h
  unfold wpX_listPlaces
  exact br_f (nI_ne0 hbd.1 (by omega)) (nm_e ⟨_, h⟩)
end
section
/-- the shown tree as the links hold it: n places, place t is node b t, its parent's place par t -/
def kr_V (rt : Int32) (up ch nx bf : Nat → Int32) (n : Nat) (b par : Nat → Nat) : Prop :=
  n ≤ 16 ∧ kr_Sh par n ∧ (∀ t, t < n → 0 < b t ∧ b t < 33) ∧ (∀ t, t < n → (kr_kids par n t).length ≤ 10) ∧ (∀ t, t < n → kr_Nd up ch nx bf (b t) ((kr_kids par n t).map b)) ∧ rt = (if n = 0 then 0 else nI (b 0)) ∧ (∀ t s, t < n → s < n → b t = b s → t = s) ∧ (0 < n → up (b 0) = 0)
theorem kr_V_up {rt : Int32} {up ch nx bf : Nat → Int32} {n : Nat} {b par : Nat → Nat} (h : kr_V rt up ch nx bf n b par) {k : Nat} (h0 : 0 < k) (hk : k < n) : up (b k) = nI (b (par k)) := by
  obtain ⟨_, hS, _, _, hN, _, _, _⟩ := h
  have hp := hS.1 k h0 hk
  exact ((hN (par k) (by omega)).2.2.1 (b k) (List.mem_map.mpr ⟨k, kr_mem_kids.mpr ⟨hp, hk, rfl⟩, rfl⟩)).1
theorem kt_root {post : Int32 → St1 → Prop} {dr opn rt nid rs kc gc mv : Int32} {a1 a2 a3 a4 a5 a6 a7 a8 a9 a10 a11 a12 a13 a14 a15 a16 a17 a18 a19 a20 a21 a22 a23 : Nat → Int32} {n : Nat} {b par : Nat → Nat} (hV : kr_V rt a10 a11 a12 a13 n b par) (H : ∀ o p : Nat → Int32, (∀ k, k < n → o k = nI (b k)) → post (nI n) (dr, opn, rt, nid, rs, kc, gc, mv, a1, a2, a3, a4, a5, a6, a7, a8, a9, a10, a11, a12, a13, a14, a15, a16, a17, a18, a19, a20, a21, o, p)) : wpX_listPlaces post (dr, opn, rt, nid, rs, kc, gc, mv, a1, a2, a3, a4, a5, a6, a7, a8, a9, a10, a11, a12, a13, a14, a15, a16, a17, a18, a19, a20, a21, a22, a23) rt := by
  obtain ⟨hn, hS, hb, hk, hN, hr, _⟩ := hV
  rcases Nat.eq_zero_or_pos n with z | z
  · subst z
    rw [if_pos rfl] at hr
    have h := H a22 a23 (fun k hk => absurd hk (by omega))
    unfold wpX_listPlaces
    exact br_t hr h
  · rw [if_neg (by omega)] at hr
    subst hr
    exact kt_listPlaces hS (kr_en_0 z) hn (fun t _ h => hb t h) (fun t _ h => hk t h) (fun t _ h => hN t h) (fun o p ho => H o p (fun k hk => by have := ho k hk; rwa [Nat.zero_add] at this))
theorem kt_size {post : Int32 → St1 → Prop} {dr opn rt nid rs kc gc mv : Int32} {a1 a2 a3 a4 a5 a6 a7 a8 a9 a10 a11 a12 a13 a14 a15 a16 a17 a18 a19 a20 a21 a22 a23 : Nat → Int32} {n : Nat} {b par : Nat → Nat} (hV : kr_V rt a10 a11 a12 a13 n b par) (H : ∀ o p : Nat → Int32, post (nI n) (dr, opn, rt, nid, rs, kc, gc, mv, a1, a2, a3, a4, a5, a6, a7, a8, a9, a10, a11, a12, a13, a14, a15, a16, a17, a18, a19, a20, a21, o, p)) : wpX_size post (dr, opn, rt, nid, rs, kc, gc, mv, a1, a2, a3, a4, a5, a6, a7, a8, a9, a10, a11, a12, a13, a14, a15, a16, a17, a18, a19, a20, a21, a22, a23) := by
  unfold wpX_size
  exact kt_root hV (fun o p _ => H o p)
theorem kt_nodeAt {post : Int32 → St1 → Prop} {dr opn rt nid rs kc gc mv : Int32} {a1 a2 a3 a4 a5 a6 a7 a8 a9 a10 a11 a12 a13 a14 a15 a16 a17 a18 a19 a20 a21 a22 a23 : Nat → Int32} {n k : Nat} {b par : Nat → Nat} (hV : kr_V rt a10 a11 a12 a13 n b par) (hk : k < 100) (H : ∀ o p : Nat → Int32, post (if k < n then nI (b k) else 0) (dr, opn, rt, nid, rs, kc, gc, mv, a1, a2, a3, a4, a5, a6, a7, a8, a9, a10, a11, a12, a13, a14, a15, a16, a17, a18, a19, a20, a21, o, p)) : wpX_nodeAt post (dr, opn, rt, nid, rs, kc, gc, mv, a1, a2, a3, a4, a5, a6, a7, a8, a9, a10, a11, a12, a13, a14, a15, a16, a17, a18, a19, a20, a21, a22, a23) (nI k) := by
  have hn := hV.1
  unfold wpX_nodeAt
  refine kt_root hV (fun o p ho => ?_)
  have h := H o p
  refine br_f (nI_pos (by omega)) (pk_lt k n (fun z => ⟨pk_in k 33 (by omega), ?_⟩) (fun z => ?_))
  · rw [if_pos z] at h
    rw [nI_clamp (by omega), ho k z]
    exact h
  · rw [if_neg (by omega)] at h
    exact h
theorem kt_id {post : Int32 → St1 → Prop} {dr opn rt nid rs kc gc mv : Int32} {a1 a2 a3 a4 a5 a6 a7 a8 a9 a10 a11 a12 a13 a14 a15 a16 a17 a18 a19 a20 a21 a22 a23 : Nat → Int32} {n k : Nat} {b par : Nat → Nat} (hV : kr_V rt a10 a11 a12 a13 n b par) (hk : k < 100) (H : ∀ o p : Nat → Int32, post (if k < n then a8 (b k) else -4) (dr, opn, rt, nid, rs, kc, gc, mv, a1, a2, a3, a4, a5, a6, a7, a8, a9, a10, a11, a12, a13, a14, a15, a16, a17, a18, a19, a20, a21, o, p)) : wpX_id post (dr, opn, rt, nid, rs, kc, gc, mv, a1, a2, a3, a4, a5, a6, a7, a8, a9, a10, a11, a12, a13, a14, a15, a16, a17, a18, a19, a20, a21, a22, a23) (nI k) := by
  have hb := hV.2.2.1
  unfold wpX_id
  refine kt_nodeAt hV hk (fun o p => ?_)
  have h := H o p
  by_cases z : k < n
  · rw [if_pos z] at h ⊢
    refine br_f (nI_ne0 (hb k z).1 (by have := (hb k z).2; omega)) ⟨pk_in (b k) 33 (hb k z).2, ?_⟩
    rw [nI_clamp (by have := (hb k z).2; omega)]
    exact h
  · rw [if_neg z] at h ⊢
    exact br_t rfl h
theorem kt_state {post : Int32 → St1 → Prop} {dr opn rt nid rs kc gc mv : Int32} {a1 a2 a3 a4 a5 a6 a7 a8 a9 a10 a11 a12 a13 a14 a15 a16 a17 a18 a19 a20 a21 a22 a23 : Nat → Int32} {n k : Nat} {b par : Nat → Nat} (hV : kr_V rt a10 a11 a12 a13 n b par) (hk : k < 100) (H : ∀ o p : Nat → Int32, post (if k < n then a9 (b k) else -4) (dr, opn, rt, nid, rs, kc, gc, mv, a1, a2, a3, a4, a5, a6, a7, a8, a9, a10, a11, a12, a13, a14, a15, a16, a17, a18, a19, a20, a21, o, p)) : wpX_state post (dr, opn, rt, nid, rs, kc, gc, mv, a1, a2, a3, a4, a5, a6, a7, a8, a9, a10, a11, a12, a13, a14, a15, a16, a17, a18, a19, a20, a21, a22, a23) (nI k) := by
  have hb := hV.2.2.1
  unfold wpX_state
  refine kt_nodeAt hV hk (fun o p => ?_)
  have h := H o p
  by_cases z : k < n
  · rw [if_pos z] at h ⊢
    refine br_f (nI_ne0 (hb k z).1 (by have := (hb k z).2; omega)) ⟨pk_in (b k) 33 (hb k z).2, ?_⟩
    rw [nI_clamp (by have := (hb k z).2; omega)]
    exact h
  · rw [if_neg z] at h ⊢
    exact br_t rfl h
theorem kt_kind {post : Int32 → St1 → Prop} {dr opn rt nid rs kc gc mv : Int32} {a1 a2 a3 a4 a5 a6 a7 a8 a9 a10 a11 a12 a13 a14 a15 a16 a17 a18 a19 a20 a21 a22 a23 : Nat → Int32} {n k : Nat} {b par : Nat → Nat} (hV : kr_V rt a10 a11 a12 a13 n b par) (hk : k < 100) (H : ∀ o p : Nat → Int32, post (if k < n then 10 * a6 (b k) + a7 (b k) else -4) (dr, opn, rt, nid, rs, kc, gc, mv, a1, a2, a3, a4, a5, a6, a7, a8, a9, a10, a11, a12, a13, a14, a15, a16, a17, a18, a19, a20, a21, o, p)) : wpX_kind post (dr, opn, rt, nid, rs, kc, gc, mv, a1, a2, a3, a4, a5, a6, a7, a8, a9, a10, a11, a12, a13, a14, a15, a16, a17, a18, a19, a20, a21, a22, a23) (nI k) := by
  have hb := hV.2.2.1
  unfold wpX_kind
  refine kt_nodeAt hV hk (fun o p => ?_)
  have h := H o p
  by_cases z : k < n
  · rw [if_pos z] at h ⊢
    refine br_f (nI_ne0 (hb k z).1 (by have := (hb k z).2; omega)) ⟨pk_in (b k) 33 (hb k z).2, pk_in (b k) 33 (hb k z).2, ?_⟩
    rw [nI_clamp (by have := (hb k z).2; omega)]
    exact h
  · rw [if_neg z] at h ⊢
    exact br_t rfl h
theorem kt_put {post : Int32 → St1 → Prop} {dr opn rt nid rs kc gc mv : Int32} {a1 a2 a3 a4 a5 a6 a7 a8 a9 a10 a11 a12 a13 a14 a15 a16 a17 a18 a19 a20 a21 a22 a23 : Nat → Int32} {n k v : Nat} {b par : Nat → Nat} (hV : kr_V rt a10 a11 a12 a13 n b par) (hk : k < 100) (hv : v < 100) (H1 : k < n → ∀ o p : Nat → Int32, post (a9 (b k)) (dr, opn, rt, nid, rs, kc, gc, mv, a1, a2, a3, a4, a5, a6, a7, a8, upd a9 (b k) (nI v), a10, a11, a12, a13, a14, a15, a16, a17, a18, a19, a20, a21, o, p)) (H2 : n ≤ k → ∀ o p : Nat → Int32, post (-4) (dr, opn, rt, nid, rs, kc, gc, mv, a1, a2, a3, a4, a5, a6, a7, a8, a9, a10, a11, a12, a13, a14, a15, a16, a17, a18, a19, a20, a21, o, p)) : wpX_put post (dr, opn, rt, nid, rs, kc, gc, mv, a1, a2, a3, a4, a5, a6, a7, a8, a9, a10, a11, a12, a13, a14, a15, a16, a17, a18, a19, a20, a21, a22, a23) (nI k) (nI v) := by
  have hb := hV.2.2.1
  unfold wpX_put
  refine kt_nodeAt hV hk (fun o p => ?_)
  by_cases z : k < n
  · have h := H1 z o p
    have hb2 := (hb k z).2
    rw [if_pos z]
    refine br_f (nI_ne0 (hb k z).1 (by omega)) (br_t (nI_pos' (by omega)) ⟨pk_in (b k) 33 hb2, nm_r (e' := a9 (b k)) (by rw [nI_clamp (by omega)]) ⟨pk_in (b k) 33 hb2, nm_r (e' := upd a9 (b k) (nI v)) (by rw [nI_clamp (by omega)]) h⟩⟩)
  · rw [if_neg z]
    exact br_t rfl (H2 (by omega) o p)
theorem kt_placeOf {post : Int32 → St1 → Prop} {dr opn rt nid rs kc gc mv : Int32} {a1 a2 a3 a4 a5 a6 a7 a8 a9 a10 a11 a12 a13 a14 a15 a16 a17 a18 a19 a20 a21 a22 a23 : Nat → Int32} {n k : Nat} {b par : Nat → Nat} (hV : kr_V rt a10 a11 a12 a13 n b par) (hk : k < n) (H : ∀ o p : Nat → Int32, post (nI k) (dr, opn, rt, nid, rs, kc, gc, mv, a1, a2, a3, a4, a5, a6, a7, a8, a9, a10, a11, a12, a13, a14, a15, a16, a17, a18, a19, a20, a21, o, p)) : wpX_placeOf post (dr, opn, rt, nid, rs, kc, gc, mv, a1, a2, a3, a4, a5, a6, a7, a8, a9, a10, a11, a12, a13, a14, a15, a16, a17, a18, a19, a20, a21, a22, a23) (nI (b k)) := by
  have hn := hV.1
  have hb := hV.2.2.1
  have hi := hV.2.2.2.2.2.2.1
  unfold wpX_placeOf
  refine kt_root hV (fun o p ho => ?_)
  refine pk_loop (σ := Unit) (fun f j _ => wX_placeOf_11 post (nI (b k)) (nI n) dr opn rt nid rs kc gc mv a1 a2 a3 a4 a5 a6 a7 a8 a9 a10 a11 a12 a13 a14 a15 a16 a17 a18 a19 a20 a21 o p f (nI j)) (fun _ _ => True) k 0 () (by omega) trivial (fun f _ _ => ?_) (fun f j _ hj _ hw => ?_)
  · exact pk_le n k (fun z => absurd z (by omega)) (fun _ => ⟨pk_in k 33 (by omega), br_t (by rw [nI_clamp (by omega), ho k hk]) (H o p)⟩)
  · refine pk_le n j (fun z => absurd z (by omega)) (fun _ => ⟨pk_in j 33 (by omega), br_f ?_ (nm_r (nI_1 j) (hw () trivial))⟩)
    rw [nI_clamp (by omega), ho j (by omega)]
    intro z
    have h1 := (hb k hk).2
    have h2 := (hb j (by omega)).2
    have h3 := hi j k (by omega) hk ((nI_eq (by omega) (by omega)).mp z)
    omega
theorem kt_place {post : Int32 → St1 → Prop} {dr opn rt nid rs kc gc mv : Int32} {a1 a2 a3 a4 a5 a6 a7 a8 a9 a10 a11 a12 a13 a14 a15 a16 a17 a18 a19 a20 a21 a22 a23 : Nat → Int32} {n k : Nat} {b par : Nat → Nat} (hV : kr_V rt a10 a11 a12 a13 n b par) (hk : k < n) (hd : ∀ t s, t < n → s < n → a8 (b t) = a8 (b s) → t = s) (H : ∀ o p : Nat → Int32, post (nI k) (dr, opn, rt, nid, rs, kc, gc, mv, a1, a2, a3, a4, a5, a6, a7, a8, a9, a10, a11, a12, a13, a14, a15, a16, a17, a18, a19, a20, a21, o, p)) : wpX_place post (dr, opn, rt, nid, rs, kc, gc, mv, a1, a2, a3, a4, a5, a6, a7, a8, a9, a10, a11, a12, a13, a14, a15, a16, a17, a18, a19, a20, a21, a22, a23) (a8 (b k)) := by
  have hn := hV.1
  have hb := hV.2.2.1
  unfold wpX_place
  refine kt_root hV (fun o p ho => ?_)
  refine pk_loop (σ := Unit) (fun f j _ => wX_place_11 post (a8 (b k)) (nI n) dr opn rt nid rs kc gc mv a1 a2 a3 a4 a5 a6 a7 a8 a9 a10 a11 a12 a13 a14 a15 a16 a17 a18 a19 a20 a21 o p f (nI j)) (fun _ _ => True) k 0 () (by omega) trivial (fun f _ _ => ?_) (fun f j _ hj _ hw => ?_)
  · have h1 := (hb k hk).2
    have e : o (nI k).toNatClampNeg = nI (b k) := by rw [nI_clamp (by omega), ho k hk]
    exact pk_le n k (fun z => absurd z (by omega)) (fun _ => ⟨pk_in k 33 (by omega), pk_in (b k) 33 h1 e, br_t (by rw [e, nI_clamp (by omega)]) (H o p)⟩)
  · have h2 := (hb j (by omega)).2
    have e : o (nI j).toNatClampNeg = nI (b j) := by rw [nI_clamp (by omega), ho j (by omega)]
    refine pk_le n j (fun z => absurd z (by omega)) (fun _ => ⟨pk_in j 33 (by omega), pk_in (b j) 33 h2 e, br_f ?_ (nm_r (nI_1 j) (hw () trivial))⟩)
    rw [e, nI_clamp (by omega)]
    intro z
    have h3 := hd j k (by omega) hk z
    omega
theorem kt_parent {post : Int32 → St1 → Prop} {dr opn rt nid rs kc gc mv : Int32} {a1 a2 a3 a4 a5 a6 a7 a8 a9 a10 a11 a12 a13 a14 a15 a16 a17 a18 a19 a20 a21 a22 a23 : Nat → Int32} {n k : Nat} {b par : Nat → Nat} (hV : kr_V rt a10 a11 a12 a13 n b par) (hk : k < 100) (H : ∀ o p : Nat → Int32, post (if 0 < k ∧ k < n then nI (par k) else -4) (dr, opn, rt, nid, rs, kc, gc, mv, a1, a2, a3, a4, a5, a6, a7, a8, a9, a10, a11, a12, a13, a14, a15, a16, a17, a18, a19, a20, a21, o, p)) : wpX_parent post (dr, opn, rt, nid, rs, kc, gc, mv, a1, a2, a3, a4, a5, a6, a7, a8, a9, a10, a11, a12, a13, a14, a15, a16, a17, a18, a19, a20, a21, a22, a23) (nI k) := by
  have hb := hV.2.2.1
  unfold wpX_parent
  refine kt_nodeAt hV hk (fun o p => ?_)
  by_cases z : k < n
  · rw [if_pos z]
    have hb2 := (hb k z).2
    refine br_f (nI_ne0 (hb k z).1 (by omega)) ⟨pk_in (b k) 33 hb2, ?_⟩
    rw [nI_clamp (by omega)]
    rcases Nat.eq_zero_or_pos k with w | w
    · subst w
      have h := H o p
      rw [if_neg (by omega)] at h
      exact br_t (hV.2.2.2.2.2.2.2 z) h
    · have hu := kr_V_up hV w z
      have hp := hV.2.1.1 k w z
      have hb3 := hb (par k) (by omega)
      rw [hu]
      refine br_f (nI_ne0 hb3.1 (by omega)) ⟨pk_in (b k) 33 hb2, ?_⟩
      refine kt_placeOf hV (by omega) (fun o' p' => ?_)
      have h := H o' p'
      rw [if_pos ⟨w, z⟩] at h
      exact h
  · have h := H o p
    rw [if_neg (by omega)] at h
    rw [if_neg z]
    exact br_t rfl h
/-- the digest's sum -/
def kr_dg (a8 a9 : Nat → Int32) (b : Nat → Nat) : Nat → Int32
  | 0 => 0
  | t + 1 => kr_dg a8 a9 b t + (((nI t + 1) * (a8 (b t) + 1)) * (a9 (b t) + 1))
theorem kt_digest {post : Int32 → St1 → Prop} {dr opn rt nid rs kc gc mv : Int32} {a1 a2 a3 a4 a5 a6 a7 a8 a9 a10 a11 a12 a13 a14 a15 a16 a17 a18 a19 a20 a21 a22 a23 : Nat → Int32} {n : Nat} {b par : Nat → Nat} (hV : kr_V rt a10 a11 a12 a13 n b par) (H : ∀ o p : Nat → Int32, post (kr_dg a8 a9 b n) (dr, opn, rt, nid, rs, kc, gc, mv, a1, a2, a3, a4, a5, a6, a7, a8, a9, a10, a11, a12, a13, a14, a15, a16, a17, a18, a19, a20, a21, o, p)) : wpX_digest post (dr, opn, rt, nid, rs, kc, gc, mv, a1, a2, a3, a4, a5, a6, a7, a8, a9, a10, a11, a12, a13, a14, a15, a16, a17, a18, a19, a20, a21, a22, a23) := by
  have hn := hV.1
  have hb := hV.2.2.1
  unfold wpX_digest
  refine kt_root hV (fun o p ho => ?_)
  refine pk_loop (σ := Unit) (fun f j _ => wX_digest_13 post (nI n) dr opn rt nid rs kc gc mv a1 a2 a3 a4 a5 a6 a7 a8 a9 a10 a11 a12 a13 a14 a15 a16 a17 a18 a19 a20 a21 o p f (kr_dg a8 a9 b j) (nI j)) (fun _ _ => True) n 0 () (by omega) trivial (fun f _ _ => ?_) (fun f j _ hj _ hw => ?_)
  · exact pk_le n n (fun _ => H o p) (fun z => absurd z (by omega))
  · have h2 := (hb j hj).2
    have e : o (nI j).toNatClampNeg = nI (b j) := by rw [nI_clamp (by omega), ho j hj]
    refine pk_le n j (fun z => absurd z (by omega)) (fun _ => ⟨pk_in j 33 (by omega), pk_in (b j) 33 h2 e, pk_in j 33 (by omega), pk_in (b j) 33 h2 e, nm_r (e' := kr_dg a8 a9 b (j + 1)) ?_ (nm_r (nI_1 j) (hw () trivial))⟩)
    rw [e, nI_clamp (by omega)]
    rfl
end
section
theorem kt_unl46 {post : St1 → Prop} {dr opn rt nid rs kc gc mv : Int32} {a1 a2 a3 a4 a5 a6 a7 a8 a9 a10 a11 a12 a13 a14 a15 a16 a17 a18 a19 a20 a21 a22 a23 : Nat → Int32} {x w : Nat} {B : List Nat} (hx : x < 33) (hn : a12 x = nI (B.headD 0)) (hb : a13 x = nI w) (hB : ∀ y, y ∈ B → 0 < y ∧ y < 33)
    (H : post (dr, opn, rt, nid, rs, kc, gc, mv, a1, a2, a3, a4, a5, a6, a7, a8, a9, a10, a11, a12, if B = [] then a13 else upd a13 (B.headD 0) (nI w), a14, a15, a16, a17, a18, a19, a20, a21, a22, a23)) : wX_unlink_46 post (nI x) dr opn rt nid rs kc gc mv a1 a2 a3 a4 a5 a6 a7 a8 a9 a10 a11 a12 a13 a14 a15 a16 a17 a18 a19 a20 a21 a22 a23 := by
  unfold wX_unlink_46
  rw [nI_clamp (show x < 2 ^ 31 by omega), hn, hb]
  refine ⟨pk_in x 33 hx, ?_⟩
  cases B with
  | nil =>
    rw [if_pos rfl] at H
    exact br_t rfl H
  | cons z B =>
    rw [if_neg (by simp)] at H
    have hz := hB z List.mem_cons_self
    refine br_f (nI_ne0 hz.1 (by have := hz.2; show z < _; omega)) ⟨pk_in x 33 hx, pk_in x 33 hx, pk_in z 33 hz.2, nm_r (e' := upd a13 z (nI w)) ?_ H⟩
    show upd a13 (nI z).toNatClampNeg (nI w) = _
    rw [nI_clamp (by have := hz.2; omega)]
theorem kt_unlink {post : St1 → Prop} {dr opn rt nid rs kc gc mv : Int32} {a1 a2 a3 a4 a5 a6 a7 a8 a9 a10 a11 a12 a13 a14 a15 a16 a17 a18 a19 a20 a21 a22 a23 : Nat → Int32} {p x : Nat} {A B : List Nat} (h : kr_Nd a10 a11 a12 a13 p (A ++ x :: B)) (hp : p < 33)
    (H : post (dr, opn, rt, nid, rs, kc, gc, mv, a1, a2, a3, a4, a5, a6, a7, a8, a9, a10, if A = [] then upd a11 p (nI (B.headD 0)) else a11, if A = [] then a12 else upd a12 (A.getLastD 0) (nI (B.headD 0)), if B = [] then a13 else upd a13 (B.headD 0) (nI (A.getLastD 0)), a14, a15, a16, a17, a18, a19, a20, a21, a22, a23)) : wpX_unlink post (dr, opn, rt, nid, rs, kc, gc, mv, a1, a2, a3, a4, a5, a6, a7, a8, a9, a10, a11, a12, a13, a14, a15, a16, a17, a18, a19, a20, a21, a22, a23) (nI x) := by
  have hnd := h.2.2.2
  rw [List.nodup_append] at hnd
  obtain ⟨nA, nxB, dAB⟩ := hnd
  have hs := h.2.1
  rw [kr_sg_app] at hs
  obtain ⟨_, hbx, hnx, _⟩ := hs
  have hux := h.2.2.1 x (by simp)
  have hBm : ∀ y, y ∈ B → 0 < y ∧ y < 33 := fun y hy => (h.2.2.1 y (by simp [hy])).2
  have hx := hux.2.2
  unfold wpX_unlink
  dsimp only
  rw [nI_clamp (show x < 2 ^ 31 by omega), hux.1, hnx, hbx, nI_clamp (show p < 2 ^ 31 by omega)]
  refine ⟨pk_in x 33 hx, ?_⟩
  rcases kr_snoc A with e | ⟨A', y, e⟩
  · subst e
    rw [if_pos rfl, if_pos rfl] at H
    exact br_t rfl ⟨pk_in x 33 hx, pk_in x 33 hx, pk_in p 33 hp, nm_e (kt_unl46 hx hnx hbx hBm H)⟩
  · have hne : A ≠ [] := by rw [e]; simp
    have hl : A.getLastD 0 = y := by rw [e, List.getLastD_concat]
    have hyA : y ∈ A := by rw [e]; simp
    have hy := (h.2.2.1 y (by simp [hyA])).2
    have hyx : x ≠ y := fun w => dAB y hyA x List.mem_cons_self w.symm
    rw [if_neg hne, if_neg hne] at H
    rw [hl] at H hbx ⊢
    refine br_f (nI_ne0 hy.1 (by have := hy.2; omega)) ⟨pk_in x 33 hx, pk_in x 33 hx, pk_in y 33 hy.2, nm_r (e' := upd a12 y (nI (B.headD 0))) (by rw [nI_clamp (by have := hy.2; omega)]) ?_⟩
    exact kt_unl46 hx (by rw [pk_un hyx]; exact hnx) hbx hBm H
theorem kt_lnk64 {post : St1 → Prop} {dr opn rt nid rs kc gc mv : Int32} {a1 a2 a3 a4 a5 a6 a7 a8 a9 a10 a11 a12 a13 a14 a15 a16 a17 a18 a19 a20 a21 a22 a23 : Nat → Int32} {x : Nat} {B : List Nat} (hB : ∀ y, y ∈ B → 0 < y ∧ y < 33)
    (H : post (dr, opn, rt, nid, rs, kc, gc, mv, a1, a2, a3, a4, a5, a6, a7, a8, a9, a10, a11, a12, if B = [] then a13 else upd a13 (B.headD 0) (nI x), a14, a15, a16, a17, a18, a19, a20, a21, a22, a23)) : wX_link_64 post (nI x) (nI (B.headD 0)) dr opn rt nid rs kc gc mv a1 a2 a3 a4 a5 a6 a7 a8 a9 a10 a11 a12 a13 a14 a15 a16 a17 a18 a19 a20 a21 a22 a23 := by
  unfold wX_link_64
  cases B with
  | nil =>
    rw [if_pos rfl] at H
    exact br_t rfl H
  | cons z B =>
    rw [if_neg (by simp)] at H
    have hz := hB z List.mem_cons_self
    refine br_f (nI_ne0 hz.1 (by have := hz.2; show z < _; omega)) ⟨pk_in z 33 hz.2, nm_r (e' := upd a13 z (nI x)) ?_ H⟩
    show upd a13 (nI z).toNatClampNeg (nI x) = _
    rw [nI_clamp (by have := hz.2; omega)]
theorem kt_link {post : St1 → Prop} {dr opn rt nid rs kc gc mv : Int32} {a1 a2 a3 a4 a5 a6 a7 a8 a9 a10 a11 a12 a13 a14 a15 a16 a17 a18 a19 a20 a21 a22 a23 : Nat → Int32} {p x : Nat} {A B : List Nat} (h : kr_Nd a10 a11 a12 a13 p (A ++ B)) (hp : p < 33) (hx : x < 33)
    (H : post (dr, opn, rt, nid, rs, kc, gc, mv, a1, a2, a3, a4, a5, a6, a7, a8, a9, upd a10 x (nI p), if A = [] then upd a11 p (nI x) else a11, if A = [] then upd a12 x (nI (B.headD 0)) else upd (upd a12 x (nI (B.headD 0))) (A.getLastD 0) (nI x), if B = [] then upd a13 x (nI (A.getLastD 0)) else upd (upd a13 x (nI (A.getLastD 0))) (B.headD 0) (nI x), a14, a15, a16, a17, a18, a19, a20, a21, a22, a23)) : wpX_link post (dr, opn, rt, nid, rs, kc, gc, mv, a1, a2, a3, a4, a5, a6, a7, a8, a9, a10, a11, a12, a13, a14, a15, a16, a17, a18, a19, a20, a21, a22, a23) (nI x) (nI p) (nI (A.getLastD 0)) := by
  have hs := h.2.1
  rw [kr_sg_app] at hs
  have hBm : ∀ y, y ∈ B → 0 < y ∧ y < 33 := fun y hy => (h.2.2.1 y (by simp [hy])).2
  have Hb : ∀ (f : Nat → Int32), (if B = [] then f else upd f (B.headD 0) (nI x)) = (if B = [] then f else upd f (B.headD 0) (nI x)) := fun _ => rfl
  unfold wpX_link
  dsimp only
  rw [nI_clamp (show p < 2 ^ 31 by omega)]
  rcases kr_snoc A with e | ⟨A', y, e⟩
  · subst e
    have hc : a11 p = nI (B.headD 0) := h.1
    rw [if_pos rfl, if_pos rfl] at H
    refine br_t rfl ⟨pk_in p 33 hp, ?_⟩
    rw [hc]
    unfold wX_link_19
    rw [nI_clamp (show x < 2 ^ 31 by omega), nI_clamp (show p < 2 ^ 31 by omega)]
    exact ⟨pk_in x 33 hx, nm_e ⟨pk_in x 33 hx, nm_e ⟨pk_in x 33 hx, nm_e (br_t rfl ⟨pk_in p 33 hp, nm_e (kt_lnk64 hBm H)⟩)⟩⟩⟩
  · have hne : A ≠ [] := by rw [e]; simp
    have hl : A.getLastD 0 = y := by rw [e, List.getLastD_concat]
    have hyA : y ∈ A := by rw [e]; simp
    have hy := (h.2.2.1 y (by simp [hyA])).2
    have hny : a12 y = nI (B.headD 0) := by
      have h1 := hs.1
      rw [e, kr_sg_app] at h1
      exact h1.2.2.1
    rw [if_neg hne, if_neg hne] at H
    rw [hl] at H ⊢
    have hy0 := nI_ne0 hy.1 (show y < 2 ^ 31 by have := hy.2; omega)
    refine br_f hy0 ⟨pk_in y 33 hy.2, ?_⟩
    rw [nI_clamp (show y < 2 ^ 31 by have := hy.2; omega), hny]
    unfold wX_link_19
    rw [nI_clamp (show x < 2 ^ 31 by omega), nI_clamp (show y < 2 ^ 31 by have := hy.2; omega)]
    exact ⟨pk_in x 33 hx, nm_e ⟨pk_in x 33 hx, nm_e ⟨pk_in x 33 hx, nm_e (br_f hy0 ⟨pk_in y 33 hy.2, nm_e (kt_lnk64 hBm H)⟩)⟩⟩⟩
theorem kt_make5 {a5 : Nat → Int32} : ∀ (k y : Nat), k < 33 → 0 < y → y < 33 → ∃ x, 0 < x ∧ x < 33 ∧ (x = y ∨ (x ≤ k ∧ a5 x = 0)) ∧ ((∃ j, 0 < j ∧ j ≤ k ∧ a5 j = 0) → a5 x = 0) ∧
    ∀ (post : Int32 → St1 → Prop) (dr opn rt nid rs kc gc mv : Int32) (a1 a2 a3 a4 a6 a7 a8 a9 a10 a11 a12 a13 a14 a15 a16 a17 a18 a19 a20 a21 a22 a23 : Nat → Int32) (i f : Nat), i < 16 → k < f →
      post (nI x) (dr, opn, rt, nid + 1, rs, kc, gc, mv, a1, a2, a3, a4, upd a5 x 1, upd a6 x (a1 i), upd a7 x (a2 i), upd a8 x nid, upd a9 x 0, upd a10 x 0, upd a11 x 0, a12, a13, a14, a15, a16, a17, a18, a19, a20, a21, a22, a23) → wX_makeNode_5 post (nI i) dr opn rt nid rs kc gc mv a1 a2 a3 a4 a5 a6 a7 a8 a9 a10 a11 a12 a13 a14 a15 a16 a17 a18 a19 a20 a21 a22 a23 f (nI y) (nI k) := by
  intro k
  induction k with
  | zero =>
    intro y _ hy0 hy
    refine ⟨y, hy0, hy, Or.inl rfl, fun ⟨j, h1, h2, _⟩ => absurd h1 (by omega), ?_⟩
    intro post dr opn rt nid rs kc gc mv a1 a2 a3 a4 a6 a7 a8 a9 a10 a11 a12 a13 a14 a15 a16 a17 a18 a19 a20 a21 a22 a23 i f hi hf H
    obtain ⟨f, rfl⟩ : ∃ g, f = g + 1 := ⟨f - 1, by omega⟩
    have cy := nI_clamp (show y < 2 ^ 31 by omega)
    have ci := nI_clamp (show i < 2 ^ 31 by omega)
    refine pk_le 0 0 (fun _ => ?_) (fun z => absurd z (by omega))
    rw [cy, ci]
    exact ⟨pk_in y 33 hy, nm_e ⟨pk_in i 16 hi, pk_in y 33 hy, nm_e ⟨pk_in i 16 hi, pk_in y 33 hy, nm_e ⟨pk_in y 33 hy, nm_e (nm_e ⟨pk_in y 33 hy, nm_e ⟨pk_in y 33 hy, nm_e ⟨pk_in y 33 hy, nm_e H⟩⟩⟩)⟩⟩⟩⟩
  | succ k ih =>
    intro y hk hy0 hy
    by_cases hu : a5 (k + 1) = 0
    · obtain ⟨x, h0, h1, h2, h3, h4⟩ := ih (k + 1) (by omega) (by omega) hk
      have hx : a5 x = 0 := by
        rcases h2 with z | z
        · rw [z]; exact hu
        · exact z.2
      have hxk : x ≤ k + 1 := by
        rcases h2 with z | z
        · omega
        · omega
      refine ⟨x, h0, h1, Or.inr ⟨hxk, hx⟩, fun _ => hx, ?_⟩
      intro post dr opn rt nid rs kc gc mv a1 a2 a3 a4 a6 a7 a8 a9 a10 a11 a12 a13 a14 a15 a16 a17 a18 a19 a20 a21 a22 a23 i f hi hf H
      obtain ⟨f, rfl⟩ : ∃ g, f = g + 1 := ⟨f - 1, by omega⟩
      refine pk_le (k + 1) 0 (fun z => absurd z (by omega)) (fun _ => ⟨pk_in (k + 1) 33 hk, br_t (by rw [nI_clamp (by omega)]; exact hu) (nm_r (pk_m1 k) ?_)⟩)
      exact h4 post dr opn rt nid rs kc gc mv a1 a2 a3 a4 a6 a7 a8 a9 a10 a11 a12 a13 a14 a15 a16 a17 a18 a19 a20 a21 a22 a23 i f hi (by omega) H
    · obtain ⟨x, h0, h1, h2, h3, h4⟩ := ih y (by omega) hy0 hy
      refine ⟨x, h0, h1, ?_, fun ⟨j, g1, g2, g3⟩ => ?_, ?_⟩
      · rcases h2 with z | z
        · exact Or.inl z
        · exact Or.inr ⟨by omega, z.2⟩
      · refine h3 ⟨j, g1, ?_, g3⟩
        rcases Nat.lt_or_ge k j with w | w
        · have : j = k + 1 := by omega
          rw [this] at g3
          exact absurd g3 hu
        · exact w
      · intro post dr opn rt nid rs kc gc mv a1 a2 a3 a4 a6 a7 a8 a9 a10 a11 a12 a13 a14 a15 a16 a17 a18 a19 a20 a21 a22 a23 i f hi hf H
        obtain ⟨f, rfl⟩ : ∃ g, f = g + 1 := ⟨f - 1, by omega⟩
        refine pk_le (k + 1) 0 (fun z => absurd z (by omega)) (fun _ => ⟨pk_in (k + 1) 33 hk, br_f (by rw [nI_clamp (by omega)]; exact hu) (nm_r (pk_m1 k) ?_)⟩)
        exact h4 post dr opn rt nid rs kc gc mv a1 a2 a3 a4 a6 a7 a8 a9 a10 a11 a12 a13 a14 a15 a16 a17 a18 a19 a20 a21 a22 a23 i f hi (by omega) H
/-- makeNode takes a node that isn't used -/
theorem kt_make {a5 : Nat → Int32} (hu : ∃ k, 0 < k ∧ k < 33 ∧ a5 k = 0) : ∃ x, 0 < x ∧ x < 33 ∧ a5 x = 0 ∧
    ∀ (post : Int32 → St1 → Prop) (dr opn rt nid rs kc gc mv : Int32) (a1 a2 a3 a4 a6 a7 a8 a9 a10 a11 a12 a13 a14 a15 a16 a17 a18 a19 a20 a21 a22 a23 : Nat → Int32) (i : Nat), i < 16 →
      post (nI x) (dr, opn, rt, nid + 1, rs, kc, gc, mv, a1, a2, a3, a4, upd a5 x 1, upd a6 x (a1 i), upd a7 x (a2 i), upd a8 x nid, upd a9 x 0, upd a10 x 0, upd a11 x 0, a12, a13, a14, a15, a16, a17, a18, a19, a20, a21, a22, a23) → wpX_makeNode post (dr, opn, rt, nid, rs, kc, gc, mv, a1, a2, a3, a4, a5, a6, a7, a8, a9, a10, a11, a12, a13, a14, a15, a16, a17, a18, a19, a20, a21, a22, a23) (nI i) := by
  obtain ⟨k, k0, k1, k2⟩ := hu
  obtain ⟨x, h0, h1, _, h3, h4⟩ := kt_make5 (a5 := a5) 32 1 (by omega) (by omega) (by omega)
  refine ⟨x, h0, h1, h3 ⟨k, k0, by omega, k2⟩, ?_⟩
  intro post dr opn rt nid rs kc gc mv a1 a2 a3 a4 a6 a7 a8 a9 a10 a11 a12 a13 a14 a15 a16 a17 a18 a19 a20 a21 a22 a23 i hi H
  unfold wpX_makeNode
  exact ⟨33, h4 post dr opn rt nid rs kc gc mv a1 a2 a3 a4 a6 a7 a8 a9 a10 a11 a12 a13 a14 a15 a16 a17 a18 a19 a20 a21 a22 a23 i 33 hi (by omega) H⟩
/-- used, the nodes b d .. b (d + m - 1) cleared -/
def kr_clr (a5 : Nat → Int32) (b : Nat → Nat) (d : Nat) : Nat → Nat → Int32
  | 0 => a5
  | m + 1 => upd (kr_clr a5 b d m) (b (d + m)) 0
theorem kr_clr_in {a5 : Nat → Int32} {b : Nat → Nat} {d : Nat} : ∀ (m u : Nat), d ≤ u → u < d + m → kr_clr a5 b d m (b u) = 0 := by
  intro m
  induction m with
  | zero => intro u h1 h2; omega
  | succ m ih =>
    intro u h1 h2
    show upd (kr_clr a5 b d m) (b (d + m)) 0 (b u) = 0
    by_cases e : b u = b (d + m)
    · rw [e]; exact pk_us
    · rw [pk_un e]
      refine ih u h1 ?_
      rcases Nat.lt_or_ge u (d + m) with w | w
      · exact w
      · exact absurd (by rw [show u = d + m by omega]) e
theorem kr_clr_out {a5 : Nat → Int32} {b : Nat → Nat} {d y : Nat} : ∀ (m : Nat), (∀ u, d ≤ u → u < d + m → y ≠ b u) → kr_clr a5 b d m y = a5 y := by
  intro m
  induction m with
  | zero => intro _; rfl
  | succ m ih =>
    intro h
    show upd (kr_clr a5 b d m) (b (d + m)) 0 y = a5 y
    rw [pk_un (h (d + m) (by omega) (by omega))]
    exact ih (fun u h1 h2 => h u h1 (by omega))
theorem kt_drop {post : St1 → Prop} {dr opn rt nid rs kc gc mv : Int32} {a1 a2 a3 a4 a5 a6 a7 a8 a9 a10 a11 a12 a13 a14 a15 a16 a17 a18 a19 a20 a21 a22 a23 : Nat → Int32}
    {n d e : Nat} {b par : Nat → Nat} (hS : kr_Sh par n) (hE : kr_En par n d e) (hn : e - d ≤ 16) (hb : ∀ t, d ≤ t → t < e → 0 < b t ∧ b t < 33) (hk : ∀ t, d ≤ t → t < e → (kr_kids par n t).length ≤ 10)
    (hN : ∀ t, d ≤ t → t < e → kr_Nd a10 a11 a12 a13 (b t) ((kr_kids par n t).map b))
    (H : ∀ o p : Nat → Int32, post (dr, opn, rt, nid, rs, kc, gc + nI (e - d), mv, a1, a2, a3, a4, kr_clr a5 b d (e - d), a6, a7, a8, a9, a10, a11, a12, a13, a14, a15, a16, a17, a18, a19, a20, a21, o, p)) : wpX_drop post (dr, opn, rt, nid, rs, kc, gc, mv, a1, a2, a3, a4, a5, a6, a7, a8, a9, a10, a11, a12, a13, a14, a15, a16, a17, a18, a19, a20, a21, a22, a23) (nI (b d)) := by
  unfold wpX_drop
  refine kt_listPlaces hS hE hn hb hk hN (fun o p ho => ?_)
  refine pk_loop (fun f j (s : Nat → Int32) => wX_drop_8 post (nI (e - d)) dr opn rt nid rs kc gc mv f (nI j) a1 a2 a3 a4 s a6 a7 a8 a9 a10 a11 a12 a13 a14 a15 a16 a17 a18 a19 a20 a21 o p) (fun j s => s = kr_clr a5 b d j) (e - d) 0 a5 (by omega) rfl (fun f s hs => ?_) (fun f j s hj hs hw => ?_)
  · subst hs
    exact pk_le (e - d) (e - d) (fun _ => nm_e (H o p)) (fun z => absurd z (by omega))
  · subst hs
    have h2 := (hb (d + j) (by omega) (by omega)).2
    have e1 : o (nI j).toNatClampNeg = nI (b (d + j)) := by rw [nI_clamp (by omega), ho j hj]
    refine pk_le (e - d) j (fun z => absurd z (by omega)) (fun _ => ⟨pk_in j 33 (by omega), pk_in (b (d + j)) 33 h2 e1, nm_r (e' := kr_clr a5 b d (j + 1)) ?_ (nm_r (nI_1 j) (hw _ rfl))⟩)
    rw [e1, nI_clamp (by omega)]
    rfl
end
section
/-- byKey, the first k places cleared -/
def kr_z (a16 : Nat → Int32) : Nat → Nat → Int32
  | 0 => a16
  | k + 1 => upd (kr_z a16 k) k 0
theorem kr_z_in {a16 : Nat → Int32} : ∀ (k j : Nat), j < k → kr_z a16 k j = 0 := by
  intro k
  induction k with
  | zero => intro j h; omega
  | succ k ih =>
    intro j h
    show upd (kr_z a16 k) k 0 j = 0
    by_cases e : j = k
    · rw [e]; exact pk_us
    · rw [pk_un e]; exact ih j (by omega)
/-- the child with a key, or 0 -/
def kr_g (ky : Nat → Nat) (l : List Nat) (j : Nat) : Nat := (l.find? (fun x => ky x == j)).getD 0
theorem kr_g_or (ky : Nat → Nat) (l : List Nat) (j : Nat) : (kr_g ky l j = 0 ∧ ∀ x, x ∈ l → ky x ≠ j) ∨ (kr_g ky l j ∈ l ∧ ky (kr_g ky l j) = j) := by
  unfold kr_g
  cases h : l.find? (fun x => ky x == j) with
  | none =>
    left
    refine ⟨rfl, fun x hx => ?_⟩
    have := List.find?_eq_none.mp h x hx
    simpa using this
  | some x =>
    right
    have h1 := List.mem_of_find?_eq_some h
    have h2 := List.find?_some h
    exact ⟨h1, by simpa using h2⟩
theorem kr_pw_inj {ky : Nat → Nat} : ∀ {l : List Nat}, l.Pairwise (fun x y => ky x ≠ ky y) → ∀ {x y : Nat}, x ∈ l → y ∈ l → ky x = ky y → x = y := by
  intro l
  induction l with
  | nil => intro _ x y hx; exact absurd hx List.not_mem_nil
  | cons a l ih =>
    intro h x y hx hy e
    rw [List.pairwise_cons] at h
    rcases List.mem_cons.mp hx with hx | hx
    · rcases List.mem_cons.mp hy with hy | hy
      · rw [hx, hy]
      · rw [hx] at e; exact absurd e (h.1 y hy)
    · rcases List.mem_cons.mp hy with hy | hy
      · rw [hy] at e; exact absurd e.symm (h.1 x hx)
      · exact ih h.2 hx hy e
theorem kr_g_of {ky : Nat → Nat} {l : List Nat} (h : l.Pairwise (fun x y => ky x ≠ ky y)) {x : Nat} (hx : x ∈ l) : kr_g ky l (ky x) = x := by
  rcases kr_g_or ky l (ky x) with z | z
  · exact absurd rfl (z.2 x hx)
  · exact kr_pw_inj h z.1 hx z.2
theorem kt_ix30 {a7 a12 a13 : Nat → Int32} (ky : Nat → Nat) : ∀ (l : List Nat) (q k : Nat) (a16 a17 a21 : Nat → Int32), kr_sg a12 a13 q l 0 → (∀ x, x ∈ l → 0 < x ∧ x < 33 ∧ ky x < 10 ∧ a7 x = nI (ky x)) → l.Pairwise (fun x y => ky x ≠ ky y) → l.Nodup → k + l.length ≤ 10 →
    ∃ (a16' a17' a21' : Nat → Int32) (st : Nat → Nat), (∀ x, x ∈ l → a16' (ky x) = nI x ∧ a17' x = nI (st x) ∧ k ≤ st x ∧ st x < 10 ∧ a21' x = 0) ∧ (∀ j, (∀ x, x ∈ l → ky x ≠ j) → a16' j = a16 j) ∧ (∀ y, y ∉ l → a17' y = a17 y ∧ a21' y = a21 y) ∧ l.Pairwise (fun x y => st x < st y) ∧
    ∀ (post : St1 → Prop) (dr opn rt nid rs kc gc mv : Int32) (a1 a2 a3 a4 a5 a6 a8 a9 a10 a11 a14 a15 a18 a19 a20 a22 a23 : Nat → Int32) (f : Nat), l.length < f → post (dr, opn, rt, nid, rs, kc, gc, mv, a1, a2, a3, a4, a5, a6, a7, a8, a9, a10, a11, a12, a13, a14, a15, a16', a17', a18, a19, a20, a21', a22, a23) → wX_index_30 post dr opn rt nid rs kc gc mv f (nI (l.headD 0)) (nI k) a1 a2 a3 a4 a5 a6 a7 a8 a9 a10 a11 a12 a13 a14 a15 a16 a17 a18 a19 a20 a21 a22 a23 := by
  intro l
  induction l with
  | nil =>
    intro q k a16 a17 a21 _ _ _ _ hk
    refine ⟨a16, a17, a21, fun _ => 0, fun x hx => absurd hx List.not_mem_nil, fun _ _ => rfl, fun _ _ => ⟨rfl, rfl⟩, List.Pairwise.nil, ?_⟩
    intro post dr opn rt nid rs kc gc mv a1 a2 a3 a4 a5 a6 a8 a9 a10 a11 a14 a15 a18 a19 a20 a22 a23 f hf H
    obtain ⟨f, rfl⟩ : ∃ g, f = g + 1 := ⟨f - 1, by simp only [List.length_nil] at hf; omega⟩
    simp only [List.length_nil] at hk
    exact pk_le 10 k (fun _ => H) (fun _ => br_t rfl H)
  | cons x l ih =>
    intro q k a16 a17 a21 hs hb hky hnd hk
    have hx := hb x List.mem_cons_self
    rw [List.pairwise_cons] at hky
    rw [List.nodup_cons] at hnd
    simp only [List.length_cons] at hk
    obtain ⟨a16', a17', a21', st, p1, p2, p3, p4, p5⟩ := ih x (k + 1) (upd a16 (ky x) (nI x)) (upd a17 x (nI k)) (upd a21 x 0) hs.2.2 (fun y hy => hb y (List.mem_cons_of_mem _ hy)) hky.2 hnd.2 (by omega)
    have hne : ∀ y, y ∈ l → y ≠ x := fun y hy e => hnd.1 (e ▸ hy)
    refine ⟨a16', a17', a21', fun y => if y = x then k else st y, ?_, ?_, ?_, ?_, ?_⟩
    · intro y hy
      rcases List.mem_cons.mp hy with hy | hy
      · subst hy
        refine ⟨?_, ?_, ?_, ?_, ?_⟩
        · rw [p2 (ky y) (fun z hz e => hky.1 z hz e.symm)]; exact pk_us
        · show a17' y = nI (if y = y then k else st y)
          rw [if_pos rfl, (p3 y hnd.1).1]; exact pk_us
        · show k ≤ (if y = y then k else st y)
          rw [if_pos rfl]; exact Nat.le_refl k
        · show (if y = y then k else st y) < 10
          rw [if_pos rfl]; omega
        · rw [(p3 y hnd.1).2]; exact pk_us
      · obtain ⟨q1, q2, q3, q4, q5⟩ := p1 y hy
        have e := hne y hy
        refine ⟨q1, ?_, ?_, ?_, q5⟩
        · show a17' y = nI (if y = x then k else st y)
          rw [if_neg e]; exact q2
        · show k ≤ (if y = x then k else st y)
          rw [if_neg e]; omega
        · show (if y = x then k else st y) < 10
          rw [if_neg e]; exact q4
    · intro j hj
      rw [p2 j (fun z hz => hj z (List.mem_cons_of_mem _ hz))]
      exact pk_un (fun e => hj x List.mem_cons_self e.symm)
    · intro y hy
      have h1 : y ∉ l := fun z => hy (List.mem_cons_of_mem _ z)
      have h2 : y ≠ x := fun z => hy (z ▸ List.mem_cons_self)
      obtain ⟨q1, q2⟩ := p3 y h1
      exact ⟨by rw [q1]; exact pk_un h2, by rw [q2]; exact pk_un h2⟩
    · rw [List.pairwise_cons]
      constructor
      · intro y hy
        show (if x = x then k else st x) < (if y = x then k else st y)
        rw [if_pos rfl, if_neg (hne y hy)]
        have := (p1 y hy).2.2.1
        omega
      · refine List.Pairwise.imp_of_mem ?_ p4
        intro a b ha hb' hab
        show (if a = x then k else st a) < (if b = x then k else st b)
        rw [if_neg (hne a ha), if_neg (hne b hb')]
        exact hab
    · intro post dr opn rt nid rs kc gc mv a1 a2 a3 a4 a5 a6 a8 a9 a10 a11 a14 a15 a18 a19 a20 a22 a23 f hf H
      obtain ⟨f, rfl⟩ : ∃ g, f = g + 1 := ⟨f - 1, by simp only [List.length_cons] at hf; omega⟩
      simp only [List.length_cons] at hf
      rw [List.headD_cons]
      have cx := nI_clamp (show x < 2 ^ 31 by omega)
      have e7 : a7 (nI x).toNatClampNeg = nI (ky x) := by rw [cx]; exact hx.2.2.2
      refine pk_le 10 k (fun z => absurd z (by omega)) (fun _ => br_f (nI_ne0 hx.1 (by omega)) ⟨pk_in x 33 hx.2.1, pk_in (ky x) 10 hx.2.2.1 e7, nm_r (e' := upd a16 (ky x) (nI x)) (by rw [e7, nI_clamp (by omega)]) ⟨pk_in x 33 hx.2.1, nm_r (e' := upd a17 x (nI k)) (by rw [cx]) ⟨pk_in x 33 hx.2.1, nm_r (e' := upd a21 x 0) (by rw [cx]) ⟨pk_in x 33 hx.2.1, nm_r (e' := nI (l.headD 0)) (by rw [cx]; exact hs.2.1) (nm_r (nI_1 k) ?_)⟩⟩⟩⟩)
      exact p5 post dr opn rt nid rs kc gc mv a1 a2 a3 a4 a5 a6 a8 a9 a10 a11 a14 a15 a18 a19 a20 a22 a23 f (by omega) H
/-- index: the children by their keys, where they stand, none stays yet -/
theorem kt_index {a7 a10 a11 a12 a13 : Nat → Int32} {ky : Nat → Nat} {l : List Nat} {p : Nat} (hN : kr_Nd a10 a11 a12 a13 p l) (hp : p < 33) (hl : l.length ≤ 10) (hk : ∀ x, x ∈ l → ky x < 10 ∧ a7 x = nI (ky x)) (hd : l.Pairwise (fun x y => ky x ≠ ky y)) (a16 a17 a21 : Nat → Int32) :
    ∃ (a16' a17' a21' : Nat → Int32) (st : Nat → Nat), (∀ j, j < 10 → a16' j = nI (kr_g ky l j)) ∧ (∀ x, x ∈ l → a17' x = nI (st x) ∧ st x < 10 ∧ a21' x = 0) ∧ (∀ y, y ∉ l → a21' y = a21 y) ∧ l.Pairwise (fun x y => st x < st y) ∧
    ∀ (post : St1 → Prop) (dr opn rt nid rs kc gc mv : Int32) (a1 a2 a3 a4 a5 a6 a8 a9 a14 a15 a18 a19 a20 a22 a23 : Nat → Int32), post (dr, opn, rt, nid, rs, kc, gc, mv, a1, a2, a3, a4, a5, a6, a7, a8, a9, a10, a11, a12, a13, a14, a15, a16', a17', a18, a19, a20, a21', a22, a23) → wpX_index post (dr, opn, rt, nid, rs, kc, gc, mv, a1, a2, a3, a4, a5, a6, a7, a8, a9, a10, a11, a12, a13, a14, a15, a16, a17, a18, a19, a20, a21, a22, a23) (nI p) := by
  obtain ⟨a16', a17', a21', st, p1, p2, p3, p4, p5⟩ := kt_ix30 ky l 0 0 (kr_z a16 10) a17 a21 hN.2.1 (fun x hx => ⟨(hN.2.2.1 x hx).2.1, (hN.2.2.1 x hx).2.2, hk x hx⟩) hd hN.2.2.2 (by omega)
  refine ⟨a16', a17', a21', st, fun j hj => ?_, fun x hx => ⟨(p1 x hx).2.1, (p1 x hx).2.2.2.1, (p1 x hx).2.2.2.2⟩, fun y hy => (p3 y hy).2, p4, ?_⟩
  · rcases kr_g_or ky l j with z | z
    · rw [z.1, p2 j z.2, kr_z_in 10 j hj]; rfl
    · have h := (p1 _ z.1).1
      rw [z.2] at h
      exact h
  · intro post dr opn rt nid rs kc gc mv a1 a2 a3 a4 a5 a6 a8 a9 a14 a15 a18 a19 a20 a22 a23 H
    unfold wpX_index
    refine pk_loop (fun f j (s : Nat → Int32) => wX_index_2 post (nI p) dr opn rt nid rs kc gc mv f (nI j) a1 a2 a3 a4 a5 a6 a7 a8 a9 a10 a11 a12 a13 a14 a15 s a17 a18 a19 a20 a21 a22 a23) (fun j s => s = kr_z a16 j) 10 0 a16 (by omega) rfl (fun f s hs => ?_) (fun f j s hj hs hw => ?_)
    · subst hs
      refine pk_le 10 10 (fun _ => ⟨pk_in p 33 hp, nm_r (e' := nI (l.headD 0)) (by rw [nI_clamp (by omega)]; exact hN.1) ⟨11, ?_⟩⟩) (fun z => absurd z (by omega))
      exact p5 post dr opn rt nid rs kc gc mv a1 a2 a3 a4 a5 a6 a8 a9 a10 a11 a14 a15 a18 a19 a20 a22 a23 11 (by omega) H
    · subst hs
      exact pk_le 10 j (fun z => absurd z (by omega)) (fun _ => ⟨pk_in j 10 (by omega), nm_r (e' := kr_z a16 (j + 1)) (by rw [nI_clamp (by omega)]; rfl) (nm_r (nI_1 j) (hw _ rfl))⟩)
end
section
theorem kr_or3 {P Q R P' : Prop} (h : P ∨ Q ∨ R) (f : P → P') : P' ∨ Q ∨ R := Or.elim h (fun w => Or.inl (f w)) Or.inr
theorem kt_m129n {post : St1 → Prop} {J : Int32 → Int32 → (Nat → Int32) → (Nat → Int32) → (Nat → Int32) → (Nat → Int32) → (Nat → Int32) → (Nat → Int32) → (Nat → Int32) → (Nat → Int32) → (Nat → Int32) → (Nat → Int32) → (Nat → Int32) → (Nat → Int32) → (Nat → Int32) → (Nat → Int32) → (Nat → Int32) → (Nat → Int32) → (Nat → Int32) → (Nat → Int32) → (Nat → Int32) → (Nat → Int32) → (Nat → Int32) → (Nat → Int32) → (Nat → Int32) → Prop} {x1 x3 x6 : Int32} {dr opn rt nid rs kc gc mv : Int32} {a1 a2 a3 a4 a5 a6 a7 a8 a9 a10 a11 a12 a13 a14 a15 a16 a17 a18 a19 a20 a21 a22 a23 : Nat → Int32} {cnt j : Nat} (hj : j < 16)
    (H : J (nI cnt) (nI (j + 1)) a1 a2 a3 a4 a5 a6 a7 a8 a9 a10 a11 a12 a13 (upd a14 j 0) (upd a15 j 0) a16 a17 a18 a19 a20 a21 a22 a23) : wX_matchChildren_106 post J x1 x3 (nI cnt) (nI j) x6 0 (nI j) dr opn rt nid rs kc gc mv a1 a2 a3 a4 a5 a6 a7 a8 a9 a10 a11 a12 a13 a14 a15 a16 a17 a18 a19 a20 a21 a22 a23 := by
  have cj := nI_clamp (show j < 2 ^ 31 by omega)
  unfold wX_matchChildren_106
  rw [cj]
  refine ⟨pk_in j 16 hj, nm_r (e' := upd a15 j 0) rfl ⟨pk_in j 16 hj, br_t pk_us ?_⟩⟩
  unfold wX_matchChildren_129
  rw [cj]
  exact ⟨pk_in j 16 hj, nm_e ⟨pk_in j 16 hj, br_t pk_us (nm_r (nI_1 j) H)⟩⟩
theorem kt_m129k {post : St1 → Prop} {J : Int32 → Int32 → (Nat → Int32) → (Nat → Int32) → (Nat → Int32) → (Nat → Int32) → (Nat → Int32) → (Nat → Int32) → (Nat → Int32) → (Nat → Int32) → (Nat → Int32) → (Nat → Int32) → (Nat → Int32) → (Nat → Int32) → (Nat → Int32) → (Nat → Int32) → (Nat → Int32) → (Nat → Int32) → (Nat → Int32) → (Nat → Int32) → (Nat → Int32) → (Nat → Int32) → (Nat → Int32) → (Nat → Int32) → (Nat → Int32) → Prop} {x1 x3 x6 : Int32} {dr opn rt nid rs kc gc mv : Int32} {a1 a2 a3 a4 a5 a6 a7 a8 a9 a10 a11 a12 a13 a14 a15 a16 a17 a18 a19 a20 a21 a22 a23 : Nat → Int32} {cnt j kj : Nat} (hj : j < 16) (hc : cnt < 16) (hk : kj < 10) (h2 : a2 j = nI kj)
    (H : J (nI (cnt + 1)) (nI (j + 1)) a1 a2 a3 a4 a5 a6 a7 a8 a9 a10 a11 a12 a13 (upd a14 j x6) (upd a15 j 1) (upd a16 kj 0) a17 a18 a19 (upd a20 cnt x6) a21 a22 a23) : wX_matchChildren_106 post J x1 x3 (nI cnt) (nI j) x6 1 (nI j) dr opn rt nid rs kc gc mv a1 a2 a3 a4 a5 a6 a7 a8 a9 a10 a11 a12 a13 a14 a15 a16 a17 a18 a19 a20 a21 a22 a23 := by
  have cj := nI_clamp (show j < 2 ^ 31 by omega)
  have n1 : ¬ upd a15 j 1 j = 0 := by rw [pk_us]; decide
  unfold wX_matchChildren_106
  rw [cj]
  refine ⟨pk_in j 16 hj, nm_r (e' := upd a15 j 1) rfl ⟨pk_in j 16 hj, br_f n1 ?_⟩⟩
  unfold wX_matchChildren_129
  rw [cj, h2, nI_clamp (show kj < 2 ^ 31 by omega), nI_clamp (show cnt < 2 ^ 31 by omega)]
  exact ⟨pk_in j 16 hj, nm_e ⟨pk_in j 16 hj, br_f n1 ⟨pk_in j 16 hj, pk_in kj 10 hk, nm_e ⟨pk_in cnt 16 hc, nm_e (nm_r (nI_1 cnt) (nm_r (nI_1 j) H))⟩⟩⟩⟩
theorem kt_m71 {post : St1 → Prop} {J : Int32 → Int32 → (Nat → Int32) → (Nat → Int32) → (Nat → Int32) → (Nat → Int32) → (Nat → Int32) → (Nat → Int32) → (Nat → Int32) → (Nat → Int32) → (Nat → Int32) → (Nat → Int32) → (Nat → Int32) → (Nat → Int32) → (Nat → Int32) → (Nat → Int32) → (Nat → Int32) → (Nat → Int32) → (Nat → Int32) → (Nat → Int32) → (Nat → Int32) → (Nat → Int32) → (Nat → Int32) → (Nat → Int32) → (Nat → Int32) → Prop} {x1 x3 : Int32} {dr opn rt nid rs kc gc mv : Int32} {a1 a2 a3 a4 a5 a6 a7 a8 a9 a10 a11 a12 a13 a14 a15 a16 a17 a18 a19 a20 a21 a22 a23 : Nat → Int32} {cnt j c kj : Nat} (hj : j < 16) (hc : cnt < 16) (hcn : c < 33) (hk : kj < 10) (h2 : a2 j = nI kj)
    (H1 : (c ≠ 0 ∧ a6 c = a1 j) → J (nI (cnt + 1)) (nI (j + 1)) a1 a2 a3 a4 a5 a6 a7 a8 a9 a10 a11 a12 a13 (upd a14 j (nI c)) (upd a15 j 1) (upd a16 kj 0) a17 a18 a19 (upd a20 cnt (nI c)) a21 a22 a23)
    (H2 : ¬ (c ≠ 0 ∧ a6 c = a1 j) → J (nI cnt) (nI (j + 1)) a1 a2 a3 a4 a5 a6 a7 a8 a9 a10 a11 a12 a13 (upd a14 j 0) (upd a15 j 0) a16 a17 a18 a19 a20 a21 a22 a23) : wX_matchChildren_71 post J x1 x3 (nI cnt) (nI j) (nI c) dr opn rt nid rs kc gc mv a1 a2 a3 a4 a5 a6 a7 a8 a9 a10 a11 a12 a13 a14 a15 a16 a17 a18 a19 a20 a21 a22 a23 := by
  unfold wX_matchChildren_71
  rw [nI_clamp (show j < 2 ^ 31 by omega), nI_clamp (show c < 2 ^ 31 by omega)]
  refine pk_eq c 0 (fun z => ?_) (fun z => ⟨pk_in c 33 hcn, pk_in j 16 hj, br_c (fun w => ?_) (fun w => ?_)⟩)
  · unfold wX_matchChildren_105
    exact kt_m129n hj (H2 (fun w => w.1 z))
  · exact kt_m129k hj hc hk h2 (H1 ⟨z, w⟩)
  · unfold wX_matchChildren_105
    exact kt_m129n hj (H2 (fun t => w t.2))
/-- draft place k has a partner -/
def kr_mt (a1 a6 : Nat → Int32) (g ky : Nat → Nat) (k : Nat) : Bool := decide (g (ky k) ≠ 0 ∧ a6 (g (ky k)) = a1 k)
/-- the draft's children of i from j on that have a partner -/
def kr_M (a1 a6 : Nat → Int32) (g ky par : Nat → Nat) (n i j : Nat) : List Nat := (List.range' j (n - j)).filter (fun k => par k == i && kr_mt a1 a6 g ky k)
theorem kr_mem_M {a1 a6 : Nat → Int32} {g ky par : Nat → Nat} {n i j k : Nat} : k ∈ kr_M a1 a6 g ky par n i j ↔ j ≤ k ∧ k < n ∧ par k = i ∧ (g (ky k) ≠ 0 ∧ a6 (g (ky k)) = a1 k) := by
  unfold kr_M kr_mt
  rw [List.mem_filter, List.mem_range'_1, Bool.and_eq_true, beq_iff_eq, decide_eq_true_iff]
  constructor
  · intro ⟨h1, h2, h3⟩; exact ⟨h1.1, by omega, h2, h3⟩
  · intro ⟨h1, h2, h3, h4⟩; exact ⟨⟨h1, by omega⟩, h3, h4⟩
theorem kr_M_end {a1 a6 : Nat → Int32} {g ky par : Nat → Nat} {n i : Nat} : kr_M a1 a6 g ky par n i n = [] := by
  unfold kr_M; rw [Nat.sub_self]; rfl
theorem kr_M_len {a1 a6 : Nat → Int32} {g ky par : Nat → Nat} {n i j : Nat} : (kr_M a1 a6 g ky par n i j).length ≤ n - j := by
  unfold kr_M
  refine Nat.le_trans (List.length_filter_le _ _) ?_
  rw [List.length_range']
  exact Nat.le_refl _
theorem kr_M_cons {a1 a6 : Nat → Int32} {g ky par : Nat → Nat} {n i j : Nat} (hj : j < n) : kr_M a1 a6 g ky par n i j = if par j = i ∧ (g (ky j) ≠ 0 ∧ a6 (g (ky j)) = a1 j) then j :: kr_M a1 a6 g ky par n i (j + 1) else kr_M a1 a6 g ky par n i (j + 1) := by
  unfold kr_M
  have e1 : n - j = (n - (j + 1)) + 1 := by omega
  rw [e1, List.range'_succ]
  by_cases h : par j = i ∧ (g (ky j) ≠ 0 ∧ a6 (g (ky j)) = a1 j)
  · rw [if_pos h, List.filter_cons_of_pos]
    unfold kr_mt
    rw [Bool.and_eq_true, beq_iff_eq, decide_eq_true_iff]
    exact h
  · rw [if_neg h, List.filter_cons_of_neg]
    unfold kr_mt
    rw [Bool.and_eq_true, beq_iff_eq, decide_eq_true_iff]
    exact h
theorem kt_mloop {a1 a2 a3 a6 : Nat → Int32} {x3 : Int32} {n i : Nat} {par ky g : Nat → Nat} (hn : n ≤ 16) (hpar : ∀ j, 0 < j → j < n → a3 j = nI (par j) ∧ par j < 16) (hky : ∀ j, j < n → a2 j = nI (ky j) ∧ ky j < 10) (hdist : ∀ j k, i < j → j < k → k < n → par j = i → par k = i → ky j ≠ ky k) (hg : ∀ y, g y < 33) (hx3 : x3 = 0 → ∀ y, g y = 0) (hi : i < 16) :
    ∀ (r j cnt : Nat) (a14 a15 a16 a20 : Nat → Int32), n - j = r → i < j → j ≤ n → cnt + (n - j) ≤ 16 → (¬ x3 = 0 → ∀ k, j ≤ k → k < n → par k = i → a16 (ky k) = nI (g (ky k))) →
    ∃ a14' a15' a16' a20' : Nat → Int32,
      (∀ k, j ≤ k → k < n → par k = i → a15' k = (if g (ky k) ≠ 0 ∧ a6 (g (ky k)) = a1 k then 1 else 0) ∧ a14' k = (if g (ky k) ≠ 0 ∧ a6 (g (ky k)) = a1 k then nI (g (ky k)) else 0)) ∧
      (∀ k, (k < j ∨ n ≤ k ∨ par k ≠ i) → a15' k = a15 k ∧ a14' k = a14 k) ∧
      (∀ y, (∀ k, k ∈ kr_M a1 a6 g ky par n i j → ky k ≠ y) → a16' y = a16 y) ∧ (∀ k, k ∈ kr_M a1 a6 g ky par n i j → a16' (ky k) = 0) ∧
      kr_ar a20' cnt ((kr_M a1 a6 g ky par n i j).map (fun k => g (ky k))) ∧ (∀ p, p < cnt → a20' p = a20 p) ∧
      ∀ (post : St1 → Prop) (opn rt nid rs kc gc mv : Int32) (a4 a5 a7 a8 a9 a10 a11 a12 a13 a17 a18 a19 a21 a22 a23 : Nat → Int32) (f : Nat), n - j < f →
        wX_matchChildren_31 post (nI i) x3 (nI n) opn rt nid rs kc gc mv 1 (nI (cnt + (kr_M a1 a6 g ky par n i j).length)) (nI n) a1 a2 a3 a4 a5 a6 a7 a8 a9 a10 a11 a12 a13 a14' a15' a16' a17 a18 a19 a20' a21 a22 a23 → wX_matchChildren_31 post (nI i) x3 (nI n) opn rt nid rs kc gc mv f (nI cnt) (nI j) a1 a2 a3 a4 a5 a6 a7 a8 a9 a10 a11 a12 a13 a14 a15 a16 a17 a18 a19 a20 a21 a22 a23 := by
  intro r
  induction r with
  | zero =>
    intro j cnt a14 a15 a16 a20 hr hij hjn hcnt h16
    have e : j = n := by omega
    subst e
    refine ⟨a14, a15, a16, a20, fun k h1 h2 => absurd h1 (by omega), fun _ _ => ⟨rfl, rfl⟩, fun _ _ => rfl, fun k hk => ?_, ?_, fun _ _ => rfl, ?_⟩
    · rw [kr_M_end] at hk; exact absurd hk List.not_mem_nil
    · rw [kr_M_end]; trivial
    · intro post opn rt nid rs kc gc mv a4 a5 a7 a8 a9 a10 a11 a12 a13 a17 a18 a19 a21 a22 a23 f hf H
      obtain ⟨f, rfl⟩ : ∃ g, f = g + 1 := ⟨f - 1, by omega⟩
      rw [kr_M_end] at H
      exact ⟨fun z => H.1 z, fun z => absurd (nI_le (Nat.le_refl _) (by omega)) z⟩
  | succ r ih =>
    intro j cnt a14 a15 a16 a20 hr hij hjn hcnt h16
    have hj : j < n := by omega
    have hk2 := hky j hj
    have hp3 := hpar j (by omega) hj
    have cj := nI_clamp (show j < 2 ^ 31 by omega)
    by_cases hp : par j = i
    · -- a child of i
      by_cases hm : g (ky j) ≠ 0 ∧ a6 (g (ky j)) = a1 j
      · obtain ⟨a14', a15', a16', a20', p1, p2, p3, p4, p5, p6, p7⟩ := ih (j + 1) (cnt + 1) (upd a14 j (nI (g (ky j)))) (upd a15 j 1) (upd a16 (ky j) 0) (upd a20 cnt (nI (g (ky j)))) (by omega) (by omega) (by omega) (by omega)
          (fun hx k h1 h2 h3 => by rw [pk_un (fun e => hdist j k hij (by omega) h2 hp h3 e.symm)]; exact h16 hx k (by omega) h2 h3)
        have eM : kr_M a1 a6 g ky par n i j = j :: kr_M a1 a6 g ky par n i (j + 1) := by rw [kr_M_cons hj, if_pos ⟨hp, hm⟩]
        have hkM : ∀ k, k ∈ kr_M a1 a6 g ky par n i (j + 1) → ky k ≠ ky j := fun k hk e => by
          have hk' := kr_mem_M.mp hk
          exact hdist j k hij (by omega) hk'.2.1 hp hk'.2.2.1 e.symm
        rw [eM]
        refine ⟨a14', a15', a16', a20', fun k h1 h2 h3 => ?_, fun k h1 => ?_, fun y hy => ?_, fun k hk => ?_, ?_, fun p hp' => ?_, ?_⟩
        · rcases Nat.eq_or_lt_of_le h1 with e | e
          · subst e
            rw [if_pos hm, if_pos hm]
            obtain ⟨q1, q2⟩ := p2 j (Or.inl (by omega))
            exact ⟨by rw [q1]; exact pk_us, by rw [q2]; exact pk_us⟩
          · exact p1 k (by omega) h2 h3
        · have hkj : k ≠ j := fun e => by subst e; rcases h1 with w | w | w <;> first | omega | exact w hp
          obtain ⟨q1, q2⟩ := p2 k (kr_or3 h1 (fun w => by omega))
          exact ⟨by rw [q1]; exact pk_un hkj, by rw [q2]; exact pk_un hkj⟩
        · rw [p3 y (fun k hk => hy k (List.mem_cons_of_mem _ hk))]
          exact pk_un (fun e => hy j List.mem_cons_self e.symm)
        · rcases List.mem_cons.mp hk with e | e
          · subst e
            rw [p3 (ky k) hkM]; exact pk_us
          · exact p4 k e
        · refine ⟨?_, p5⟩
          rw [p6 cnt (by omega)]; exact pk_us
        · rw [p6 p (by omega)]; exact pk_un (by omega)
        · intro post opn rt nid rs kc gc mv a4 a5 a7 a8 a9 a10 a11 a12 a13 a17 a18 a19 a21 a22 a23 f hf H
          obtain ⟨f, rfl⟩ : ∃ g, f = g + 1 := ⟨f - 1, by omega⟩
          rw [List.length_cons, show cnt + ((kr_M a1 a6 g ky par n i (j + 1)).length + 1) = cnt + 1 + (kr_M a1 a6 g ky par n i (j + 1)).length by omega] at H
          have h7 := p7 post opn rt nid rs kc gc mv a4 a5 a7 a8 a9 a10 a11 a12 a13 a17 a18 a19 a21 a22 a23 f (by omega) H
          refine pk_le n j (fun z => absurd z (by omega)) (fun _ => ⟨pk_in j 16 (by omega), br_t (by rw [cj, hp3.1, hp]) (br_c (fun w => absurd (hx3 w (ky j)) hm.1) (fun w => ⟨pk_in j 16 (by omega), pk_in (ky j) 10 hk2.2 (by rw [cj]; exact hk2.1), ?_⟩))⟩)
          rw [cj, hk2.1, nI_clamp (by omega), h16 w j (Nat.le_refl j) hj hp]
          exact kt_m71 (by omega) (by omega) (hg _) hk2.2 hk2.1 (fun _ => h7) (fun z => absurd hm z)
      · obtain ⟨a14', a15', a16', a20', p1, p2, p3, p4, p5, p6, p7⟩ := ih (j + 1) cnt (upd a14 j 0) (upd a15 j 0) a16 a20 (by omega) (by omega) (by omega) (by omega)
          (fun hx k h1 h2 h3 => h16 hx k (by omega) h2 h3)
        have eM : kr_M a1 a6 g ky par n i j = kr_M a1 a6 g ky par n i (j + 1) := by rw [kr_M_cons hj, if_neg (fun z => hm z.2)]
        rw [eM]
        refine ⟨a14', a15', a16', a20', fun k h1 h2 h3 => ?_, fun k h1 => ?_, p3, p4, p5, p6, ?_⟩
        · rcases Nat.eq_or_lt_of_le h1 with e | e
          · subst e
            rw [if_neg hm, if_neg hm]
            obtain ⟨q1, q2⟩ := p2 j (Or.inl (by omega))
            exact ⟨by rw [q1]; exact pk_us, by rw [q2]; exact pk_us⟩
          · exact p1 k (by omega) h2 h3
        · have hkj : k ≠ j := fun e => by subst e; rcases h1 with w | w | w <;> first | omega | exact w hp
          obtain ⟨q1, q2⟩ := p2 k (kr_or3 h1 (fun w => by omega))
          exact ⟨by rw [q1]; exact pk_un hkj, by rw [q2]; exact pk_un hkj⟩
        · intro post opn rt nid rs kc gc mv a4 a5 a7 a8 a9 a10 a11 a12 a13 a17 a18 a19 a21 a22 a23 f hf H
          obtain ⟨f, rfl⟩ : ∃ g, f = g + 1 := ⟨f - 1, by omega⟩
          have h7 := p7 post opn rt nid rs kc gc mv a4 a5 a7 a8 a9 a10 a11 a12 a13 a17 a18 a19 a21 a22 a23 f (by omega) H
          refine pk_le n j (fun z => absurd z (by omega)) (fun _ => ⟨pk_in j 16 (by omega), br_t (by rw [cj, hp3.1, hp]) (br_c (fun w => ?_) (fun w => ⟨pk_in j 16 (by omega), pk_in (ky j) 10 hk2.2 (by rw [cj]; exact hk2.1), ?_⟩))⟩)
          · exact kt_m71 (c := 0) (by omega) (by omega) (by omega) hk2.2 hk2.1 (fun z => absurd rfl z.1) (fun _ => h7)
          · rw [cj, hk2.1, nI_clamp (by omega), h16 w j (Nat.le_refl j) hj hp]
            exact kt_m71 (by omega) (by omega) (hg _) hk2.2 hk2.1 (fun z => absurd z hm) (fun _ => h7)
    · obtain ⟨a14', a15', a16', a20', p1, p2, p3, p4, p5, p6, p7⟩ := ih (j + 1) cnt a14 a15 a16 a20 (by omega) (by omega) (by omega) (by omega)
        (fun hx k h1 h2 h3 => h16 hx k (by omega) h2 h3)
      have eM : kr_M a1 a6 g ky par n i j = kr_M a1 a6 g ky par n i (j + 1) := by rw [kr_M_cons hj, if_neg (fun z => hp z.1)]
      rw [eM]
      refine ⟨a14', a15', a16', a20', fun k h1 h2 h3 => ?_, fun k h1 => ?_, p3, p4, p5, p6, ?_⟩
      · rcases Nat.eq_or_lt_of_le h1 with e | e
        · subst e; exact absurd h3 hp
        · exact p1 k (by omega) h2 h3
      · by_cases hkj : k = j
        · subst hkj; exact p2 k (Or.inl (by omega))
        · exact p2 k (kr_or3 h1 (fun w => by omega))
      · intro post opn rt nid rs kc gc mv a4 a5 a7 a8 a9 a10 a11 a12 a13 a17 a18 a19 a21 a22 a23 f hf H
        obtain ⟨f, rfl⟩ : ∃ g, f = g + 1 := ⟨f - 1, by omega⟩
        have h7 := p7 post opn rt nid rs kc gc mv a4 a5 a7 a8 a9 a10 a11 a12 a13 a17 a18 a19 a21 a22 a23 f (by omega) H
        refine pk_le n j (fun z => absurd z (by omega)) (fun _ => ⟨pk_in j 16 (by omega), br_f (by rw [cj, hp3.1]; exact fun e => hp ((nI_eq (by omega) (by omega)).mp e)) (nm_r (nI_1 j) h7)⟩)
end
section
/-- how far the chain goes for a new end: at -/
def kr_at (sv re : Nat → Nat) (r j c : Nat) : Prop := c = 0 ∨ (0 < c ∧ c ≤ r ∧ sv (re (c - 1)) < sv j)
theorem kt_row17 {a17 a18 a20 : Nat → Int32} {N r j : Nat} {lf sv re : Nat → Nat} (hN : N ≤ 16) (hj : j < N) (hr : r ≤ j) (h20 : ∀ m, m < N → a20 m = nI (lf m) ∧ lf m < 33 ∧ a17 (lf m) = nI (sv m) ∧ sv m < 100) (h18 : ∀ k, k < r → a18 k = nI (re k) ∧ re k < j) :
    ∀ (q k c0 : Nat), r - k = q → k ≤ r → kr_at sv re r j c0 → ∃ c, kr_at sv re r j c ∧ (k < r → sv (re (r - 1)) < sv j → c = r) ∧ (k = r → c = c0) ∧
    ∀ (post : Int32 → St1 → Prop) (J : Int32 → Int32 → (Nat → Int32) → (Nat → Int32) → (Nat → Int32) → (Nat → Int32) → (Nat → Int32) → (Nat → Int32) → (Nat → Int32) → (Nat → Int32) → (Nat → Int32) → (Nat → Int32) → (Nat → Int32) → (Nat → Int32) → (Nat → Int32) → (Nat → Int32) → (Nat → Int32) → (Nat → Int32) → (Nat → Int32) → (Nat → Int32) → (Nat → Int32) → (Nat → Int32) → (Nat → Int32) → (Nat → Int32) → (Nat → Int32) → Prop) (x1 : Int32) (dr opn rt nid kc gc mv : Int32) (a1 a2 a3 a4 a5 a6 a7 a8 a9 a10 a11 a12 a13 a14 a15 a16 a19 a21 a22 a23 : Nat → Int32) (f : Nat), r - k < f →
      wX_longestRow_17 post J x1 (nI j) dr opn rt nid (nI r) kc gc mv a1 a2 a3 a4 a5 a6 a7 a8 a9 a10 a11 a12 a13 a14 a15 a16 a17 a18 a19 a20 a21 a22 a23 1 (nI c) (nI r) → wX_longestRow_17 post J x1 (nI j) dr opn rt nid (nI r) kc gc mv a1 a2 a3 a4 a5 a6 a7 a8 a9 a10 a11 a12 a13 a14 a15 a16 a17 a18 a19 a20 a21 a22 a23 f (nI c0) (nI k) := by
  intro q
  induction q with
  | zero =>
    intro k c0 hq hk h0
    refine ⟨c0, h0, fun z => absurd z (by omega), fun _ => rfl, ?_⟩
    intro post J x1 dr opn rt nid kc gc mv a1 a2 a3 a4 a5 a6 a7 a8 a9 a10 a11 a12 a13 a14 a15 a16 a19 a21 a22 a23 f hf H
    obtain ⟨f, rfl⟩ : ∃ g, f = g + 1 := ⟨f - 1, by omega⟩
    have e : k = r := by omega
    subst e
    exact ⟨fun z => H.1 z, fun z => absurd (nI_le (Nat.le_refl _) (by omega)) z⟩
  | succ q ih =>
    intro k c0 hq hk h0
    have hkr : k < r := by omega
    have h8 := h18 k hkr
    have hm := h20 (re k) (by omega)
    have hjj := h20 j hj
    have e18 : a18 (nI k).toNatClampNeg = nI (re k) := by rw [nI_clamp (by omega)]; exact h8.1
    have e20 : a20 (a18 (nI k).toNatClampNeg).toNatClampNeg = nI (lf (re k)) := by rw [e18, nI_clamp (by omega)]; exact hm.1
    have e17 : a17 (a20 (a18 (nI k).toNatClampNeg).toNatClampNeg).toNatClampNeg = nI (sv (re k)) := by rw [e20, nI_clamp (by omega)]; exact hm.2.2.1
    have j20 : a20 (nI j).toNatClampNeg = nI (lf j) := by rw [nI_clamp (by omega)]; exact hjj.1
    have j17 : a17 (a20 (nI j).toNatClampNeg).toNatClampNeg = nI (sv j) := by rw [j20, nI_clamp (by omega)]; exact hjj.2.2.1
    rcases Nat.lt_or_ge (sv (re k)) (sv j) with z | z
    · obtain ⟨c, p1, p2, p3, p4⟩ := ih (k + 1) (k + 1) (by omega) (by omega) (Or.inr ⟨by omega, by omega, by rw [Nat.add_sub_cancel]; exact z⟩)
      refine ⟨c, p1, fun _ hs => ?_, fun e => absurd e (by omega), ?_⟩
      · rcases Nat.lt_or_ge (k + 1) r with w | w
        · exact p2 w hs
        · have e : k + 1 = r := by omega
          rw [← e]; exact p3 e
      · intro post J x1 dr opn rt nid kc gc mv a1 a2 a3 a4 a5 a6 a7 a8 a9 a10 a11 a12 a13 a14 a15 a16 a19 a21 a22 a23 f hf H
        obtain ⟨f, rfl⟩ : ∃ g, f = g + 1 := ⟨f - 1, by omega⟩
        exact pk_le r k (fun z => absurd z (by omega)) (fun _ => ⟨pk_in k 16 (by omega), pk_in (re k) 16 (by omega) e18, pk_in (lf (re k)) 33 hm.2.1 e20, pk_in j 16 (by omega), pk_in (lf j) 33 hjj.2.1 j20, pk_le (sv j) (sv (re k)) (fun w => absurd w (by omega)) (fun _ => nm_r (nI_1 k) (nm_r (nI_1 k) (p4 post J x1 dr opn rt nid kc gc mv a1 a2 a3 a4 a5 a6 a7 a8 a9 a10 a11 a12 a13 a14 a15 a16 a19 a21 a22 a23 f (by omega) H))) j17 e17⟩)
    · obtain ⟨c, p1, p2, p3, p4⟩ := ih (k + 1) c0 (by omega) (by omega) h0
      refine ⟨c, p1, fun _ hs => ?_, fun e => absurd e (by omega), ?_⟩
      · rcases Nat.lt_or_ge (k + 1) r with w | w
        · exact p2 w hs
        · have e : k = r - 1 := by omega
          rw [← e] at hs
          omega
      · intro post J x1 dr opn rt nid kc gc mv a1 a2 a3 a4 a5 a6 a7 a8 a9 a10 a11 a12 a13 a14 a15 a16 a19 a21 a22 a23 f hf H
        obtain ⟨f, rfl⟩ : ∃ g, f = g + 1 := ⟨f - 1, by omega⟩
        exact pk_le r k (fun z => absurd z (by omega)) (fun _ => ⟨pk_in k 16 (by omega), pk_in (re k) 16 (by omega) e18, pk_in (lf (re k)) 33 hm.2.1 e20, pk_in j 16 (by omega), pk_in (lf j) 33 hjj.2.1 j20, pk_le (sv j) (sv (re k)) (fun _ => nm_r (nI_1 k) (p4 post J x1 dr opn rt nid kc gc mv a1 a2 a3 a4 a5 a6 a7 a8 a9 a10 a11 a12 a13 a14 a15 a16 a19 a21 a22 a23 f (by omega) H)) (fun w => absurd w (by omega)) j17 e17⟩)
/-- the state of the rows when j of the list are done -/
def kr_R (N : Nat) (sv re : Nat → Nat) (j r : Nat) (a18 a19 : Nat → Int32) : Prop :=
  r ≤ j ∧ (∀ k, k < r → a18 k = nI (re k) ∧ re k < j) ∧ (∀ m, m < j → a19 m = -1 ∨ ∃ m', m' < m ∧ a19 m = nI m' ∧ sv m' < sv m) ∧
  ((∀ a c, a < c → c < N → sv a < sv c) → r = j ∧ (∀ k, k < j → re k = k) ∧ (∀ m, m < j → a19 m = if m = 0 then -1 else nI (m - 1)))
theorem kt_row89 {post : Int32 → St1 → Prop} {J : Int32 → Int32 → (Nat → Int32) → (Nat → Int32) → (Nat → Int32) → (Nat → Int32) → (Nat → Int32) → (Nat → Int32) → (Nat → Int32) → (Nat → Int32) → (Nat → Int32) → (Nat → Int32) → (Nat → Int32) → (Nat → Int32) → (Nat → Int32) → (Nat → Int32) → (Nat → Int32) → (Nat → Int32) → (Nat → Int32) → (Nat → Int32) → (Nat → Int32) → (Nat → Int32) → (Nat → Int32) → (Nat → Int32) → (Nat → Int32) → Prop} {x1 z0 : Int32} {dr opn rt nid rs kc gc mv : Int32} {a1 a2 a3 a4 a5 a6 a7 a8 a9 a10 a11 a12 a13 a14 a15 a16 a17 a18 a19 a20 a21 a22 a23 : Nat → Int32} {j c r : Nat} (hj : j < 16) (hc : c < 16) (hr : r < 100)
    (H : J (nI (j + 1)) (nI (if c = r then r + 1 else r)) a1 a2 a3 a4 a5 a6 a7 a8 a9 a10 a11 a12 a13 a14 a15 a16 a17 (upd a18 c (nI j)) (upd a19 j z0) a20 a21 a22 a23) : wX_longestRow_89 post J x1 (nI j) (nI c) z0 (nI j) dr opn rt nid (nI r) kc gc mv a1 a2 a3 a4 a5 a6 a7 a8 a9 a10 a11 a12 a13 a14 a15 a16 a17 a18 a19 a20 a21 a22 a23 := by
  unfold wX_longestRow_89
  rw [nI_clamp (show j < 2 ^ 31 by omega), nI_clamp (show c < 2 ^ 31 by omega)]
  refine ⟨pk_in j 16 hj, nm_e ⟨pk_in c 16 hc, nm_e (pk_eq c r (fun z => nm_r (nI_1 r) (nm_r (nI_1 j) ?_)) (fun z => nm_r (nI_1 j) ?_))⟩⟩
  · rw [if_pos z] at H; exact H
  · rw [if_neg z] at H; exact H
theorem kt_row7 {a17 a20 : Nat → Int32} {N : Nat} {lf sv : Nat → Nat} (hN : N ≤ 16) (h20 : ∀ m, m < N → a20 m = nI (lf m) ∧ lf m < 33 ∧ a17 (lf m) = nI (sv m) ∧ sv m < 100) :
    ∀ (q j r : Nat) (re : Nat → Nat) (a18 a19 : Nat → Int32), N - j = q → j ≤ N → kr_R N sv re j r a18 a19 → ∃ (r' : Nat) (re' : Nat → Nat) (a18' a19' : Nat → Int32), kr_R N sv re' N r' a18' a19' ∧
    ∀ (post : Int32 → St1 → Prop) (dr opn rt nid kc gc mv : Int32) (a1 a2 a3 a4 a5 a6 a7 a8 a9 a10 a11 a12 a13 a14 a15 a16 a21 a22 a23 : Nat → Int32) (f : Nat), N - j < f →
      wX_longestRow_7 post (nI N) dr opn rt nid kc gc mv 1 (nI N) (nI r') a1 a2 a3 a4 a5 a6 a7 a8 a9 a10 a11 a12 a13 a14 a15 a16 a17 a18' a19' a20 a21 a22 a23 → wX_longestRow_7 post (nI N) dr opn rt nid kc gc mv f (nI j) (nI r) a1 a2 a3 a4 a5 a6 a7 a8 a9 a10 a11 a12 a13 a14 a15 a16 a17 a18 a19 a20 a21 a22 a23 := by
  intro q
  induction q with
  | zero =>
    intro j r re a18 a19 hq hj hR
    have e : j = N := by omega
    subst e
    refine ⟨r, re, a18, a19, hR, ?_⟩
    intro post dr opn rt nid kc gc mv a1 a2 a3 a4 a5 a6 a7 a8 a9 a10 a11 a12 a13 a14 a15 a16 a21 a22 a23 f hf H
    obtain ⟨f, rfl⟩ : ∃ g, f = g + 1 := ⟨f - 1, by omega⟩
    exact ⟨fun z => H.1 z, fun z => absurd (nI_le (Nat.le_refl _) (by omega)) z⟩
  | succ q ih =>
    intro j r re a18 a19 hq hj hR
    have hjN : j < N := by omega
    obtain ⟨hr, h18, h19, hso⟩ := hR
    obtain ⟨c, p1, p2, p3, p4⟩ := kt_row17 hN hjN hr h20 h18 r 0 0 (by omega) (by omega) (Or.inl rfl)
    have hcr : c ≤ r := by
      rcases p1 with z | z
      · omega
      · exact z.2.1
    have key : ∃ z0 : Int32, (c = 0 → z0 = -1) ∧ (c ≠ 0 → z0 = nI (re (c - 1))) := by
      by_cases e : c = 0
      · exact ⟨-1, fun _ => rfl, fun z => absurd e z⟩
      · exact ⟨nI (re (c - 1)), fun z => absurd z e, fun _ => rfl⟩
    obtain ⟨z0, k0, k1⟩ := key
    have hR' : kr_R N sv (fun k => if k = c then j else re k) (j + 1) (if c = r then r + 1 else r) (upd a18 c (nI j)) (upd a19 j z0) := by
      refine ⟨?_, ?_, ?_, ?_⟩
      · by_cases e : c = r
        · rw [if_pos e]; omega
        · rw [if_neg e]; omega
      · intro k hk
        show upd a18 c (nI j) k = nI (if k = c then j else re k) ∧ (if k = c then j else re k) < j + 1
        by_cases e : k = c
        · rw [if_pos e, e]; exact ⟨pk_us, by omega⟩
        · rw [if_neg e, pk_un e]
          have hkr : k < r := by
            by_cases e2 : c = r
            · rw [if_pos e2] at hk; omega
            · rw [if_neg e2] at hk; exact hk
          have := h18 k hkr
          exact ⟨this.1, by omega⟩
      · intro m hm
        by_cases e : m = j
        · subst e
          rw [pk_us]
          by_cases e2 : c = 0
          · exact Or.inl (k0 e2)
          · right
            rcases p1 with z | z
            · exact absurd z e2
            · exact ⟨re (c - 1), (h18 (c - 1) (by omega)).2, k1 e2, z.2.2⟩
        · rw [pk_un e]; exact h19 m (by omega)
      · intro hs
        obtain ⟨s1, s2, s3⟩ := hso hs
        have hc : c = r := by
          rcases Nat.eq_zero_or_pos r with w | w
          · omega
          · refine p2 w ?_
            rw [s2 (r - 1) (by omega)]
            exact hs (r - 1) j (by omega) hjN
        refine ⟨by rw [if_pos hc, s1], ?_, ?_⟩
        · intro k hk
          show (if k = c then j else re k) = k
          by_cases e : k = c
          · rw [if_pos e]; omega
          · rw [if_neg e]; exact s2 k (by omega)
        · intro m hm
          by_cases e : m = j
          · subst e
            rw [pk_us]
            by_cases e2 : c = 0
            · rw [if_pos (by omega)]; exact k0 e2
            · rw [if_neg (by omega), k1 e2, s2 (c - 1) (by omega), hc, s1]
          · rw [pk_un e]; exact s3 m (by omega)
    obtain ⟨r', re', a18', a19', q1, q2⟩ := ih (j + 1) _ _ _ _ (by omega) (by omega) hR'
    refine ⟨r', re', a18', a19', q1, ?_⟩
    intro post dr opn rt nid kc gc mv a1 a2 a3 a4 a5 a6 a7 a8 a9 a10 a11 a12 a13 a14 a15 a16 a21 a22 a23 f hf H
    obtain ⟨f, rfl⟩ : ∃ g, f = g + 1 := ⟨f - 1, by omega⟩
    have h7 := q2 post dr opn rt nid kc gc mv a1 a2 a3 a4 a5 a6 a7 a8 a9 a10 a11 a12 a13 a14 a15 a16 a21 a22 a23 f (by omega) H
    refine pk_le N j (fun z => absurd z (by omega)) (fun _ => ⟨r + 1, ?_⟩)
    refine p4 post _ (nI N) dr opn rt nid kc gc mv a1 a2 a3 a4 a5 a6 a7 a8 a9 a10 a11 a12 a13 a14 a15 a16 a19 a21 a22 a23 (r + 1) (by omega) ?_
    refine pk_le r r (fun _ => ?_) (fun z => absurd z (by omega))
    refine pk_eq c 0 (fun z => ?_) (fun z => ⟨pk_in (c - 1) 16 (by omega) ?_, ?_⟩)
    · have := k0 z
      subst this
      exact kt_row89 (rs := 0) (by omega) (by omega) (by omega) h7
    · obtain ⟨d, rfl⟩ : ∃ d, c = d + 1 := ⟨c - 1, by omega⟩
      rw [nI_pred]; rfl
    · have h8 := h18 (c - 1) (by omega)
      have e1 : nI c - 1 = nI (c - 1) := by
        obtain ⟨d, rfl⟩ : ∃ d, c = d + 1 := ⟨c - 1, by omega⟩
        rw [nI_pred]; rfl
      rw [e1, nI_clamp (by omega), h8.1, ← k1 z]
      exact kt_row89 (rs := 0) (by omega) (by omega) (by omega) h7
/-- the marks down a chain from p -/
def kr_Q (lf sv : Nat → Nat) (a19 a21 a21' : Nat → Int32) (p : Nat) : Prop :=
  (∀ y, (∀ m, m ≤ p → y ≠ lf m) → a21' y = a21 y) ∧ a21' (lf p) = 1 ∧ (∀ m, m < p → ¬ a21' (lf m) = 0 → sv m < sv p) ∧
  (∀ m1 m2, m1 < m2 → m2 ≤ p → ¬ a21' (lf m1) = 0 → ¬ a21' (lf m2) = 0 → sv m1 < sv m2) ∧
  ((∀ m, m ≤ p → a19 m = if m = 0 then -1 else nI (m - 1)) → ∀ m, m ≤ p → a21' (lf m) = 1)
theorem kt_row153e {post : Int32 → St1 → Prop} {dr opn rt nid rs kc gc mv : Int32} {a1 a2 a3 a4 a5 a6 a7 a8 a9 a10 a11 a12 a13 a14 a15 a16 a17 a18 a19 a20 a21 a22 a23 : Nat → Int32} {c f : Nat} (hc : c < 100) (H : post rs (dr, opn, rt, nid, rs, kc, gc, mv, a1, a2, a3, a4, a5, a6, a7, a8, a9, a10, a11, a12, a13, a14, a15, a16, a17, a18, a19, a20, a21, a22, a23)) : wX_longestRow_153 post dr opn rt nid rs kc gc mv (f + 1) (-1) (nI c) a1 a2 a3 a4 a5 a6 a7 a8 a9 a10 a11 a12 a13 a14 a15 a16 a17 a18 a19 a20 a21 a22 a23 :=
  pk_le 16 c (fun _ => H) (fun _ => br_t (by decide) H)
theorem kt_row153 {a19 a20 : Nat → Int32} {N : Nat} {lf sv : Nat → Nat} (hN : N ≤ 16) (h20 : ∀ m, m < N → a20 m = nI (lf m) ∧ lf m < 33) (hlf : ∀ m m', m < N → m' < N → lf m = lf m' → m = m') (h19 : ∀ m, m < N → a19 m = -1 ∨ ∃ m', m' < m ∧ a19 m = nI m' ∧ sv m' < sv m) :
    ∀ (p c : Nat) (a21 : Nat → Int32), p < N → c + p < 16 → (∀ m, m ≤ p → a21 (lf m) = 0) → ∃ a21', kr_Q lf sv a19 a21 a21' p ∧
    ∀ (post : Int32 → St1 → Prop) (dr opn rt nid rs kc gc mv : Int32) (a1 a2 a3 a4 a5 a6 a7 a8 a9 a10 a11 a12 a13 a14 a15 a16 a17 a18 a22 a23 : Nat → Int32) (f : Nat), p + 2 < f →
      post rs (dr, opn, rt, nid, rs, kc, gc, mv, a1, a2, a3, a4, a5, a6, a7, a8, a9, a10, a11, a12, a13, a14, a15, a16, a17, a18, a19, a20, a21', a22, a23) → wX_longestRow_153 post dr opn rt nid rs kc gc mv f (nI p) (nI c) a1 a2 a3 a4 a5 a6 a7 a8 a9 a10 a11 a12 a13 a14 a15 a16 a17 a18 a19 a20 a21 a22 a23 := by
  intro p
  induction p using Nat.strongRecOn with
  | ind p ih =>
    intro c a21 hp hc h0
    have h2 := h20 p hp
    have cp := nI_clamp (show p < 2 ^ 31 by omega)
    have e20 : a20 (nI p).toNatClampNeg = nI (lf p) := by rw [cp]; exact h2.1
    have hlp : ∀ m, m < p → lf m ≠ lf p := fun m hm e => by have := hlf m p (by omega) hp e; omega
    rcases h19 p hp with z | ⟨p', z1, z2, z3⟩
    · refine ⟨upd a21 (lf p) 1, ⟨fun y hy => pk_un (hy p (Nat.le_refl p)), pk_us, fun m hm hne => ?_, fun m1 m2 h1 h3 hne _ => ?_, fun hs m hm => ?_⟩, ?_⟩
      · rw [pk_un (hlp m hm)] at hne; exact absurd (h0 m (by omega)) hne
      · rw [pk_un (hlp m1 (by omega))] at hne; exact absurd (h0 m1 (by omega)) hne
      · rcases Nat.eq_zero_or_pos p with w | w
        · have e : m = p := by omega
          rw [e]; exact pk_us
        · have := hs p (Nat.le_refl p)
          rw [if_neg (by omega), z] at this
          exact absurd this.symm (fun e => absurd (nI_pos (n := p - 1) (by omega)) (by rw [e]; decide))
      · intro post dr opn rt nid rs kc gc mv a1 a2 a3 a4 a5 a6 a7 a8 a9 a10 a11 a12 a13 a14 a15 a16 a17 a18 a22 a23 f hf H
        obtain ⟨f, rfl⟩ : ∃ g, f = g + 1 + 1 := ⟨f - 2, by omega⟩
        exact pk_le 16 c (fun w => absurd w (by omega)) (fun _ => br_f (nI_pos (by omega)) ⟨pk_in p 16 (by omega), pk_in (lf p) 33 h2.2 e20, nm_r (e' := upd a21 (lf p) 1) (by rw [e20, nI_clamp (by omega)]) ⟨pk_in p 16 (by omega), nm_r (e' := -1) (by rw [cp]; exact z) (nm_r (nI_1 c) (kt_row153e (by omega) H))⟩⟩)
    · obtain ⟨a21', ⟨q1, q2, q3, q4, q5⟩, q6⟩ := ih p' z1 (c + 1) (upd a21 (lf p) 1) (by omega) (by omega) (fun m hm => by rw [pk_un (hlp m (by omega))]; exact h0 m (by omega))
      have hmid : ∀ m, p' < m → m < p → a21' (lf m) = 0 := fun m h1 h3 => by
        rw [q1 (lf m) (fun m' hm' e => by have := hlf m m' (by omega) (by omega) e; omega), pk_un (hlp m h3)]
        exact h0 m (by omega)
      have hpp : a21' (lf p) = 1 := by
        rw [q1 (lf p) (fun m' hm' e => by have := hlf p m' (by omega) (by omega) e; omega)]
        exact pk_us
      have hless : ∀ m, m < p → ¬ a21' (lf m) = 0 → sv m < sv p := fun m hm hne => by
        rcases Nat.lt_or_ge p' m with w | w
        · exact absurd (hmid m w hm) hne
        · rcases Nat.eq_or_lt_of_le w with e | e
          · rw [e]; exact z3
          · have := q3 m e hne; omega
      refine ⟨a21', ⟨fun y hy => ?_, hpp, hless, fun m1 m2 h1 h3 n1 n2 => ?_, fun hs m hm => ?_⟩, ?_⟩
      · rw [q1 y (fun m hm => hy m (by omega))]; exact pk_un (hy p (Nat.le_refl p))
      · rcases Nat.eq_or_lt_of_le h3 with e | e
        · rw [e]; exact hless m1 (by omega) n1
        · rcases Nat.lt_or_ge p' m2 with w | w
          · exact absurd (hmid m2 w e) n2
          · exact q4 m1 m2 h1 w n1 n2
      · rcases Nat.eq_or_lt_of_le hm with e | e
        · rw [e]; exact hpp
        · have h6 := hs p (Nat.le_refl p)
          rw [if_neg (by omega), z2] at h6
          have h7 := (nI_eq (by omega) (by omega)).mp h6
          exact q5 (fun m' hm' => hs m' (by omega)) m (by omega)
      · intro post dr opn rt nid rs kc gc mv a1 a2 a3 a4 a5 a6 a7 a8 a9 a10 a11 a12 a13 a14 a15 a16 a17 a18 a22 a23 f hf H
        obtain ⟨f, rfl⟩ : ∃ g, f = g + 1 := ⟨f - 1, by omega⟩
        exact pk_le 16 c (fun w => absurd w (by omega)) (fun _ => br_f (nI_pos (by omega)) ⟨pk_in p 16 (by omega), pk_in (lf p) 33 h2.2 e20, nm_r (e' := upd a21 (lf p) 1) (by rw [e20, nI_clamp (by omega)]) ⟨pk_in p 16 (by omega), nm_r (e' := nI p') (by rw [cp]; exact z2) (nm_r (nI_1 c) (q6 post dr opn rt nid rs kc gc mv a1 a2 a3 a4 a5 a6 a7 a8 a9 a10 a11 a12 a13 a14 a15 a16 a17 a18 a22 a23 f (by omega) H))⟩⟩)
/-- longestRow: the marked ones stand in the same order as before; if all do, all are marked -/
theorem kt_row {a17 a20 a21 : Nat → Int32} {N : Nat} {lf sv : Nat → Nat} (hN : N ≤ 16) (h20 : ∀ m, m < N → a20 m = nI (lf m) ∧ lf m < 33 ∧ a17 (lf m) = nI (sv m) ∧ sv m < 100) (hlf : ∀ m m', m < N → m' < N → lf m = lf m' → m = m') (h21 : ∀ m, m < N → a21 (lf m) = 0) (a18 a19 : Nat → Int32) :
    ∃ (r : Nat) (a18' a19' a21' : Nat → Int32), (∀ y, (∀ m, m < N → y ≠ lf m) → a21' y = a21 y) ∧ (∀ m1 m2, m1 < m2 → m2 < N → ¬ a21' (lf m1) = 0 → ¬ a21' (lf m2) = 0 → sv m1 < sv m2) ∧ ((∀ a c, a < c → c < N → sv a < sv c) → r = N ∧ ∀ m, m < N → a21' (lf m) = 1) ∧
    ∀ (post : Int32 → St1 → Prop) (dr opn rt nid rs kc gc mv : Int32) (a1 a2 a3 a4 a5 a6 a7 a8 a9 a10 a11 a12 a13 a14 a15 a16 a22 a23 : Nat → Int32),
      post (nI r) (dr, opn, rt, nid, nI r, kc, gc, mv, a1, a2, a3, a4, a5, a6, a7, a8, a9, a10, a11, a12, a13, a14, a15, a16, a17, a18', a19', a20, a21', a22, a23) → wpX_longestRow post (dr, opn, rt, nid, rs, kc, gc, mv, a1, a2, a3, a4, a5, a6, a7, a8, a9, a10, a11, a12, a13, a14, a15, a16, a17, a18, a19, a20, a21, a22, a23) (nI N) := by
  obtain ⟨r, re, a18', a19', ⟨hr, h18, h19, hso⟩, q2⟩ := kt_row7 hN h20 N 0 0 (fun _ => 0) a18 a19 (by omega) (by omega) ⟨Nat.le_refl 0, fun k hk => absurd hk (by omega), fun k hk => absurd hk (by omega), fun _ => ⟨rfl, fun k hk => absurd hk (by omega), fun k hk => absurd hk (by omega)⟩⟩
  rcases Nat.eq_zero_or_pos r with w | w
  · subst w
    refine ⟨0, a18', a19', a21, fun _ _ => rfl, fun m1 m2 h1 h3 n1 _ => absurd (h21 m1 (by omega)) n1, fun hs => ⟨(hso hs).1, fun m hm => by have := (hso hs).1; omega⟩, ?_⟩
    intro post dr opn rt nid rs kc gc mv a1 a2 a3 a4 a5 a6 a7 a8 a9 a10 a11 a12 a13 a14 a15 a16 a22 a23 H
    unfold wpX_longestRow
    refine ⟨N + 1, q2 post dr opn rt nid kc gc mv a1 a2 a3 a4 a5 a6 a7 a8 a9 a10 a11 a12 a13 a14 a15 a16 a21 a22 a23 (N + 1) (by omega) ?_⟩
    exact pk_le N N (fun _ => br_t rfl ⟨0 + 1, kt_row153e (c := 0) (by decide) H⟩) (fun z => absurd z (by omega))
  · have h8 := h18 (r - 1) (by omega)
    obtain ⟨a21', ⟨s1, s2, s3, s4, s5⟩, s6⟩ := kt_row153 (a19 := a19') (sv := sv) hN (fun m hm => ⟨(h20 m hm).1, (h20 m hm).2.1⟩) hlf h19 (re (r - 1)) 0 a21 (by omega) (by omega) (fun m hm => h21 m (by omega))
    have hmid : ∀ m, re (r - 1) < m → m < N → a21' (lf m) = 0 := fun m h1 h3 => by
      rw [s1 (lf m) (fun m' hm' e => by have := hlf m m' (by omega) (by omega) e; omega)]
      exact h21 m h3
    refine ⟨r, a18', a19', a21', fun y hy => s1 y (fun m hm => hy m (by omega)), fun m1 m2 h1 h3 n1 n2 => ?_, fun hs => ?_, ?_⟩
    · rcases Nat.lt_or_ge (re (r - 1)) m2 with z | z
      · exact absurd (hmid m2 z h3) n2
      · exact s4 m1 m2 h1 z n1 n2
    · obtain ⟨t1, t2, t3⟩ := hso hs
      have e := t2 (r - 1) (by omega)
      exact ⟨t1, fun m hm => s5 (fun m' hm' => t3 m' (by omega)) m (by omega)⟩
    · intro post dr opn rt nid rs kc gc mv a1 a2 a3 a4 a5 a6 a7 a8 a9 a10 a11 a12 a13 a14 a15 a16 a22 a23 H
      unfold wpX_longestRow
      refine ⟨N + 1, q2 post dr opn rt nid kc gc mv a1 a2 a3 a4 a5 a6 a7 a8 a9 a10 a11 a12 a13 a14 a15 a16 a21 a22 a23 (N + 1) (by omega) ?_⟩
      have e1 : nI r - 1 = nI (r - 1) := by
        obtain ⟨d, rfl⟩ : ∃ d, r = d + 1 := ⟨r - 1, by omega⟩
        rw [nI_pred]; rfl
      refine pk_le N N (fun _ => br_f (nI_ne0 w (by omega)) ⟨pk_in (r - 1) 16 (by omega) e1, nm_r (e' := nI (re (r - 1))) (by rw [e1, nI_clamp (by omega)]; exact h8.1) ⟨re (r - 1) + 3, ?_⟩⟩) (fun z => absurd z (by omega))
      exact s6 post dr opn rt nid (nI r) kc gc mv a1 a2 a3 a4 a5 a6 a7 a8 a9 a10 a11 a12 a13 a14 a15 a16 a17 a18' a22 a23 (re (r - 1) + 3) (by omega) H
end
section
theorem kr_en_in {par : Nat → Nat} {n t et d ed : Nat} (hT : kr_En par n t et) (hD : kr_En par n d ed) (h1 : t < d) (h2 : d < et) : ed ≤ et := by
  obtain ⟨_, t2, t3, t4⟩ := hT
  obtain ⟨d1, d2, d3, d4⟩ := hD
  rcases Nat.lt_or_ge et ed with z | z
  · have h5 := d3 et h2 z
    have h6 := t4 (by omega)
    omega
  · exact z
theorem kr_split {A B : List Nat} {x : Nat} (h : (A ++ x :: B).Nodup) : A ++ B = (A ++ x :: B).filter (fun c => c != x) := by
  have h' := h
  rw [List.nodup_append] at h'
  have hx : x ∉ A := fun z => h'.2.2 x z x List.mem_cons_self rfl
  rw [← List.Nodup.erase_eq_filter h x, List.erase_append_right _ hx, List.erase_cons_head]
theorem kt_drest {a10 a16 : Nat → Int32} {ky b0 par0 : Nat → Nat} {un : Nat → Bool} {n0 t et : Nat} (hn : n0 ≤ 16) (hS : kr_Sh par0 n0) (ht : t < n0) (hT : kr_En par0 n0 t et) (hb : ∀ u, u < n0 → 0 < b0 u ∧ b0 u < 33) (hinj : ∀ u v, u < n0 → v < n0 → b0 u = b0 v → u = v) (hk : ∀ u, u < n0 → (kr_kids par0 n0 u).length ≤ 10)
    (hky : ((kr_kids par0 n0 t).map b0).Pairwise (fun x y => ky x ≠ ky y))
    (h16 : ∀ y, y < 10 → (a16 y = 0 ∧ ∀ d, d ∈ kr_kids par0 n0 t → un (b0 d) = true → ky (b0 d) ≠ y) ∨ (∃ d, d ∈ kr_kids par0 n0 t ∧ a16 y = nI (b0 d) ∧ ky (b0 d) = y ∧ un (b0 d) = true)) :
    ∀ (q y : Nat) (gc : Int32) (a5 a11 a12 a13 : Nat → Int32), 10 - y = q → y ≤ 10 → kr_Nd a10 a11 a12 a13 (b0 t) (((kr_kids par0 n0 t).map b0).filter (fun c => !(decide (ky c < y) && un c))) → (∀ u, t < u → u < et → kr_Nd a10 a11 a12 a13 (b0 u) ((kr_kids par0 n0 u).map b0)) →
    ∃ (gc' : Int32) (a5' a11' a12' a13' : Nat → Int32), kr_Nd a10 a11' a12' a13' (b0 t) (((kr_kids par0 n0 t).map b0).filter (fun c => !(decide (ky c < 10) && un c))) ∧
      (∀ q l', q < 33 → q ≠ b0 t → kr_Nd a10 a11 a12 a13 q l' → kr_Nd a10 a11' a12' a13' q l') ∧
      (∀ d e u, d ∈ kr_kids par0 n0 t → un (b0 d) = true → y ≤ ky (b0 d) → ky (b0 d) < 10 → kr_En par0 n0 d e → d ≤ u → u < e → a5' (b0 u) = 0) ∧
      (∀ z, (∀ d e u, d ∈ kr_kids par0 n0 t → un (b0 d) = true → kr_En par0 n0 d e → d ≤ u → u < e → z ≠ b0 u) → a5' z = a5 z) ∧
      (∀ z, a5 z = 0 → a5' z = 0) ∧
      ((∀ d, d ∈ kr_kids par0 n0 t → un (b0 d) = false) → gc' = gc ∧ a5' = a5 ∧ a11' = a11 ∧ a12' = a12 ∧ a13' = a13) ∧
      ∀ (post : St1 → Prop) (dr opn rt nid rs kc mv : Int32) (a1 a2 a3 a4 a6 a7 a8 a9 a14 a15 a17 a18 a19 a20 a21 a22 a23 : Nat → Int32) (f : Nat), 10 - y < f → (∀ o p : Nat → Int32, post (dr, opn, rt, nid, rs, kc, gc', mv, a1, a2, a3, a4, a5', a6, a7, a8, a9, a10, a11', a12', a13', a14, a15, a16, a17, a18, a19, a20, a21, o, p)) → wX_dropRest_2 post f (nI y) dr opn rt nid rs kc gc mv a1 a2 a3 a4 a5 a6 a7 a8 a9 a10 a11 a12 a13 a14 a15 a16 a17 a18 a19 a20 a21 a22 a23 := by
  intro q
  induction q with
  | zero =>
    intro y gc a5 a11 a12 a13 hq hy hN hV
    have e : y = 10 := by omega
    subst e
    refine ⟨gc, a5, a11, a12, a13, hN, fun _ _ _ _ h => h, fun d e u _ _ h1 h2 => absurd h1 (by omega), fun _ _ => rfl, fun _ h => h, fun _ => ⟨rfl, rfl, rfl, rfl, rfl⟩, ?_⟩
    intro post dr opn rt nid rs kc mv a1 a2 a3 a4 a6 a7 a8 a9 a14 a15 a17 a18 a19 a20 a21 a22 a23 f hf H
    obtain ⟨f, rfl⟩ : ∃ g, f = g + 1 := ⟨f - 1, by omega⟩
    exact pk_le 10 10 (fun _ => H a22 a23) (fun z => absurd z (by omega))
  | succ q ih =>
    intro y gc a5 a11 a12 a13 hq hy hN hV
    have hy10 : y < 10 := by omega
    have cy := nI_clamp (show y < 2 ^ 31 by omega)
    rcases h16 y hy10 with ⟨z1, z2⟩ | ⟨d, d1, d2, d3, d4⟩
    · have eL : ((kr_kids par0 n0 t).map b0).filter (fun c => !(decide (ky c < y) && un c)) = ((kr_kids par0 n0 t).map b0).filter (fun c => !(decide (ky c < y + 1) && un c)) := by
        apply List.filter_congr
        intro c hc
        obtain ⟨d, hd, rfl⟩ := List.mem_map.mp hc
        cases hu : un (b0 d) with
        | false => simp
        | true =>
          have := z2 d hd hu
          have e : decide (ky (b0 d) < y) = decide (ky (b0 d) < y + 1) := by
            rw [decide_eq_decide]; omega
          rw [e]
      rw [eL] at hN
      obtain ⟨gc', a5', a11', a12', a13', p1, p2, p3, p4, p5, p6, p7⟩ := ih (y + 1) gc a5 a11 a12 a13 (by omega) (by omega) hN hV
      refine ⟨gc', a5', a11', a12', a13', p1, p2, fun d e u g1 g2 g3 g4 => ?_, p4, p5, p6, ?_⟩
      · have := z2 d g1 g2
        exact p3 d e u g1 g2 (by omega) g4
      · intro post dr opn rt nid rs kc mv a1 a2 a3 a4 a6 a7 a8 a9 a14 a15 a17 a18 a19 a20 a21 a22 a23 f hf H
        obtain ⟨f, rfl⟩ : ∃ g, f = g + 1 := ⟨f - 1, by omega⟩
        exact pk_le 10 y (fun z => absurd z (by omega)) (fun _ => ⟨pk_in y 10 hy10, br_t (by rw [cy]; exact z1) (nm_r (nI_1 y) (p7 post dr opn rt nid rs kc mv a1 a2 a3 a4 a6 a7 a8 a9 a14 a15 a17 a18 a19 a20 a21 a22 a23 f (by omega) H))⟩)
    · have hdk := kr_mem_kids.mp d1
      have hde : d < et := kr_en_kid hS hT (Nat.le_refl t) hT.1 hdk.1 hdk.2.1 hdk.2.2
      obtain ⟨e, hE⟩ := kr_en_ex par0 n0 d hdk.2.1
      have hee := kr_en_in hT hE hdk.1 hde
      have hetn := hT.2.1
      have hcL : b0 d ∈ ((kr_kids par0 n0 t).map b0).filter (fun c => !(decide (ky c < y) && un c)) := by
        rw [List.mem_filter]
        refine ⟨List.mem_map.mpr ⟨d, d1, rfl⟩, ?_⟩
        have : ¬ ky (b0 d) < y := by omega
        simp [this]
      obtain ⟨A, B, eAB⟩ := List.append_of_mem hcL
      have hN' := hN
      rw [eAB] at hN'
      obtain ⟨u1, u2⟩ := kr_unl hN' (hb t ht).2
      have eL : A ++ B = ((kr_kids par0 n0 t).map b0).filter (fun c => !(decide (ky c < y + 1) && un c)) := by
        rw [kr_split hN'.2.2.2, ← eAB, List.filter_filter]
        apply List.filter_congr
        intro c hc
        obtain ⟨d', hd', rfl⟩ := List.mem_map.mp hc
        by_cases e1 : b0 d' = b0 d
        · rw [e1, d4, d3]
          simp
        · have e2 : (b0 d' != b0 d) = true := by simpa using e1
          rw [e2, Bool.true_and]
          cases hu : un (b0 d') with
          | false => simp
          | true =>
            have h7 : ky (b0 d') ≠ y := fun w => e1 (kr_pw_inj hky hc (List.mem_map.mpr ⟨d, d1, rfl⟩) (by rw [w, d3]))
            have e : decide (ky (b0 d') < y) = decide (ky (b0 d') < y + 1) := by
              rw [decide_eq_decide]; omega
            rw [e]
      rw [eL] at u1
      have hV' : ∀ u, t < u → u < et → kr_Nd a10 (if A = [] then upd a11 (b0 t) (nI (B.headD 0)) else a11) (if A = [] then a12 else upd a12 (A.getLastD 0) (nI (B.headD 0))) (if B = [] then a13 else upd a13 (B.headD 0) (nI (A.getLastD 0))) (b0 u) ((kr_kids par0 n0 u).map b0) := fun u g1 g2 =>
        u2 (b0 u) _ (hb u (by omega)).2 (fun w => by have := hinj u t (by omega) ht w; omega) (hV u g1 g2)
      obtain ⟨gc', a5', a11', a12', a13', p1, p2, p3, p4, p5, p6, p7⟩ := ih (y + 1) (gc + nI (e - d)) (kr_clr a5 b0 d (e - d)) _ _ _ (by omega) (by omega) u1 hV'
      refine ⟨gc', a5', a11', a12', a13', p1, fun q l' g1 g2 g3 => p2 q l' g1 g2 (u2 q l' g1 g2 g3), fun d' e' u g1 g2 g3 g4 g5 g6 g7 => ?_, fun z hz => ?_, fun z hz => ?_, fun hz => ?_, ?_⟩
      · rcases Nat.eq_or_lt_of_le g3 with w | w
        · have h8 : d' = d := by
            have h9 := kr_pw_inj hky (List.mem_map.mpr ⟨d', g1, rfl⟩) (List.mem_map.mpr ⟨d, d1, rfl⟩) (by rw [← w, d3])
            exact hinj d' d (kr_mem_kids.mp g1).2.1 hdk.2.1 h9
          subst h8
          have h10 : e' = e := by
            obtain ⟨x1, x2, x3, x4⟩ := g5
            obtain ⟨y1, y2, y3, y4⟩ := hE
            rcases Nat.lt_trichotomy e' e with w | w | w
            · have := y3 e' x1 w
              have := x4 (by omega)
              omega
            · exact w
            · have := x3 e y1 w
              have := y4 (by omega)
              omega
          subst h10
          exact p5 _ (kr_clr_in _ u g6 (by omega))
        · exact p3 d' e' u g1 g2 (by omega) g4 g5 g6 g7
      · rw [p4 z hz]
        refine kr_clr_out _ (fun u g1 g2 => hz d e u d1 d4 hE g1 (by omega))
      · refine p5 z ?_
        by_cases w : ∃ u, d ≤ u ∧ u < d + (e - d) ∧ z = b0 u
        · obtain ⟨u, w1, w2, w3⟩ := w
          rw [w3]; exact kr_clr_in _ u w1 w2
        · rw [kr_clr_out _ (fun u g1 g2 w3 => w ⟨u, g1, g2, w3⟩)]
          exact hz
      · have := hz d d1
        rw [d4] at this
        exact absurd this (by decide)
      · intro post dr opn rt nid rs kc mv a1 a2 a3 a4 a6 a7 a8 a9 a14 a15 a17 a18 a19 a20 a21 a22 a23 f hf H
        obtain ⟨f, rfl⟩ : ∃ g, f = g + 1 := ⟨f - 1, by omega⟩
        have hbd := hb d hdk.2.1
        have e16 : a16 (nI y).toNatClampNeg = nI (b0 d) := by rw [cy]; exact d2
        refine pk_le 10 y (fun z => absurd z (by omega)) (fun _ => ⟨pk_in y 10 hy10, br_f (by rw [e16]; exact nI_ne0 hbd.1 (by omega)) ⟨pk_in y 10 hy10, ?_⟩⟩)
        rw [e16]
        refine kt_unlink hN' (hb t ht).2 ⟨pk_in y 10 hy10, ?_⟩
        rw [e16]
        refine kt_drop hS hE (by omega) (fun s g1 g2 => hb s (by omega)) (fun s g1 g2 => hk s (by omega)) (fun s g1 g2 => hV' s (by omega) (by omega)) (fun o p => nm_r (nI_1 y) ?_)
        exact p7 post dr opn rt nid rs kc mv a1 a2 a3 a4 a6 a7 a8 a9 a14 a15 a17 a18 a19 a20 a21 o p f (by omega) H
end
section
theorem kr_sort_eq {st : Nat → Nat} {l1 l2 : List Nat} (h1 : l1.Pairwise (fun x y => st x < st y)) (h2 : l2.Pairwise (fun x y => st x < st y)) (hm : ∀ x, x ∈ l1 ↔ x ∈ l2) : l1 = l2 := by
  have n1 : l1.Nodup := List.Pairwise.imp (fun h e => by subst e; exact Nat.lt_irrefl _ h) h1
  have n2 : l2.Nodup := List.Pairwise.imp (fun h e => by subst e; exact Nat.lt_irrefl _ h) h2
  exact List.Perm.eq_of_pairwise (le := fun x y => st x < st y) (fun a b _ _ g1 g2 => absurd g1 (by omega)) h1 h2 ((List.perm_ext_iff_of_nodup n1 n2).mpr hm)
/-- matchChildren at a draft node whose node is new: its children have no partner -/
theorem kt_mcN {a1 a2 a3 a6 a14 a15 a16 a20 : Nat → Int32} {n i : Nat} {par ky : Nat → Nat} (hn : n ≤ 16) (hi : i < n) (hpar : ∀ j, 0 < j → j < n → a3 j = nI (par j) ∧ par j < 16) (hky : ∀ j, j < n → a2 j = nI (ky j) ∧ ky j < 10) (h15 : a15 i = 0) (hdist : ∀ j k, i < j → j < k → k < n → par j = i → par k = i → ky j ≠ ky k) :
    ∃ a14' a15' a16' a20' : Nat → Int32, (∀ k, i < k → k < n → par k = i → a15' k = 0 ∧ a14' k = 0) ∧ (∀ k, (k ≤ i ∨ n ≤ k ∨ par k ≠ i) → a15' k = a15 k ∧ a14' k = a14 k) ∧
      ∀ (post : St1 → Prop) (opn rt nid rs kc gc mv : Int32) (a4 a5 a7 a8 a9 a10 a11 a12 a13 a17 a18 a19 a21 a22 a23 : Nat → Int32), post (nI n, opn, rt, nid, rs, kc, gc, mv, a1, a2, a3, a4, a5, a6, a7, a8, a9, a10, a11, a12, a13, a14', a15', a16', a17, a18, a19, a20', a21, a22, a23) → wpX_matchChildren post (nI n, opn, rt, nid, rs, kc, gc, mv, a1, a2, a3, a4, a5, a6, a7, a8, a9, a10, a11, a12, a13, a14, a15, a16, a17, a18, a19, a20, a21, a22, a23) (nI i) := by
  obtain ⟨a14', a15', a16', a20', p1, p2, _, _, _, _, p7⟩ := kt_mloop (a1 := a1) (a6 := a6) (x3 := 0) (g := fun _ => 0) hn hpar hky hdist (fun _ => by show 0 < 33; omega) (fun _ _ => rfl) (by omega) (n - (i + 1)) (i + 1) 0 a14 a15 a16 a20 rfl (by omega) (by omega) (by omega) (fun z => absurd rfl z)
  refine ⟨a14', a15', a16', a20', fun k h1 h2 h3 => ?_, fun k hk => ?_, ?_⟩
  · have h := p1 k (by omega) h2 h3
    rw [if_neg (fun z => z.1 rfl), if_neg (fun z => z.1 rfl)] at h
    exact h
  · exact p2 k (kr_or3 hk (fun w => by omega))
  · intro post opn rt nid rs kc gc mv a4 a5 a7 a8 a9 a10 a11 a12 a13 a17 a18 a19 a21 a22 a23 H
    have ci := nI_clamp (show i < 2 ^ 31 by omega)
    unfold wpX_matchChildren
    dsimp only
    rw [ci, h15]
    refine ⟨pk_in i 16 (by omega), nm_e ⟨pk_in i 16 (by omega), nm_e (br_t rfl (nm_r (nI_1 i) ⟨n - (i + 1) + 1, ?_⟩))⟩⟩
    refine p7 post opn rt nid rs kc gc mv a4 a5 a7 a8 a9 a10 a11 a12 a13 a17 a18 a19 a21 a22 a23 _ (by omega) ?_
    exact pk_le n n (fun _ => br_t rfl H) (fun z => absurd z (by omega))
/-- matchChildren at a draft node whose node is kept -/
theorem kt_mcK {a1 a2 a3 a5 a6 a7 a10 a11 a12 a13 a14 a15 : Nat → Int32} {n i n0 t et : Nat} {par ky par0 b0 kyn : Nat → Nat}
    (hn : n ≤ 16) (hi : i < n) (hpar : ∀ j, 0 < j → j < n → a3 j = nI (par j) ∧ par j < 16) (hky : ∀ j, j < n → a2 j = nI (ky j) ∧ ky j < 10) (hdist : ∀ j k, i < j → j < k → k < n → par j = i → par k = i → ky j ≠ ky k)
    (h15 : ¬ a15 i = 0) (h14 : a14 i = nI (b0 t)) (hn0 : n0 ≤ 16) (hS : kr_Sh par0 n0) (ht : t < n0) (hT : kr_En par0 n0 t et) (hb : ∀ u, u < n0 → 0 < b0 u ∧ b0 u < 33) (hinj : ∀ u v, u < n0 → v < n0 → b0 u = b0 v → u = v) (hk : ∀ u, u < n0 → (kr_kids par0 n0 u).length ≤ 10)
    (hV : ∀ u, t ≤ u → u < et → kr_Nd a10 a11 a12 a13 (b0 u) ((kr_kids par0 n0 u).map b0)) (hkn : ∀ d, d ∈ kr_kids par0 n0 t → kyn (b0 d) < 10 ∧ a7 (b0 d) = nI (kyn (b0 d))) (hkd : ∀ c d, c ∈ kr_kids par0 n0 t → d ∈ kr_kids par0 n0 t → kyn (b0 c) = kyn (b0 d) → c = d)
    (gc mv : Int32) (a16 a17 a18 a19 a20 a21 : Nat → Int32) :
    ∃ (g : Nat → Nat) (un : Nat → Bool) (rs' gc' mv' : Int32) (a5' a11' a12' a13' a14' a15' a16' a17' a18' a19' a20' a21' : Nat → Int32),
      (∀ y, g y = 0 ∧ (∀ d, d ∈ kr_kids par0 n0 t → kyn (b0 d) ≠ y) ∨ (∃ d, d ∈ kr_kids par0 n0 t ∧ g y = b0 d ∧ kyn (b0 d) = y)) ∧
      (∀ d, d ∈ kr_kids par0 n0 t → (un (b0 d) = false ↔ ∃ k, k ∈ kr_M a1 a6 g ky par n i (i + 1) ∧ g (ky k) = b0 d)) ∧
      (∀ k, i < k → k < n → par k = i → a15' k = (if g (ky k) ≠ 0 ∧ a6 (g (ky k)) = a1 k then 1 else 0) ∧ a14' k = (if g (ky k) ≠ 0 ∧ a6 (g (ky k)) = a1 k then nI (g (ky k)) else 0)) ∧
      (∀ k, (k ≤ i ∨ n ≤ k ∨ par k ≠ i) → a15' k = a15 k ∧ a14' k = a14 k) ∧
      kr_Nd a10 a11' a12' a13' (b0 t) (((kr_kids par0 n0 t).map b0).filter (fun c => !(un c))) ∧
      (∀ q l', q < 33 → q ≠ b0 t → kr_Nd a10 a11 a12 a13 q l' → kr_Nd a10 a11' a12' a13' q l') ∧
      (∀ d e u, d ∈ kr_kids par0 n0 t → un (b0 d) = true → kr_En par0 n0 d e → d ≤ u → u < e → a5' (b0 u) = 0) ∧
      (∀ z, (∀ d e u, d ∈ kr_kids par0 n0 t → un (b0 d) = true → kr_En par0 n0 d e → d ≤ u → u < e → z ≠ b0 u) → a5' z = a5 z) ∧
      (∀ z, z ∉ (kr_kids par0 n0 t).map b0 → a21' z = a21 z) ∧
      ((((kr_kids par0 n0 t).map b0).filter (fun c => !(un c))).filter (fun c => decide (¬ a21' c = 0)) = ((kr_M a1 a6 g ky par n i (i + 1)).map (fun k => g (ky k))).filter (fun c => decide (¬ a21' c = 0))) ∧
      ((∀ d, d ∈ kr_kids par0 n0 t → un (b0 d) = false) → (kr_M a1 a6 g ky par n i (i + 1)).map (fun k => g (ky k)) = (kr_kids par0 n0 t).map b0 → gc' = gc ∧ mv' = mv ∧ a5' = a5 ∧ a11' = a11 ∧ a12' = a12 ∧ a13' = a13 ∧ ∀ d, d ∈ kr_kids par0 n0 t → a21' (b0 d) = 1) ∧
      ∀ (post : St1 → Prop) (opn rt nid rs kc : Int32) (a4 a8 a9 a22 a23 : Nat → Int32), (∀ o p : Nat → Int32, post (nI n, opn, rt, nid, rs', kc, gc', mv', a1, a2, a3, a4, a5', a6, a7, a8, a9, a10, a11', a12', a13', a14', a15', a16', a17', a18', a19', a20', a21', o, p)) → wpX_matchChildren post (nI n, opn, rt, nid, rs, kc, gc, mv, a1, a2, a3, a4, a5, a6, a7, a8, a9, a10, a11, a12, a13, a14, a15, a16, a17, a18, a19, a20, a21, a22, a23) (nI i) := by
  have hNt := hV t (Nat.le_refl t) hT.1
  have hbt := hb t ht
  have hkt := hk t ht
  have hkids : ∀ d, d ∈ kr_kids par0 n0 t → t < d ∧ d < n0 := fun d hd => ⟨(kr_mem_kids.mp hd).1, (kr_mem_kids.mp hd).2.1⟩
  have hpw : ((kr_kids par0 n0 t).map b0).Pairwise (fun x y => kyn x ≠ kyn y) := by
    rw [List.pairwise_map]
    refine List.Pairwise.imp_of_mem ?_ (kr_kids_pw par0 n0 t)
    intro c d hc hd hcd e
    have := hkd c d hc hd e
    omega
  -- index
  obtain ⟨a16i, a17', a21i, st, i1, i2, i3, i4, i5⟩ := kt_index (a7 := a7) (ky := kyn) hNt hbt.2 (by rw [List.length_map]; exact hkt) (fun x hx => by obtain ⟨d, hd, rfl⟩ := List.mem_map.mp hx; exact hkn d hd) hpw a16 a17 a21
  have hg : ∀ y, kr_g kyn ((kr_kids par0 n0 t).map b0) y = 0 ∧ (∀ d, d ∈ kr_kids par0 n0 t → kyn (b0 d) ≠ y) ∨ (∃ d, d ∈ kr_kids par0 n0 t ∧ kr_g kyn ((kr_kids par0 n0 t).map b0) y = b0 d ∧ kyn (b0 d) = y) := fun y => by
    rcases kr_g_or kyn ((kr_kids par0 n0 t).map b0) y with z | z
    · exact Or.inl ⟨z.1, fun d hd => z.2 (b0 d) (List.mem_map.mpr ⟨d, hd, rfl⟩)⟩
    · obtain ⟨d, hd, e⟩ := List.mem_map.mp z.1
      exact Or.inr ⟨d, hd, e.symm, by rw [e]; exact z.2⟩
  generalize kr_g kyn ((kr_kids par0 n0 t).map b0) = g at i1 hg
  have hg33 : ∀ y, g y < 33 := fun y => by
    rcases hg y with z | ⟨d, hd, e, _⟩
    · rw [z.1]; omega
    · rw [e]; exact (hb d (hkids d hd).2).2
  -- the loop over the draft's children
  obtain ⟨a14', a15', a16', a20', m1, m2, m3, m4, m5, _, m7⟩ := kt_mloop (a1 := a1) (a6 := a6) (x3 := a15 i) (g := g) hn hpar hky hdist hg33 (fun z => absurd z h15) (by omega) (n - (i + 1)) (i + 1) 0 a14 a15 a16i a20 rfl (by omega) (by omega) (by omega) (fun _ k h1 h2 h3 => i1 (ky k) (hky k h2).2)
  have hMlen : (kr_M a1 a6 g ky par n i (i + 1)).length ≤ 16 := Nat.le_trans kr_M_len (by omega)
  have hMpw : (kr_M a1 a6 g ky par n i (i + 1)).Pairwise (· < ·) := List.Pairwise.filter _ (List.pairwise_lt_range' (s := i + 1) (n := n - (i + 1)))
  -- a partner is an old child
  have hMg : ∀ k, k ∈ kr_M a1 a6 g ky par n i (i + 1) → ∃ d, d ∈ kr_kids par0 n0 t ∧ g (ky k) = b0 d ∧ kyn (b0 d) = ky k := fun k hk' => by
    rcases hg (ky k) with z | z
    · exact absurd z.1 (kr_mem_M.mp hk').2.2.2.1
    · exact z
  have hMinj : ∀ k k', k ∈ kr_M a1 a6 g ky par n i (i + 1) → k' ∈ kr_M a1 a6 g ky par n i (i + 1) → g (ky k) = g (ky k') → k = k' := fun k k' h1 h2 e => by
    obtain ⟨d, hd, e1, e2⟩ := hMg k h1
    obtain ⟨d', hd', e1', e2'⟩ := hMg k' h2
    have q1 := kr_mem_M.mp h1
    have q2 := kr_mem_M.mp h2
    rw [e1, e1'] at e
    have e3 : ky k = ky k' := by rw [← e2, ← e2', e]
    rcases Nat.lt_trichotomy k k' with w | w | w
    · exact absurd e3 (hdist k k' (by omega) w q2.2.1 q1.2.2.1 q2.2.2.1)
    · exact w
    · exact absurd e3.symm (hdist k' k (by omega) w q1.2.1 q2.2.2.1 q1.2.2.1)
  have hun : ∃ un : Nat → Bool, ∀ c, un c = false ↔ ∃ k, k ∈ kr_M a1 a6 g ky par n i (i + 1) ∧ g (ky k) = c :=
    ⟨fun c => !((kr_M a1 a6 g ky par n i (i + 1)).any (fun k => g (ky k) == c)), fun c => by
      rw [Bool.not_eq_false', List.any_eq_true]
      constructor
      · intro ⟨k, h1, h2⟩; exact ⟨k, h1, by simpa using h2⟩
      · intro ⟨k, h1, h2⟩; exact ⟨k, h1, by simpa using h2⟩⟩
  obtain ⟨un, hun⟩ := hun
  -- what is left by key
  have h16 : ∀ y, y < 10 → (a16' y = 0 ∧ ∀ d, d ∈ kr_kids par0 n0 t → un (b0 d) = true → kyn (b0 d) ≠ y) ∨ (∃ d, d ∈ kr_kids par0 n0 t ∧ a16' y = nI (b0 d) ∧ kyn (b0 d) = y ∧ un (b0 d) = true) := fun y hy => by
    by_cases w : ∃ k, k ∈ kr_M a1 a6 g ky par n i (i + 1) ∧ ky k = y
    · obtain ⟨k, w1, w2⟩ := w
      left
      refine ⟨by rw [← w2]; exact m4 k w1, fun d hd hu e => ?_⟩
      obtain ⟨d', hd', e1, e2⟩ := hMg k w1
      have e3 : d = d' := hkd d d' hd hd' (by rw [e, e2, w2])
      have := (hun (b0 d)).mpr ⟨k, w1, by rw [e1, e3]⟩
      rw [this] at hu
      exact absurd hu (by decide)
    · have h3 : a16' y = nI (g y) := by
        rw [m3 y (fun k hk' e => w ⟨k, hk', e⟩)]
        exact i1 y hy
      rcases hg y with z | ⟨d, hd, e1, e2⟩
      · left
        exact ⟨by rw [h3, z.1]; rfl, fun d hd _ => z.2 d hd⟩
      · right
        refine ⟨d, hd, by rw [h3, e1], e2, ?_⟩
        cases hu : un (b0 d) with
        | true => rfl
        | false =>
          obtain ⟨k, k1, k2⟩ := (hun (b0 d)).mp hu
          obtain ⟨d', hd', e1', e2'⟩ := hMg k k1
          rw [e1'] at k2
          exact absurd ⟨k, k1, by rw [← e2', k2, e2]⟩ w
  -- the rest goes
  have hall : ((kr_kids par0 n0 t).map b0).filter (fun c => !(decide (kyn c < 0) && un c)) = (kr_kids par0 n0 t).map b0 := by
    rw [List.filter_eq_self]
    intro c _
    simp
  obtain ⟨gc', a5', a11', a12', a13', r1, r2, r3, r4, _, r6, r7⟩ := kt_drest (un := un) hn0 hS ht hT hb hinj hk hpw h16 10 0 gc a5 a11 a12 a13 rfl (by omega) (by rw [hall]; exact hNt) (fun u g1 g2 => hV u (by omega) g2)
  have hten : ((kr_kids par0 n0 t).map b0).filter (fun c => !(decide (kyn c < 10) && un c)) = ((kr_kids par0 n0 t).map b0).filter (fun c => !(un c)) := by
    apply List.filter_congr
    intro c hc
    obtain ⟨d, hd, rfl⟩ := List.mem_map.mp hc
    have := (hkn d hd).1
    simp [this]
  rw [hten] at r1
  -- the row
  have hG : ∀ m (hm : m < ((kr_M a1 a6 g ky par n i (i + 1)).map (fun k => g (ky k))).length), ∃ d, d ∈ kr_kids par0 n0 t ∧ ((kr_M a1 a6 g ky par n i (i + 1)).map (fun k => g (ky k)))[m]'hm = b0 d := fun m hm => by
    obtain ⟨k, hk', e⟩ := List.mem_map.mp (List.getElem_mem hm)
    obtain ⟨d, hd, e1, _⟩ := hMg k hk'
    exact ⟨d, hd, by rw [← e]; exact e1⟩
  have hGnd : ((kr_M a1 a6 g ky par n i (i + 1)).map (fun k => g (ky k))).Nodup := by
    show List.Pairwise _ _
    rw [List.pairwise_map]
    refine List.Pairwise.imp_of_mem ?_ hMpw
    intro k k' h1 h2 h3 e
    have := hMinj k k' h1 h2 e
    omega
  have hGmem : ∀ c, c ∈ (kr_M a1 a6 g ky par n i (i + 1)).map (fun k => g (ky k)) ↔ c ∈ ((kr_kids par0 n0 t).map b0).filter (fun c => !(un c)) := fun c => by
    rw [List.mem_filter, Bool.not_eq_true', hun c, List.mem_map]
    constructor
    · intro ⟨k, h1, h2⟩
      obtain ⟨d, hd, e1, _⟩ := hMg k h1
      exact ⟨List.mem_map.mpr ⟨d, hd, by rw [← e1]; exact h2⟩, k, h1, h2⟩
    · intro ⟨_, h⟩; exact h
  have hlen : ((kr_M a1 a6 g ky par n i (i + 1)).map (fun k => g (ky k))).length = (kr_M a1 a6 g ky par n i (i + 1)).length := List.length_map _
  generalize hGe : (kr_M a1 a6 g ky par n i (i + 1)).map (fun k => g (ky k)) = G at hG hGnd hGmem hlen m5
  have hget : ∀ m (hm : m < G.length), G.getD m 0 = G[m]'hm := fun m hm => by
    rw [List.getD_eq_getElem?_getD, List.getElem?_eq_getElem hm]; rfl
  have h20 : ∀ m, m < G.length → a20' m = nI (G.getD m 0) ∧ G.getD m 0 < 33 ∧ a17' (G.getD m 0) = nI (st (G.getD m 0)) ∧ st (G.getD m 0) < 100 := fun m hm => by
    rw [hget m hm]
    obtain ⟨d, hd, e⟩ := hG m hm
    have h1 := kr_ar_get G 0 m5 m hm
    rw [Nat.zero_add] at h1
    have h2 := i2 (b0 d) (List.mem_map.mpr ⟨d, hd, rfl⟩)
    refine ⟨h1, by rw [e]; exact (hb d (hkids d hd).2).2, by rw [e]; exact h2.1, by rw [e]; have := h2.2.1; omega⟩
  have hlf : ∀ m m', m < G.length → m' < G.length → G.getD m 0 = G.getD m' 0 → m = m' := fun m m' h1 h2 e => by
    rw [hget m h1, hget m' h2] at e
    have hgn : G.Pairwise (fun x y => x ≠ y) := hGnd
    rw [List.pairwise_iff_getElem] at hgn
    rcases Nat.lt_trichotomy m m' with w | w | w
    · exact absurd e (hgn m m' h1 h2 w)
    · exact w
    · exact absurd e.symm (hgn m' m h2 h1 w)
  have h21 : ∀ m, m < G.length → a21i (G.getD m 0) = 0 := fun m hm => by
    rw [hget m hm]
    obtain ⟨d, hd, e⟩ := hG m hm
    rw [e]
    exact (i2 (b0 d) (List.mem_map.mpr ⟨d, hd, rfl⟩)).2.2
  obtain ⟨r, a18', a19', a21', s1, s2, s3, s4⟩ := kt_row (sv := fun m => st (G.getD m 0)) (by omega) h20 hlf h21 a18 a19
  refine ⟨g, un, nI r, gc', mv + nI G.length - nI r, a5', a11', a12', a13', a14', a15', a16', a17', a18', a19', a20', a21', hg, fun d _ => hun (b0 d), fun k h1 h2 h3 => m1 k (by omega) h2 h3, fun k hk' => m2 k (kr_or3 hk' (fun w => by omega)), r1, r2, fun d e u g1 g2 g3 g4 g5 => r3 d e u g1 g2 (by omega) (hkn d g1).1 g3 g4 g5, r4, fun z hz => ?_, ?_, fun hz hM => ?_, ?_⟩
  · rw [s1 z (fun m hm e => hz ?_)]
    · exact i3 z hz
    · rw [e, hget m hm]
      obtain ⟨d, hd, e'⟩ := hG m hm
      rw [e']
      exact List.mem_map.mpr ⟨d, hd, rfl⟩
  · rw [hGe]
    refine kr_sort_eq (st := st) (List.Pairwise.filter _ (List.Pairwise.filter _ i4)) ?_ (fun x => ?_)
    · rw [List.pairwise_filter, List.pairwise_iff_getElem]
      intro m1' m2' h1 h2 h3 h4 h5
      have h4' : ¬ a21' G[m1'] = 0 := by simpa using h4
      have h5' : ¬ a21' G[m2'] = 0 := by simpa using h5
      have := s2 m1' m2' h3 h2 (by rw [hget m1' h1]; exact h4') (by rw [hget m2' h2]; exact h5')
      rw [← hget m1' h1, ← hget m2' h2]
      exact this
    · rw [List.mem_filter, ← hGmem x, List.mem_filter]
  · obtain ⟨t1, t2, t3, t4, t5⟩ := r6 hz
    rw [hGe] at hM
    have hs : ∀ a c, a < c → c < G.length → st (G.getD a 0) < st (G.getD c 0) := fun a c h1 h2 => by
      rw [hget a (by omega), hget c h2]
      have h4 := i4
      rw [← hM, List.pairwise_iff_getElem] at h4
      exact h4 a c (by omega) h2 h1
    obtain ⟨v1, v2⟩ := s3 hs
    refine ⟨t1, ?_, t2, t3, t4, t5, fun d hd => ?_⟩
    · rw [v1, Int32.add_sub_cancel]
    · have hmem : b0 d ∈ G := by rw [hM]; exact List.mem_map.mpr ⟨d, hd, rfl⟩
      obtain ⟨m, hm, e⟩ := List.mem_iff_getElem.mp hmem
      have := v2 m hm
      rw [hget m hm, e] at this
      exact this
  · intro post opn rt nid rs kc a4 a8 a9 a22 a23 H
    have ci := nI_clamp (show i < 2 ^ 31 by omega)
    unfold wpX_matchChildren
    dsimp only
    rw [ci, h14]
    refine ⟨pk_in i 16 (by omega), nm_e ⟨pk_in i 16 (by omega), nm_e (br_f h15 ?_)⟩⟩
    refine i5 _ (nI n) opn rt nid rs kc gc mv a1 a2 a3 a4 a5 a6 a8 a9 a14 a15 a18 a19 a20 a22 a23 ?_
    refine nm_r (nI_1 i) ⟨n - (i + 1) + 1, ?_⟩
    refine m7 post opn rt nid rs kc gc mv a4 a5 a7 a8 a9 a10 a11 a12 a13 a17' a18 a19 a21i a22 a23 _ (by omega) ?_
    refine pk_le n n (fun _ => br_f h15 ?_) (fun z => absurd z (by omega))
    unfold wpX_dropRest
    refine ⟨11, r7 _ (nI n) opn rt nid rs kc mv a1 a2 a3 a4 a6 a7 a8 a9 a14' a15' a17' a18 a19 a20' a21i a22 a23 11 (by omega) (fun o p => ?_)⟩
    rw [Nat.zero_add, ← hlen]
    refine s4 _ (nI n) opn rt nid rs kc gc' mv a1 a2 a3 a4 a5' a6 a7 a8 a9 a10 a11' a12' a13' a14' a15' a16' o p ?_
    exact nm_e (H o p)
end
section
/-- the nodes of the kept children of draft place j, in the draft's order -/
def kr_KL (n : Nat) (par b0 o : Nat → Nat) (a15 : Nat → Int32) (j : Nat) : List Nat := ((kr_kids par n j).filter (fun k => decide (a15 k = 1))).map (fun k => b0 (o k))
theorem kr_mem_KL {n : Nat} {par b0 o : Nat → Nat} {a15 : Nat → Int32} {j x : Nat} : x ∈ kr_KL n par b0 o a15 j ↔ ∃ k, j < k ∧ k < n ∧ par k = j ∧ a15 k = 1 ∧ x = b0 (o k) := by
  unfold kr_KL
  rw [List.mem_map]
  constructor
  · intro ⟨k, h1, h2⟩
    rw [List.mem_filter, kr_mem_kids, decide_eq_true_iff] at h1
    exact ⟨k, h1.1.1, h1.1.2.1, h1.1.2.2, h1.2, h2.symm⟩
  · intro ⟨k, h1, h2, h3, h4, h5⟩
    exact ⟨k, List.mem_filter.mpr ⟨kr_mem_kids.mpr ⟨h1, h2, h3⟩, decide_eq_true h4⟩, h5.symm⟩
theorem kr_KL_congr {n : Nat} {par b0 o o' : Nat → Nat} {a15 a15' : Nat → Int32} {j : Nat} (h : ∀ k, j < k → k < n → par k = j → a15' k = a15 k ∧ o' k = o k) : kr_KL n par b0 o' a15' j = kr_KL n par b0 o a15 j := by
  unfold kr_KL
  have e : (kr_kids par n j).filter (fun k => decide (a15' k = 1)) = (kr_kids par n j).filter (fun k => decide (a15 k = 1)) := by
    apply List.filter_congr
    intro k hk
    have := kr_mem_kids.mp hk
    rw [(h k this.1 this.2.1 this.2.2).1]
  rw [e]
  apply List.map_congr_left
  intro k hk
  have := kr_mem_kids.mp (List.mem_filter.mp hk).1
  rw [(h k this.1 this.2.1 this.2.2).2]
/-- the draft: n places -/
def kr_Dr (n : Nat) (par ky : Nat → Nat) (a2 a3 : Nat → Int32) : Prop :=
  n ≤ 16 ∧ kr_Sh par n ∧ (∀ j, 0 < j → j < n → a3 j = nI (par j) ∧ par j < 16) ∧ (∀ j, j < n → a2 j = nI (ky j) ∧ ky j < 10) ∧ (∀ j k, 0 < j → j < k → k < n → par j = par k → ky j ≠ ky k)
/-- the old tree's shape -/
def kr_Old (n0 : Nat) (par0 b0 kyn : Nat → Nat) : Prop :=
  n0 ≤ 16 ∧ kr_Sh par0 n0 ∧ (∀ u, u < n0 → 0 < b0 u ∧ b0 u < 33) ∧ (∀ u v, u < n0 → v < n0 → b0 u = b0 v → u = v) ∧ (∀ u, u < n0 → (kr_kids par0 n0 u).length ≤ 10) ∧ (∀ u, u < n0 → kyn (b0 u) < 10) ∧ (∀ c d, 0 < c → c < d → d < n0 → par0 c = par0 d → kyn (b0 c) ≠ kyn (b0 d))
/-- showing, i draft places done: V are the old places still as they were, o the old place of a kept draft place, be the node of a draft place -/
def kr_MI (n : Nat) (par : Nat → Nat) (a1 a2 : Nat → Int32) (n0 : Nat) (par0 b0 kyn : Nat → Nat) (i N : Nat) (V : Nat → Prop) (o be : Nat → Nat) (nid : Int32) (a5 a6 a7 a8 a10 a11 a12 a13 a14 a15 a21 : Nat → Int32) : Prop :=
  (∀ j, j < n → (j = 0 ∨ par j < i) → a15 j = 0 ∨ (a15 j = 1 ∧ o j < n0 ∧ a14 j = nI (b0 (o j)) ∧ a6 (b0 (o j)) = a1 j ∧ a7 (b0 (o j)) = a2 j ∧ (j = 0 → o j = 0) ∧ (0 < j → 0 < o j ∧ par0 (o j) = o (par j) ∧ a15 (par j) = 1))) ∧
  (∀ j, j < i → a14 j = nI (be j) ∧ 0 < be j ∧ be j < 33 ∧ a6 (be j) = a1 j ∧ a7 (be j) = a2 j ∧ (a15 j = 1 → be j = b0 (o j))) ∧
  (∀ j k, j < i → k < i → be j = be k → j = k) ∧
  (∀ j k, j < n → k < n → (j = 0 ∨ par j < i) → (k = 0 ∨ par k < i) → a15 j = 1 → a15 k = 1 → o j = o k → j = k) ∧
  (∀ j, i ≤ j → j < n → (j = 0 ∨ par j < i) → a15 j = 1 → V (o j)) ∧
  (∀ j, j < i → a15 j = 1 → ¬ V (o j)) ∧
  (∀ t, V t → t < n0 ∧ (∀ s, s ∈ kr_kids par0 n0 t → V s) ∧ kr_Nd a10 a11 a12 a13 (b0 t) ((kr_kids par0 n0 t).map b0) ∧ a7 (b0 t) = nI (kyn (b0 t))) ∧
  (∀ t, V t → (∃ j, i ≤ j ∧ j < n ∧ (j = 0 ∨ par j < i) ∧ a15 j = 1 ∧ t = o j) ∨ (0 < t ∧ V (par0 t))) ∧
  (∀ x, 0 < x → x < 33 → (¬ a5 x = 0 ↔ ((∃ j, j < i ∧ x = be j) ∨ (∃ t, V t ∧ x = b0 t)))) ∧
  (∀ j t, j < i → V t → be j ≠ b0 t) ∧
  (∀ j, j < i → ∃ L, kr_Nd a10 a11 a12 a13 (be j) L ∧ (∀ x, x ∈ L ↔ x ∈ kr_KL n par b0 o a15 j) ∧ L.filter (fun x => decide (¬ a21 x = 0)) = (kr_KL n par b0 o a15 j).filter (fun x => decide (¬ a21 x = 0))) ∧
  (nid = nI N ∧ (∀ x, 0 < x → x < 33 → ¬ a5 x = 0 → ∃ k, k < N ∧ a8 x = nI k) ∧ (∀ x y, 0 < x → x < 33 → 0 < y → y < 33 → ¬ a5 x = 0 → ¬ a5 y = 0 → a8 x = a8 y → x = y))
/-- a node is free -/
theorem kr_MI_free {n : Nat} {par : Nat → Nat} {a1 a2 : Nat → Int32} {n0 : Nat} {par0 b0 kyn : Nat → Nat} {i N : Nat} {V : Nat → Prop} {o be : Nat → Nat} {nid : Int32} {a5 a6 a7 a8 a10 a11 a12 a13 a14 a15 a21 : Nat → Int32}
    (h : kr_MI n par a1 a2 n0 par0 b0 kyn i N V o be nid a5 a6 a7 a8 a10 a11 a12 a13 a14 a15 a21) (hn0 : n0 ≤ 16) (hi : i < 16) : ∃ k, 0 < k ∧ k < 33 ∧ a5 k = 0 := by
  obtain ⟨_, _, _, _, _, _, m7, _, m9, _⟩ := h
  apply Classical.byContradiction
  intro hc
  have hall : ∀ k, 0 < k → k < 33 → ¬ a5 k = 0 := fun k h1 h2 h3 => hc ⟨k, h1, h2, h3⟩
  have hsub : List.range' 1 32 ⊆ (List.range i).map be ++ (List.range n0).map b0 := by
    intro x hx
    rw [List.mem_range'_1] at hx
    rw [List.mem_append]
    rcases (m9 x (by omega) (by omega)).mp (hall x (by omega) (by omega)) with ⟨j, h1, h2⟩ | ⟨t, h1, h2⟩
    · exact Or.inl (List.mem_map.mpr ⟨j, List.mem_range.mpr h1, h2.symm⟩)
    · exact Or.inr (List.mem_map.mpr ⟨t, List.mem_range.mpr (m7 t h1).1, h2.symm⟩)
  have hl := List.Nodup.length_le_of_subset (List.nodup_range' (s := 1) (n := 32)) hsub
  rw [List.length_append, List.length_map, List.length_map, List.length_range, List.length_range, List.length_range'] at hl
  omega
/-- a part of V -/
theorem kr_V_sub {n0 d e : Nat} {par0 : Nat → Nat} {V : Nat → Prop} (hS : kr_Sh par0 n0) (hc : ∀ t, V t → ∀ s, s ∈ kr_kids par0 n0 t → V s) (hE : kr_En par0 n0 d e) (hd : V d) : ∀ u, d ≤ u → u < e → V u := by
  intro u
  induction u using Nat.strongRecOn with
  | ind u ih =>
    intro h1 h2
    rcases Nat.eq_or_lt_of_le h1 with w | w
    · rw [← w]; exact hd
    · have h3 := hE.2.2.1 u w h2
      have h4 := hE.2.1
      have h5 := hS.1 u (by omega) (by omega)
      exact hc (par0 u) (ih (par0 u) h5 h3 (by omega)) u (kr_mem_kids.mpr ⟨h5, by omega, rfl⟩)
/-- a new node: the showing goes on -/
theorem kr_stepN {n : Nat} {par ky : Nat → Nat} {a1 a2 a3 : Nat → Int32} {n0 : Nat} {par0 b0 kyn : Nat → Nat} {i N x : Nat} {V : Nat → Prop} {o be : Nat → Nat} {nid : Int32} {a5 a6 a7 a8 a10 a11 a12 a13 a14 a15 a21 a14' a15' : Nat → Int32}
    (hD : kr_Dr n par ky a2 a3) (hO : kr_Old n0 par0 b0 kyn) (hi : i < n) (h : kr_MI n par a1 a2 n0 par0 b0 kyn i N V o be nid a5 a6 a7 a8 a10 a11 a12 a13 a14 a15 a21) (h15 : a15 i = 0) (hx0 : 0 < x) (hx1 : x < 33) (hx : a5 x = 0)
    (hN : N < 2 ^ 30) (c1 : ∀ k, i < k → k < n → par k = i → a15' k = 0 ∧ a14' k = 0) (c2 : ∀ k, (k ≤ i ∨ n ≤ k ∨ par k ≠ i) → a15' k = a15 k ∧ a14' k = upd a14 i (nI x) k) :
    kr_MI n par a1 a2 n0 par0 b0 kyn (i + 1) (N + 1) V o (fun j => if j = i then x else be j) (nid + 1) (upd a5 x 1) (upd a6 x (a1 i)) (upd a7 x (a2 i)) (upd a8 x nid) (upd a10 x 0) (upd a11 x 0) a12 a13 a14' a15' a21 := by
  obtain ⟨m1, m2, m3, m4, m5, m6, m7, m8, m9, m10, m11, m12, m13, m14⟩ := h
  obtain ⟨hn, hS, _, _, _⟩ := hD
  -- x is none of the nodes in use
  have xb : ∀ j, j < i → be j ≠ x := fun j hj e => (m9 x hx0 hx1).mpr (Or.inl ⟨j, hj, e.symm⟩) hx
  have xV : ∀ t, V t → b0 t ≠ x := fun t ht e => (m9 x hx0 hx1).mpr (Or.inr ⟨t, ht, e.symm⟩) hx
  have xk : ∀ j, j < n → (j = 0 ∨ par j < i) → a15 j = 1 → b0 (o j) ≠ x := fun j h1 h2 h3 => by
    rcases Nat.lt_or_ge j i with w | w
    · rw [← (m2 j w).2.2.2.2.2 h3]; exact xb j w
    · exact xV (o j) (m5 j w h1 h2 h3)
  -- assigned before, or a child of i
  have hasg : ∀ j, j < n → (j = 0 ∨ par j < i + 1) → (j = 0 ∨ par j < i) ∨ (i < j ∧ par j = i) := fun j h1 h2 => by
    rcases h2 with w | w
    · exact Or.inl (Or.inl w)
    · rcases Nat.eq_zero_or_pos j with z | z
      · exact Or.inl (Or.inl z)
      · have := hS.1 j z h1
        rcases Nat.lt_or_ge (par j) i with v | v
        · exact Or.inl (Or.inr v)
        · exact Or.inr ⟨by omega, by omega⟩
  have hold : ∀ j, (j = 0 ∨ par j < i) → a15' j = a15 j ∧ a14' j = upd a14 i (nI x) j := fun j h1 => by
    refine c2 j ?_
    rcases h1 with w | w
    · exact Or.inl (by omega)
    · exact Or.inr (Or.inr (by omega))
  have hkept : ∀ j, j < n → (j = 0 ∨ par j < i + 1) → a15' j = 1 → (j = 0 ∨ par j < i) ∧ a15 j = 1 ∧ j ≠ i := fun j h1 h2 h3 => by
    rcases hasg j h1 h2 with w | w
    · have e := (hold j w).1
      rw [h3] at e
      refine ⟨w, e.symm, fun z => ?_⟩
      rw [z, h15] at e
      exact absurd e (by decide)
    · rw [(c1 j w.1 h1 w.2).1] at h3
      exact absurd h3 (by decide)
  have hle : ∀ j, j < i → a15' j = a15 j ∧ a14' j = a14 j := fun j hj => by
    have := c2 j (Or.inl (by omega))
    exact ⟨this.1, by rw [this.2]; exact pk_un (by omega)⟩
  refine ⟨fun j h1 h2 => ?_, fun j h1 => ?_, fun j k h1 h2 e => ?_, fun j k h1 h2 h3 h4 h5 h6 h7 => ?_, fun j h1 h2 h3 h4 => ?_, fun j h1 h2 => ?_, fun t ht => ?_, fun t ht => ?_, fun y hy0 hy1 => ?_, fun j t h1 h2 => ?_, fun j h1 => ?_, ?_, ?_, ?_⟩
  · rcases hasg j h1 h2 with w | w
    · rw [(hold j w).1, (hold j w).2]
      rcases m1 j h1 w with z | ⟨z1, z2, z3, z4, z5, z6, z7⟩
      · exact Or.inl z
      · right
        have hne := xk j h1 w z1
        have hji : j ≠ i := fun e => by rw [e, h15] at z1; exact absurd z1 (by decide)
        refine ⟨z1, z2, by rw [pk_un hji]; exact z3, by rw [pk_un hne]; exact z4, by rw [pk_un hne]; exact z5, z6, fun hj => ?_⟩
        obtain ⟨y1, y2, y3⟩ := z7 hj
        refine ⟨y1, y2, ?_⟩
        rcases w with w | w
        · omega
        · rw [(hle (par j) w).1]; exact y3
    · exact Or.inl (c1 j w.1 h1 w.2).1
  · show a14' j = nI (if j = i then x else be j) ∧ 0 < (if j = i then x else be j) ∧ (if j = i then x else be j) < 33 ∧ upd a6 x (a1 i) (if j = i then x else be j) = a1 j ∧ upd a7 x (a2 i) (if j = i then x else be j) = a2 j ∧ (a15' j = 1 → (if j = i then x else be j) = b0 (o j))
    by_cases e : j = i
    · rw [if_pos e]
      have := c2 j (Or.inl (by omega))
      refine ⟨by rw [this.2, e]; exact pk_us, hx0, hx1, by rw [e]; exact pk_us, by rw [e]; exact pk_us, fun z => ?_⟩
      rw [this.1, e, h15] at z
      exact absurd z (by decide)
    · rw [if_neg e]
      have hj : j < i := by omega
      obtain ⟨y1, y2, y3, y4, y5, y6⟩ := m2 j hj
      rw [(hle j hj).1, (hle j hj).2]
      exact ⟨y1, y2, y3, by rw [pk_un (xb j hj)]; exact y4, by rw [pk_un (xb j hj)]; exact y5, y6⟩
  · have e' : (if j = i then x else be j) = (if k = i then x else be k) := e
    by_cases e1 : j = i
    · by_cases e2 : k = i
      · omega
      · rw [if_pos e1, if_neg e2] at e'
        exact absurd e'.symm (xb k (by omega))
    · by_cases e2 : k = i
      · rw [if_neg e1, if_pos e2] at e'
        exact absurd e' (xb j (by omega))
      · rw [if_neg e1, if_neg e2] at e'
        exact m3 j k (by omega) (by omega) e'
  · obtain ⟨y1, y2, _⟩ := hkept j h1 h3 h5
    obtain ⟨z1, z2, _⟩ := hkept k h2 h4 h6
    exact m4 j k h1 h2 y1 z1 y2 z2 h7
  · obtain ⟨y1, y2, _⟩ := hkept j h2 h3 h4
    exact m5 j (by omega) h2 y1 y2
  · rcases Nat.lt_or_ge j i with w | w
    · rw [(hle j w).1] at h2
      exact m6 j w h2
    · have e : j = i := by omega
      rw [(c2 j (Or.inl (by omega))).1, e, h15] at h2
      exact absurd h2 (by decide)
  · obtain ⟨y1, y2, y3, y4⟩ := m7 t ht
    refine ⟨y1, y2, kr_Nd_fr y3 (pk_un (xV t ht)) (fun y hy => ⟨rfl, rfl, ?_⟩), by rw [pk_un (xV t ht)]; exact y4⟩
    obtain ⟨s, hs, rfl⟩ := List.mem_map.mp hy
    exact pk_un (xV s (y2 s hs))
  · rcases m8 t ht with ⟨j, y1, y2, y3, y4, y5⟩ | y
    · left
      have hji : j ≠ i := fun e => by rw [e, h15] at y4; exact absurd y4 (by decide)
      refine ⟨j, by omega, y2, ?_, by rw [(hold j y3).1]; exact y4, y5⟩
      rcases y3 with w | w
      · exact Or.inl w
      · exact Or.inr (by omega)
    · exact Or.inr y
  · by_cases e : y = x
    · constructor
      · intro _
        left
        exact ⟨i, by omega, by show y = if i = i then x else be i; rw [if_pos rfl]; exact e⟩
      · intro _
        rw [e, pk_us]; decide
    · rw [pk_un e, m9 y hy0 hy1]
      constructor
      · rintro (⟨j, h1, h2⟩ | h1)
        · left
          exact ⟨j, by omega, by show y = if j = i then x else be j; rw [if_neg (by omega)]; exact h2⟩
        · exact Or.inr h1
      · rintro (⟨j, h1, h2⟩ | h1)
        · left
          have h2' : y = if j = i then x else be j := h2
          by_cases e2 : j = i
          · rw [if_pos e2] at h2'; exact absurd h2' e
          · rw [if_neg e2] at h2'; exact ⟨j, by omega, h2'⟩
        · exact Or.inr h1
  · show (if j = i then x else be j) ≠ b0 t
    by_cases e : j = i
    · rw [if_pos e]; exact fun w => xV t h2 w.symm
    · rw [if_neg e]; exact m10 j t (by omega) h2
  · show ∃ L, kr_Nd (upd a10 x 0) (upd a11 x 0) a12 a13 (if j = i then x else be j) L ∧ _ ∧ _
    by_cases e : j = i
    · rw [if_pos e]
      have eK : kr_KL n par b0 o a15' j = [] := by
        apply List.eq_nil_iff_forall_not_mem.mpr
        intro y hy
        obtain ⟨k, g1, g2, g3, g4, _⟩ := kr_mem_KL.mp hy
        rw [(c1 k (by omega) g2 (by omega)).1] at g4
        exact absurd g4 (by decide)
      rw [eK]
      exact ⟨[], kr_Nd_nil pk_us, fun _ => Iff.rfl, rfl⟩
    · rw [if_neg e]
      have hj : j < i := by omega
      have eK : kr_KL n par b0 o a15' j = kr_KL n par b0 o a15 j := kr_KL_congr (fun k g1 g2 g3 => ⟨(hold k (Or.inr (by omega))).1, rfl⟩)
      rw [eK]
      obtain ⟨L, l1, l2, l3⟩ := m11 j hj
      refine ⟨L, kr_Nd_fr l1 (pk_un (xb j hj)) (fun y hy => ⟨rfl, rfl, ?_⟩), l2, l3⟩
      obtain ⟨k, g1, g2, g3, g4, g5⟩ := kr_mem_KL.mp ((l2 y).mp hy)
      rw [g5]
      exact pk_un (xk k g2 (Or.inr (by omega)) g4)
  · rw [m12, nI_1]
  · intro y hy0 hy1 hy
    by_cases e : y = x
    · exact ⟨N, by omega, by rw [e, pk_us, m12]⟩
    · rw [pk_un e] at hy
      obtain ⟨k, g1, g2⟩ := m13 y hy0 hy1 hy
      exact ⟨k, by omega, by rw [pk_un e]; exact g2⟩
  · intro y z hy0 hy1 hz0 hz1 hy hz e
    have hNk : ∀ w, 0 < w → w < 33 → ¬ a5 w = 0 → a8 w ≠ nid := fun w g1 g2 g3 g4 => by
      obtain ⟨k, k1, k2⟩ := m13 w g1 g2 g3
      rw [k2, m12] at g4
      have := (nI_eq (by omega) (by omega)).mp g4
      omega
    by_cases e1 : y = x
    · by_cases e2 : z = x
      · rw [e1, e2]
      · rw [e1, pk_us, pk_un e2] at e
        rw [pk_un e2] at hz
        exact absurd e.symm (hNk z hz0 hz1 hz)
    · by_cases e2 : z = x
      · rw [e2, pk_us, pk_un e1] at e
        rw [pk_un e1] at hy
        exact absurd e (hNk y hy0 hy1 hy)
      · rw [pk_un e1] at hy e
        rw [pk_un e2] at hz e
        exact m14 y z hy0 hy1 hz0 hz1 hy hz e
end
section
/-- a kept node: the showing goes on -/
theorem kr_stepK {n : Nat} {par ky : Nat → Nat} {a1 a2 a3 : Nat → Int32} {n0 : Nat} {par0 b0 kyn : Nat → Nat} {i N : Nat} {V : Nat → Prop} {o be g od : Nat → Nat} {un : Nat → Bool} {nid : Int32} {a5 a6 a7 a8 a10 a11 a12 a13 a14 a15 a21 a5' a11' a12' a13' a14' a15' a21' : Nat → Int32}
    (hD : kr_Dr n par ky a2 a3) (hO : kr_Old n0 par0 b0 kyn) (hi : i < n) (h : kr_MI n par a1 a2 n0 par0 b0 kyn i N V o be nid a5 a6 a7 a8 a10 a11 a12 a13 a14 a15 a21) (h15 : a15 i = 1)
    (hod : ∀ y, g y ≠ 0 → od y ∈ kr_kids par0 n0 (o i) ∧ g y = b0 (od y) ∧ kyn (b0 (od y)) = y)
    (hun : ∀ d, d ∈ kr_kids par0 n0 (o i) → (un (b0 d) = false ↔ ∃ k, k ∈ kr_M a1 a6 g ky par n i (i + 1) ∧ g (ky k) = b0 d))
    (c1 : ∀ k, i < k → k < n → par k = i → a15' k = (if g (ky k) ≠ 0 ∧ a6 (g (ky k)) = a1 k then 1 else 0) ∧ a14' k = (if g (ky k) ≠ 0 ∧ a6 (g (ky k)) = a1 k then nI (g (ky k)) else 0))
    (c2 : ∀ k, (k ≤ i ∨ n ≤ k ∨ par k ≠ i) → a15' k = a15 k ∧ a14' k = a14 k)
    (c3 : kr_Nd a10 a11' a12' a13' (b0 (o i)) (((kr_kids par0 n0 (o i)).map b0).filter (fun c => !(un c))))
    (c4 : ∀ q l', q < 33 → q ≠ b0 (o i) → kr_Nd a10 a11 a12 a13 q l' → kr_Nd a10 a11' a12' a13' q l')
    (c5 : ∀ d e u, d ∈ kr_kids par0 n0 (o i) → un (b0 d) = true → kr_En par0 n0 d e → d ≤ u → u < e → a5' (b0 u) = 0)
    (c6 : ∀ z, (∀ d e u, d ∈ kr_kids par0 n0 (o i) → un (b0 d) = true → kr_En par0 n0 d e → d ≤ u → u < e → z ≠ b0 u) → a5' z = a5 z)
    (c7 : ∀ z, z ∉ (kr_kids par0 n0 (o i)).map b0 → a21' z = a21 z)
    (c8 : (((kr_kids par0 n0 (o i)).map b0).filter (fun c => !(un c))).filter (fun c => decide (¬ a21' c = 0)) = ((kr_M a1 a6 g ky par n i (i + 1)).map (fun k => g (ky k))).filter (fun c => decide (¬ a21' c = 0))) :
    kr_MI n par a1 a2 n0 par0 b0 kyn (i + 1) N (fun u => V u ∧ u ≠ o i ∧ ∀ d e, d ∈ kr_kids par0 n0 (o i) → un (b0 d) = true → kr_En par0 n0 d e → ¬ (d ≤ u ∧ u < e)) (fun k => if i < k ∧ par k = i then od (ky k) else o k) (fun j => if j = i then b0 (o i) else be j) nid a5' a6 a7 a8 a10 a11' a12' a13' a14' a15' a21' := by
  obtain ⟨m1, m2, m3, m4, m5, m6, m7, m8, m9, m10, m11, m12, m13, m14⟩ := h
  obtain ⟨hn, hS, _, hky, hdist⟩ := hD
  obtain ⟨hn0, hS0, hb, hinj, _, _, hkyd⟩ := hO
  have hasgi : i = 0 ∨ par i < i := by
    rcases Nat.eq_zero_or_pos i with w | w
    · exact Or.inl w
    · exact Or.inr (hS.1 i w hi)
  have hVt : V (o i) := m5 i (Nat.le_refl i) hi hasgi h15
  obtain ⟨ht, hVk, hNt, _⟩ := m7 (o i) hVt
  have hm1 : o i < n0 ∧ a14 i = nI (b0 (o i)) ∧ a6 (b0 (o i)) = a1 i ∧ a7 (b0 (o i)) = a2 i ∧ (i = 0 → o i = 0) ∧ (0 < i → 0 < o i ∧ par0 (o i) = o (par i) ∧ a15 (par i) = 1) := by
    rcases m1 i hi hasgi with z | z
    · rw [h15] at z; exact absurd z (by decide)
    · exact z.2
  have hVc : ∀ t, V t → ∀ s, s ∈ kr_kids par0 n0 t → V s := fun t ht' => (m7 t ht').2.1
  have hkid : ∀ d, d ∈ kr_kids par0 n0 (o i) → o i < d ∧ d < n0 ∧ par0 d = o i := fun d hd => kr_mem_kids.mp hd
  -- the old parent of the node has gone by
  have hup : ∀ u, V u → o i ∈ kr_kids par0 n0 u → False := fun u hu hk => by
    have hk' := kr_mem_kids.mp hk
    rcases Nat.eq_zero_or_pos i with w | w
    · have := hm1.2.2.2.2.1 w
      omega
    · obtain ⟨_, y2, y3⟩ := hm1.2.2.2.2.2 w
      refine m6 (par i) (hS.1 i w hi) y3 ?_
      rw [← y2, hk'.2.2]
      exact hu
  have hasg : ∀ j, j < n → (j = 0 ∨ par j < i + 1) → (j = 0 ∨ par j < i) ∨ (i < j ∧ par j = i) := fun j h1 h2 => by
    rcases h2 with w | w
    · exact Or.inl (Or.inl w)
    · rcases Nat.eq_zero_or_pos j with z | z
      · exact Or.inl (Or.inl z)
      · have := hS.1 j z h1
        rcases Nat.lt_or_ge (par j) i with v | v
        · exact Or.inl (Or.inr v)
        · exact Or.inr ⟨by omega, by omega⟩
  have hnk : ∀ j, (j = 0 ∨ par j < i) → ¬ (i < j ∧ par j = i) := fun j h1 h2 => by
    rcases h1 with w | w
    · omega
    · omega
  have hold : ∀ j, (j = 0 ∨ par j < i) → a15' j = a15 j ∧ a14' j = a14 j := fun j h1 => by
    refine c2 j ?_
    rcases h1 with w | w
    · exact Or.inl (by omega)
    · exact Or.inr (Or.inr (by omega))
  -- a new kept one
  have hnew : ∀ j, i < j → j < n → par j = i → a15' j = 1 → g (ky j) ≠ 0 ∧ a6 (g (ky j)) = a1 j ∧ a14' j = nI (g (ky j)) ∧ od (ky j) ∈ kr_kids par0 n0 (o i) ∧ g (ky j) = b0 (od (ky j)) ∧ kyn (b0 (od (ky j))) = ky j := fun j h1 h2 h3 h4 => by
    obtain ⟨x1, x2⟩ := c1 j h1 h2 h3
    by_cases hm : g (ky j) ≠ 0 ∧ a6 (g (ky j)) = a1 j
    · rw [if_pos hm] at x2
      obtain ⟨o1, o2, o3⟩ := hod (ky j) hm.1
      exact ⟨hm.1, hm.2, x2, o1, o2, o3⟩
    · rw [if_neg hm] at x1
      rw [x1] at h4
      exact absurd h4 (by decide)
  have holdk : ∀ j, j < n → (j = 0 ∨ par j < i) → a15 j = 1 → ∀ d, d ∈ kr_kids par0 n0 (o i) → o j ≠ d := fun j h1 h2 h3 d hd e => by
    have hd' := hkid d hd
    rcases m1 j h1 h2 with z | ⟨_, _, _, _, _, z6, z7⟩
    · rw [h3] at z; exact absurd z (by decide)
    · rcases Nat.eq_zero_or_pos j with w | w
      · have := z6 w
        omega
      · obtain ⟨_, y2, y3⟩ := z7 w
        have hpj : par j < i := by
          rcases h2 with v | v
          · omega
          · exact v
        rw [e, hd'.2.2] at y2
        have hpn : par j < n := by omega
        have hpa : par j = 0 ∨ par (par j) < i := by
          rcases Nat.eq_zero_or_pos (par j) with v | v
          · exact Or.inl v
          · have := hS.1 (par j) v hpn
            exact Or.inr (by omega)
        have := m4 i (par j) hi hpn hasgi hpa h15 y3 y2
        omega
  -- dropped places
  have hdr : ∀ d e u, d ∈ kr_kids par0 n0 (o i) → kr_En par0 n0 d e → d ≤ u → u < e → V u ∧ u < n0 ∧ o i < u := fun d e u h1 h2 h3 h4 => by
    have h5 := hkid d h1
    have h6 := h2.2.1
    exact ⟨kr_V_sub hS0 hVc h2 (hVk d h1) u h3 h4, by omega, by omega⟩
  have ha5 : ∀ z, ¬ a5' z = 0 → a5' z = a5 z ∧ ∀ d e u, d ∈ kr_kids par0 n0 (o i) → un (b0 d) = true → kr_En par0 n0 d e → d ≤ u → u < e → z ≠ b0 u := fun z hz => by
    have hq : ∀ d e u, d ∈ kr_kids par0 n0 (o i) → un (b0 d) = true → kr_En par0 n0 d e → d ≤ u → u < e → z ≠ b0 u := fun d e u h1 h2 h3 h4 h5 h6 => hz (by rw [h6]; exact c5 d e u h1 h2 h3 h4 h5)
    exact ⟨c6 z hq, hq⟩
  refine ⟨fun j h1 h2 => ?_, fun j h1 => ?_, fun j k h1 h2 e => ?_, fun j k h1 h2 h3 h4 h5 h6 h7 => ?_, fun j h1 h2 h3 h4 => ?_, fun j h1 h2 => ?_, fun u hu => ?_, fun u hu => ?_, fun y hy0 hy1 => ?_, fun j u h1 h2 => ?_, fun j h1 => ?_, m12, ?_, ?_⟩
  · -- m1
    show a15' j = 0 ∨ (a15' j = 1 ∧ (if i < j ∧ par j = i then od (ky j) else o j) < n0 ∧ a14' j = nI (b0 (if i < j ∧ par j = i then od (ky j) else o j)) ∧ a6 (b0 (if i < j ∧ par j = i then od (ky j) else o j)) = a1 j ∧ a7 (b0 (if i < j ∧ par j = i then od (ky j) else o j)) = a2 j ∧ (j = 0 → (if i < j ∧ par j = i then od (ky j) else o j) = 0) ∧ (0 < j → 0 < (if i < j ∧ par j = i then od (ky j) else o j) ∧ par0 (if i < j ∧ par j = i then od (ky j) else o j) = (if i < par j ∧ par (par j) = i then od (ky (par j)) else o (par j)) ∧ a15' (par j) = 1))
    rcases hasg j h1 h2 with w | w
    · rw [if_neg (hnk j w), (hold j w).1, (hold j w).2]
      rcases m1 j h1 w with z | ⟨z1, z2, z3, z4, z5, z6, z7⟩
      · exact Or.inl z
      · right
        refine ⟨z1, z2, z3, z4, z5, z6, fun hj => ?_⟩
        obtain ⟨y1, y2, y3⟩ := z7 hj
        have hpj : par j < i := by
          rcases w with v | v
          · omega
          · exact v
        rw [if_neg (by omega), (c2 (par j) (Or.inl (by omega))).1]
        exact ⟨y1, y2, y3⟩
    · rw [if_pos w]
      obtain ⟨x1, x2⟩ := c1 j w.1 h1 w.2
      by_cases hm : g (ky j) ≠ 0 ∧ a6 (g (ky j)) = a1 j
      · right
        rw [if_pos hm] at x1 x2
        obtain ⟨o1, o2, o3⟩ := hod (ky j) hm.1
        have o4 := hkid _ o1
        refine ⟨x1, o4.2.1, by rw [x2, o2], by rw [← o2]; exact hm.2, ?_, fun z => by omega, fun _ => ⟨by omega, ?_, ?_⟩⟩
        · rw [(m7 _ (hVk _ o1)).2.2.2, o3]; exact (hky j h1).1.symm
        · rw [w.2, if_neg (by omega)]; exact o4.2.2
        · rw [w.2, (c2 i (Or.inl (Nat.le_refl i))).1]; exact h15
      · left
        rw [if_neg hm] at x1
        exact x1
  · -- m2
    show a14' j = nI (if j = i then b0 (o i) else be j) ∧ 0 < (if j = i then b0 (o i) else be j) ∧ (if j = i then b0 (o i) else be j) < 33 ∧ a6 (if j = i then b0 (o i) else be j) = a1 j ∧ a7 (if j = i then b0 (o i) else be j) = a2 j ∧ (a15' j = 1 → (if j = i then b0 (o i) else be j) = b0 (if i < j ∧ par j = i then od (ky j) else o j))
    have hc := c2 j (Or.inl (by omega))
    rw [hc.1, hc.2, if_neg (show ¬ (i < j ∧ par j = i) by omega)]
    by_cases e : j = i
    · rw [if_pos e, e]
      exact ⟨hm1.2.1, (hb _ ht).1, (hb _ ht).2, hm1.2.2.1, hm1.2.2.2.1, fun _ => rfl⟩
    · rw [if_neg e]
      exact m2 j (by omega)
  · have e' : (if j = i then b0 (o i) else be j) = (if k = i then b0 (o i) else be k) := e
    by_cases e1 : j = i
    · by_cases e2 : k = i
      · omega
      · rw [if_pos e1, if_neg e2] at e'
        exact absurd e'.symm (m10 k (o i) (by omega) hVt)
    · by_cases e2 : k = i
      · rw [if_neg e1, if_pos e2] at e'
        exact absurd e' (m10 j (o i) (by omega) hVt)
      · rw [if_neg e1, if_neg e2] at e'
        exact m3 j k (by omega) (by omega) e'
  · -- m4
    have h7' : (if i < j ∧ par j = i then od (ky j) else o j) = (if i < k ∧ par k = i then od (ky k) else o k) := h7
    rcases hasg j h1 h3 with w | w
    · rcases hasg k h2 h4 with v | v
      · rw [if_neg (hnk j w), if_neg (hnk k v)] at h7'
        rw [(hold j w).1] at h5
        rw [(hold k v).1] at h6
        exact m4 j k h1 h2 w v h5 h6 h7'
      · rw [if_neg (hnk j w), if_pos v] at h7'
        rw [(hold j w).1] at h5
        exact absurd h7' (holdk j h1 w h5 _ (hnew k v.1 h2 v.2 h6).2.2.2.1)
    · rcases hasg k h2 h4 with v | v
      · rw [if_pos w, if_neg (hnk k v)] at h7'
        rw [(hold k v).1] at h6
        exact absurd h7'.symm (holdk k h2 v h6 _ (hnew j w.1 h1 w.2 h5).2.2.2.1)
      · rw [if_pos w, if_pos v] at h7'
        have q1 := (hnew j w.1 h1 w.2 h5).2.2.2.2.2
        have q2 := (hnew k v.1 h2 v.2 h6).2.2.2.2.2
        rw [h7', q2] at q1
        rcases Nat.lt_trichotomy j k with z | z | z
        · exact absurd q1.symm (hdist j k (by omega) z h2 (by omega))
        · exact z
        · exact absurd q1 (hdist k j (by omega) z h1 (by omega))
  · -- m5
    show V (if i < j ∧ par j = i then od (ky j) else o j) ∧ (if i < j ∧ par j = i then od (ky j) else o j) ≠ o i ∧ ∀ d e, d ∈ kr_kids par0 n0 (o i) → un (b0 d) = true → kr_En par0 n0 d e → ¬ (d ≤ (if i < j ∧ par j = i then od (ky j) else o j) ∧ (if i < j ∧ par j = i then od (ky j) else o j) < e)
    rcases hasg j h2 h3 with w | w
    · rw [if_neg (hnk j w)]
      rw [(hold j w).1] at h4
      refine ⟨m5 j (by omega) h2 w h4, fun e => ?_, fun d e g1 g2 g3 g4 => ?_⟩
      · have := m4 j i h2 hi w hasgi h4 h15 e
        omega
      · rcases Nat.eq_or_lt_of_le g4.1 with v | v
        · exact holdk j h2 w h4 d g1 v.symm
        · have g5 := g3.2.2.1 (o j) v g4.2
          have g6 := g3.2.1
          have g7 := hS0.1 (o j) (by omega) (by omega)
          have g8 := (hdr d e (par0 (o j)) g1 g3 g5 (by omega)).1
          have hpj : par j < i := by
            rcases w with z | z
            · omega
            · exact z
          rcases m1 j h2 w with z | ⟨_, _, _, _, _, _, z7⟩
          · rw [h4] at z; exact absurd z (by decide)
          · obtain ⟨_, y2, y3⟩ := z7 (by omega)
            rw [y2] at g8
            exact m6 (par j) hpj y3 g8
    · rw [if_pos w]
      obtain ⟨q1, q2, _, q4, q5, _⟩ := hnew j w.1 h2 w.2 h4
      have q7 := hkid _ q4
      refine ⟨hVk _ q4, by omega, fun d e g1 g2 g3 g4 => ?_⟩
      rcases Nat.eq_or_lt_of_le g4.1 with v | v
      · have : un (b0 d) = false := (hun d g1).mpr ⟨j, kr_mem_M.mpr ⟨by omega, h2, w.2, q1, q2⟩, by rw [q5, v]⟩
        rw [this] at g2
        exact absurd g2 (by decide)
      · have g5 := g3.2.2.1 _ v g4.2
        have g6 := hkid d g1
        omega
  · -- m6
    have hc := c2 j (Or.inl (by omega))
    rw [hc.1] at h2
    show ¬ (V (if i < j ∧ par j = i then od (ky j) else o j) ∧ (if i < j ∧ par j = i then od (ky j) else o j) ≠ o i ∧ _)
    rw [if_neg (show ¬ (i < j ∧ par j = i) by omega)]
    intro hv
    by_cases e : j = i
    · exact hv.2.1 (by rw [e])
    · exact m6 j (by omega) h2 hv.1
  · -- m7
    obtain ⟨hu1, hu2, hu3⟩ := hu
    obtain ⟨y1, y2, y3, y4⟩ := m7 u hu1
    refine ⟨y1, fun s hs => ⟨y2 s hs, fun e => ?_, fun d e g1 g2 g3 g4 => ?_⟩, c4 (b0 u) _ (hb u y1).2 (fun e => hu2 (hinj u (o i) y1 ht e)) y3, y4⟩
    · rw [e] at hs
      exact hup u hu1 hs
    · have hs' := kr_mem_kids.mp hs
      rcases Nat.eq_or_lt_of_le g4.1 with v | v
      · have := hkid d g1
        rw [v, hs'.2.2] at this
        exact hu2 this.2.2
      · have g5 := g3.2.2.1 s v g4.2
        rw [hs'.2.2] at g5
        exact hu3 d e g1 g2 g3 ⟨g5, by omega⟩
  · -- m8
    obtain ⟨hu1, hu2, hu3⟩ := hu
    rcases m8 u hu1 with ⟨j, y1, y2, y3, y4, y5⟩ | ⟨y1, y2⟩
    · left
      have hji : j ≠ i := fun e => hu2 (by rw [y5, e])
      refine ⟨j, by omega, y2, ?_, by rw [(hold j y3).1]; exact y4, ?_⟩
      · rcases y3 with w | w
        · exact Or.inl w
        · exact Or.inr (by omega)
      · show u = if i < j ∧ par j = i then od (ky j) else o j
        rw [if_neg (hnk j y3)]; exact y5
    · have hun0 := (m7 u hu1).1
      have hpu := hS0.1 u y1 hun0
      by_cases e : par0 u = o i
      · left
        have hk : u ∈ kr_kids par0 n0 (o i) := kr_mem_kids.mpr ⟨by omega, hun0, e⟩
        obtain ⟨eu, hE⟩ := kr_en_ex par0 n0 u hun0
        have hf : un (b0 u) = false := by
          cases hz : un (b0 u) with
          | false => rfl
          | true => exact absurd ⟨Nat.le_refl u, hE.1⟩ (hu3 u eu hk hz hE)
        obtain ⟨k, k1, k2⟩ := (hun u hk).mp hf
        obtain ⟨k3, k4, k5, k6, k7⟩ := kr_mem_M.mp k1
        obtain ⟨x1, _⟩ := c1 k (by omega) k4 k5
        rw [if_pos ⟨k6, k7⟩] at x1
        obtain ⟨o1, o2, _⟩ := hod (ky k) k6
        refine ⟨k, by omega, k4, Or.inr (by omega), x1, ?_⟩
        show u = if i < k ∧ par k = i then od (ky k) else o k
        rw [if_pos ⟨by omega, k5⟩]
        exact hinj u _ hun0 (hkid _ o1).2.1 (by rw [← k2, o2])
      · right
        refine ⟨y1, y2, e, fun d e' g1 g2 g3 g4 => hu3 d e' g1 g2 g3 ⟨by omega, ?_⟩⟩
        exact kr_en_kid hS0 g3 g4.1 g4.2 hpu hun0 rfl
  · -- m9
    constructor
    · intro hy
      obtain ⟨q1, q2⟩ := ha5 y hy
      rw [q1] at hy
      rcases (m9 y hy0 hy1).mp hy with ⟨j, h1, h2⟩ | ⟨u, h1, h2⟩
      · left
        exact ⟨j, by omega, by show y = if j = i then b0 (o i) else be j; rw [if_neg (by omega)]; exact h2⟩
      · by_cases e : u = o i
        · left
          exact ⟨i, by omega, by show y = if i = i then b0 (o i) else be i; rw [if_pos rfl, h2, e]⟩
        · right
          exact ⟨u, ⟨h1, e, fun d e' g1 g2 g3 g4 => q2 d e' u g1 g2 g3 g4.1 g4.2 h2⟩, h2⟩
    · intro hy
      have hq : (∀ d e u, d ∈ kr_kids par0 n0 (o i) → un (b0 d) = true → kr_En par0 n0 d e → d ≤ u → u < e → y ≠ b0 u) ∧ ¬ a5 y = 0 := by
        rcases hy with ⟨j, h1, h2⟩ | ⟨u, h1, h2⟩
        · have h2' : y = if j = i then b0 (o i) else be j := h2
          by_cases e : j = i
          · rw [if_pos e] at h2'
            refine ⟨fun d e' u g1 g2 g3 g4 g5 g6 => ?_, (m9 y hy0 hy1).mpr (Or.inr ⟨o i, hVt, h2'⟩)⟩
            have q := hdr d e' u g1 g3 g4 g5
            have := hinj (o i) u ht q.2.1 (by rw [← h2', g6])
            omega
          · rw [if_neg e] at h2'
            refine ⟨fun d e' u g1 g2 g3 g4 g5 g6 => ?_, (m9 y hy0 hy1).mpr (Or.inl ⟨j, by omega, h2'⟩)⟩
            have q := hdr d e' u g1 g3 g4 g5
            exact m10 j u (by omega) q.1 (by rw [← h2', g6])
        · refine ⟨fun d e' u' g1 g2 g3 g4 g5 g6 => ?_, (m9 y hy0 hy1).mpr (Or.inr ⟨u, h1.1, h2⟩)⟩
          have q := hdr d e' u' g1 g3 g4 g5
          have := hinj u u' (m7 u h1.1).1 q.2.1 (by rw [← h2, g6])
          subst this
          exact h1.2.2 d e' g1 g2 g3 ⟨g4, g5⟩
      rw [c6 y hq.1]
      exact hq.2
  · show (if j = i then b0 (o i) else be j) ≠ b0 u
    by_cases e : j = i
    · rw [if_pos e]; exact fun w => h2.2.1 (hinj (o i) u ht (m7 u h2.1).1 w).symm
    · rw [if_neg e]; exact m10 j u (by omega) h2.1
  · -- m11
    show ∃ L, kr_Nd a10 a11' a12' a13' (if j = i then b0 (o i) else be j) L ∧ _ ∧ _
    by_cases e : j = i
    · rw [if_pos e]
      have eK : kr_KL n par b0 (fun k => if i < k ∧ par k = i then od (ky k) else o k) a15' j = (kr_M a1 a6 g ky par n i (i + 1)).map (fun k => g (ky k)) := by
        rw [e]
        unfold kr_KL
        have eM : kr_M a1 a6 g ky par n i (i + 1) = (kr_kids par n i).filter (fun k => decide (a15' k = 1)) := by
          unfold kr_M kr_kids
          rw [List.filter_filter]
          apply List.filter_congr
          intro k hk
          rw [List.mem_range'_1] at hk
          by_cases hp : par k = i
          · have x1 := (c1 k (by omega) (by omega) hp).1
            unfold kr_mt
            by_cases hm : g (ky k) ≠ 0 ∧ a6 (g (ky k)) = a1 k
            · rw [if_pos hm] at x1
              rw [decide_eq_true hm, x1, hp]
              simp
            · rw [if_neg hm] at x1
              rw [decide_eq_false hm, x1]
              simp
          · have : (par k == i) = false := by simpa using hp
            rw [this, Bool.false_and, Bool.and_false]
        rw [eM]
        apply List.map_congr_left
        intro k hk
        have hk' := List.mem_filter.mp hk
        have hk2 := kr_mem_kids.mp hk'.1
        have hk3 : a15' k = 1 := by simpa using hk'.2
        show b0 (if i < k ∧ par k = i then od (ky k) else o k) = g (ky k)
        rw [if_pos ⟨hk2.1, hk2.2.2⟩]
        exact (hnew k hk2.1 hk2.2.1 hk2.2.2 hk3).2.2.2.2.1.symm
      rw [eK]
      refine ⟨_, c3, fun x => ?_, c8⟩
      rw [List.mem_filter, Bool.not_eq_true', List.mem_map, List.mem_map]
      constructor
      · intro ⟨⟨d, hd, e1⟩, hx⟩
        rw [← e1] at hx ⊢
        obtain ⟨k, k1, k2⟩ := (hun d hd).mp hx
        exact ⟨k, k1, k2⟩
      · intro ⟨k, k1, k2⟩
        obtain ⟨o1, o2, _⟩ := hod (ky k) (kr_mem_M.mp k1).2.2.2.1
        refine ⟨⟨od (ky k), o1, by rw [← o2]; exact k2⟩, ?_⟩
        rw [← k2, o2]
        exact (hun _ o1).mpr ⟨k, k1, o2⟩
    · rw [if_neg e]
      have hj : j < i := by omega
      have eK : kr_KL n par b0 (fun k => if i < k ∧ par k = i then od (ky k) else o k) a15' j = kr_KL n par b0 o a15 j := kr_KL_congr (fun k g1 g2 g3 => ⟨(hold k (Or.inr (by omega))).1, by show (if i < k ∧ par k = i then od (ky k) else o k) = o k; rw [if_neg (by omega)]⟩)
      rw [eK]
      obtain ⟨L, l1, l2, l3⟩ := m11 j hj
      have hsame : ∀ x, x ∈ kr_KL n par b0 o a15 j → a21' x = a21 x := fun x hx => by
        refine c7 x (fun hx2 => ?_)
        obtain ⟨k, g1, g2, g3, g4, g5⟩ := kr_mem_KL.mp hx
        obtain ⟨d, hd, e1⟩ := List.mem_map.mp hx2
        have hka : k = 0 ∨ par k < i := Or.inr (by omega)
        have hok : o k < n0 := by
          rcases m1 k g2 hka with z | z
          · rw [g4] at z; exact absurd z (by decide)
          · exact z.2.1
        exact holdk k g2 hka g4 d hd (hinj _ _ hok (hkid d hd).2.1 (by rw [← g5, e1]))
      refine ⟨L, c4 (be j) L (m2 j hj).2.2.1 (m10 j (o i) hj hVt) l1, l2, ?_⟩
      have f1 : L.filter (fun x => decide (¬ a21' x = 0)) = L.filter (fun x => decide (¬ a21 x = 0)) := by
        apply List.filter_congr
        intro x hx
        rw [hsame x ((l2 x).mp hx)]
      have f2 : (kr_KL n par b0 o a15 j).filter (fun x => decide (¬ a21' x = 0)) = (kr_KL n par b0 o a15 j).filter (fun x => decide (¬ a21 x = 0)) := by
        apply List.filter_congr
        intro x hx
        rw [hsame x hx]
      rw [f1, f2]
      exact l3
  · intro y hy0 hy1 hy
    have := (ha5 y hy).1
    rw [this] at hy
    exact m13 y hy0 hy1 hy
  · intro y z hy0 hy1 hz0 hz1 hy hz e
    rw [(ha5 y hy).1] at hy
    rw [(ha5 z hz).1] at hz
    exact m14 y z hy0 hy1 hz0 hz1 hy hz e
end
section
theorem kr_uniq {s : Nat} : ∀ (P P' Q Q' : List Nat), P ++ s :: Q = P' ++ s :: Q' → (P ++ s :: Q).Nodup → P = P' ∧ Q = Q' := by
  intro P
  induction P with
  | nil =>
    intro P' Q Q' e hnd
    cases P' with
    | nil => exact ⟨rfl, (List.cons.inj e).2⟩
    | cons a P' =>
      have e' := List.cons.inj e
      have h := (List.nodup_cons.mp hnd).1
      rw [e'.2] at h
      exact absurd (by simp) h
  | cons a P ih =>
    intro P' Q Q' e hnd
    cases P' with
    | nil =>
      have e' := List.cons.inj e
      have h := (List.nodup_cons.mp hnd).1
      rw [e'.1] at h
      exact absurd (by simp) h
    | cons b P' =>
      have e' := List.cons.inj e
      obtain ⟨h1, h2⟩ := ih P' Q Q' e'.2 (List.nodup_cons.mp hnd).2
      exact ⟨by rw [e'.1, h1], h2⟩
theorem kr_place {dn rest L1 : List Nat} {f : Nat → Bool} (hnd : L1.Nodup) (hf : L1.filter f = dn ++ rest) : ∃ C D, L1 = C ++ D ∧ C.getLastD 0 = dn.getLastD 0 ∧ C.filter f = dn ∧ D.filter f = rest := by
  rcases kr_snoc dn with e | ⟨dn0, s, e⟩
  · refine ⟨[], L1, rfl, by rw [e], by rw [e]; rfl, ?_⟩
    rw [hf, e]; rfl
  · have hs : s ∈ L1.filter f := by rw [hf, e]; simp
    have hs1 := List.mem_filter.mp hs
    obtain ⟨C, D, eL⟩ := List.append_of_mem hs1.1
    have hfn : (L1.filter f).Nodup := List.Pairwise.filter _ hnd
    have h1 : L1.filter f = C.filter f ++ s :: D.filter f := by
      rw [eL, List.filter_append, List.filter_cons_of_pos hs1.2]
    have h2 : L1.filter f = dn0 ++ s :: rest := by rw [hf, e]; simp
    obtain ⟨g1, g2⟩ := kr_uniq (C.filter f) dn0 (D.filter f) rest (by rw [← h1, h2]) (by rw [← h1]; exact hfn)
    refine ⟨C ++ [s], D, by rw [eL]; simp, by rw [e, List.getLastD_concat, List.getLastD_concat], ?_, g2⟩
    rw [List.filter_append, g1, List.filter_cons_of_pos hs1.2, e]
    rfl
/-- the children arranged so far -/
def kr_dn (par be : Nat → Nat) (i j : Nat) : List Nat := ((List.range' (i + 1) (j - (i + 1))).filter (fun k => par k == i)).map be
/-- the children that stay, from j on -/
def kr_sy (n : Nat) (par be : Nat → Nat) (a15 a21 : Nat → Int32) (i j : Nat) : List Nat := ((List.range' j (n - j)).filter (fun k => par k == i && decide (a15 k = 1 ∧ ¬ a21 (be k) = 0))).map be
theorem kr_dn_next {par be : Nat → Nat} {i j : Nat} (h : i < j) : kr_dn par be i (j + 1) = if par j = i then kr_dn par be i j ++ [be j] else kr_dn par be i j := by
  unfold kr_dn
  rw [show j + 1 - (i + 1) = (j - (i + 1)) + 1 by omega, List.range'_1_concat, List.filter_append, List.map_append, show i + 1 + (j - (i + 1)) = j by omega]
  by_cases e : par j = i
  · rw [if_pos e, List.filter_cons_of_pos (by simpa using e)]; rfl
  · rw [if_neg e, List.filter_cons_of_neg (by simpa using e)]; simp
theorem kr_mem_dn {par be : Nat → Nat} {i j x : Nat} : x ∈ kr_dn par be i j ↔ ∃ k, i < k ∧ k < j ∧ par k = i ∧ x = be k := by
  unfold kr_dn
  rw [List.mem_map]
  constructor
  · intro ⟨k, h1, h2⟩
    rw [List.mem_filter, List.mem_range'_1, beq_iff_eq] at h1
    exact ⟨k, by omega, by omega, h1.2, h2.symm⟩
  · intro ⟨k, h1, h2, h3, h4⟩
    exact ⟨k, List.mem_filter.mpr ⟨List.mem_range'_1.mpr ⟨by omega, by omega⟩, by simpa using h3⟩, h4.symm⟩
theorem kr_sy_next {n : Nat} {par be : Nat → Nat} {a15 a21 : Nat → Int32} {i j : Nat} (h : j < n) : kr_sy n par be a15 a21 i j = if par j = i ∧ (a15 j = 1 ∧ ¬ a21 (be j) = 0) then be j :: kr_sy n par be a15 a21 i (j + 1) else kr_sy n par be a15 a21 i (j + 1) := by
  unfold kr_sy
  rw [show n - j = (n - (j + 1)) + 1 by omega, List.range'_succ]
  by_cases e : par j = i ∧ (a15 j = 1 ∧ ¬ a21 (be j) = 0)
  · rw [if_pos e, List.filter_cons_of_pos (by rw [Bool.and_eq_true, beq_iff_eq, decide_eq_true_iff]; exact e)]; rfl
  · rw [if_neg e, List.filter_cons_of_neg (by rw [Bool.and_eq_true, beq_iff_eq, decide_eq_true_iff]; exact e)]
/-- arranged so far, or staying -/
def kr_f (dn : List Nat) (a21 : Nat → Int32) (x : Nat) : Bool := decide (x ∈ dn ∨ ¬ a21 x = 0)
/-- the children of the node of draft place i when those below j are arranged -/
def kr_AJ (n : Nat) (par be : Nat → Nat) (a15 a21 : Nat → Int32) (i j : Nat) (L : List Nat) : Prop :=
  (∀ x, x ∈ L ↔ (x ∈ kr_dn par be i j ∨ ∃ k, j ≤ k ∧ k < n ∧ par k = i ∧ a15 k = 1 ∧ x = be k)) ∧ L.filter (kr_f (kr_dn par be i j) a21) = kr_dn par be i j ++ kr_sy n par be a15 a21 i j
/-- the next one is linked in behind the last -/
theorem kr_AJ_link {n : Nat} {par be : Nat → Nat} {a15 a21 : Nat → Int32} {i j : Nat} {L1 : List Nat} (hij : i < j) (hjn : j < n) (hbe : ∀ a b, a < n → b < n → be a = be b → a = b) (hp : par j = i) (hs : ¬ (a15 j = 1 ∧ ¬ a21 (be j) = 0)) (hnd : L1.Nodup) (hc : be j ∉ L1)
    (h1 : ∀ x, x ∈ L1 ↔ (x ∈ kr_dn par be i j ∨ ∃ k, j + 1 ≤ k ∧ k < n ∧ par k = i ∧ a15 k = 1 ∧ x = be k)) (h2 : L1.filter (kr_f (kr_dn par be i j) a21) = kr_dn par be i j ++ kr_sy n par be a15 a21 i j) :
    ∃ C D, L1 = C ++ D ∧ C.getLastD 0 = (kr_dn par be i j).getLastD 0 ∧ kr_AJ n par be a15 a21 i (j + 1) (C ++ be j :: D) := by
  obtain ⟨C, D, e1, e2, e3, e4⟩ := kr_place hnd h2
  refine ⟨C, D, e1, e2, ?_, ?_⟩
  · intro x
    rw [kr_dn_next hij, if_pos hp, List.mem_append (s := kr_dn par be i j), List.mem_singleton]
    have h3 := h1 x
    rw [e1] at h3
    rw [List.mem_append] at h3 ⊢
    rw [List.mem_cons]
    constructor
    · rintro (z | z | z)
      · rcases h3.mp (Or.inl z) with w | w
        · exact Or.inl (Or.inl w)
        · exact Or.inr w
      · exact Or.inl (Or.inr z)
      · rcases h3.mp (Or.inr z) with w | w
        · exact Or.inl (Or.inl w)
        · exact Or.inr w
    · rintro ((z | z) | z)
      · rcases h3.mpr (Or.inl z) with w | w
        · exact Or.inl w
        · exact Or.inr (Or.inr w)
      · exact Or.inr (Or.inl z)
      · rcases h3.mpr (Or.inr z) with w | w
        · exact Or.inl w
        · exact Or.inr (Or.inr w)
  · have hf : ∀ x, x ∈ L1 → kr_f (kr_dn par be i (j + 1)) a21 x = kr_f (kr_dn par be i j) a21 x := fun x hx => by
      have hne : x ≠ be j := fun z => hc (z ▸ hx)
      unfold kr_f
      rw [kr_dn_next hij, if_pos hp, decide_eq_decide, List.mem_append, List.mem_singleton]
      constructor
      · rintro ((z | z) | z)
        · exact Or.inl z
        · exact absurd z hne
        · exact Or.inr z
      · rintro (z | z)
        · exact Or.inl (Or.inl z)
        · exact Or.inr z
    have fC : C.filter (kr_f (kr_dn par be i (j + 1)) a21) = kr_dn par be i j := by
      rw [← e3]
      apply List.filter_congr
      intro x hx
      exact hf x (by rw [e1]; exact List.mem_append.mpr (Or.inl hx))
    have fD : D.filter (kr_f (kr_dn par be i (j + 1)) a21) = kr_sy n par be a15 a21 i j := by
      rw [← e4]
      apply List.filter_congr
      intro x hx
      exact hf x (by rw [e1]; exact List.mem_append.mpr (Or.inr hx))
    have fc : kr_f (kr_dn par be i (j + 1)) a21 (be j) = true := by
      unfold kr_f
      rw [decide_eq_true_iff]
      left
      exact kr_mem_dn.mpr ⟨j, hij, by omega, hp, rfl⟩
    rw [List.filter_append, List.filter_cons_of_pos fc, fC, fD, kr_sy_next hjn, if_neg (fun z => hs z.2), kr_dn_next hij, if_pos hp]
    simp
theorem kt_arr80 {post : St1 → Prop} {J : Int32 → Int32 → Int32 → Int32 → Int32 → Int32 → Int32 → Int32 → Int32 → Int32 → (Nat → Int32) → (Nat → Int32) → (Nat → Int32) → (Nat → Int32) → (Nat → Int32) → (Nat → Int32) → (Nat → Int32) → (Nat → Int32) → (Nat → Int32) → (Nat → Int32) → (Nat → Int32) → (Nat → Int32) → (Nat → Int32) → (Nat → Int32) → (Nat → Int32) → (Nat → Int32) → (Nat → Int32) → (Nat → Int32) → (Nat → Int32) → (Nat → Int32) → (Nat → Int32) → (Nat → Int32) → (Nat → Int32) → Prop} {x1 x2 x3 x5 : Int32} {dr opn rt nid rs kc gc mv : Int32} {a1 a2 a3 a4 a5 a6 a7 a8 a9 a10 a11 a12 a13 a14 a15 a16 a17 a18 a19 a20 a21 a22 a23 : Nat → Int32} {j : Nat} (hj : j < 16) (h15 : ¬ a15 j = 0)
    (H : J x5 (nI (j + 1)) dr opn rt nid rs kc gc mv a1 a2 a3 a4 a5 a6 a7 a8 a9 a10 a11 a12 a13 a14 a15 a16 a17 a18 a19 a20 a21 a22 a23) : wX_arrange_80 post J x1 x2 x3 (nI j) x5 dr opn rt nid rs kc gc mv a1 a2 a3 a4 a5 a6 a7 a8 a9 a10 a11 a12 a13 a14 a15 a16 a17 a18 a19 a20 a21 a22 a23 := by
  unfold wX_arrange_80
  rw [nI_clamp (show j < 2 ^ 31 by omega)]
  exact ⟨pk_in j 16 hj, br_f h15 (nm_r (nI_1 j) H)⟩
theorem kt_arr {a3 a14 a15 a21 : Nat → Int32} {n i : Nat} {par be : Nat → Nat} (hn : n ≤ 16) (hi : i < n) (hbe : ∀ a b, a < n → b < n → be a = be b → a = b) (hb : ∀ j, j < n → 0 < be j ∧ be j < 33 ∧ a14 j = nI (be j) ∧ (a15 j = 0 ∨ a15 j = 1)) (hpar : ∀ j, 0 < j → j < n → a3 j = nI (par j) ∧ par j < 16) :
    ∀ (r j : Nat) (a10 a11 a12 a13 : Nat → Int32) (L : List Nat), n - j = r → i < j → j ≤ n → kr_Nd a10 a11 a12 a13 (be i) L → kr_AJ n par be a15 a21 i j L →
    ∃ a10' a11' a12' a13' : Nat → Int32, kr_Nd a10' a11' a12' a13' (be i) ((kr_kids par n i).map be) ∧
      (∀ q l', q < 33 → q ≠ be i → (∀ k, i < k → k < n → par k = i → be k ∉ l') → kr_Nd a10 a11 a12 a13 q l' → kr_Nd a10' a11' a12' a13' q l') ∧
      (∀ z, (∀ k, i < k → k < n → par k = i → z ≠ be k) → a10' z = a10 z) ∧
      ((∀ k, j ≤ k → k < n → par k = i → a15 k = 1 ∧ ¬ a21 (be k) = 0) → a10' = a10 ∧ a11' = a11 ∧ a12' = a12 ∧ a13' = a13) ∧
      ∀ (post : St1 → Prop) (opn rt nid rs kc gc mv : Int32) (a1 a2 a4 a5 a6 a7 a8 a9 a16 a17 a18 a19 a20 a22 a23 : Nat → Int32) (f : Nat), n - j < f → post (nI n, opn, rt, nid, rs, kc, gc, mv, a1, a2, a3, a4, a5, a6, a7, a8, a9, a10', a11', a12', a13', a14, a15, a16, a17, a18, a19, a20, a21, a22, a23) → wX_arrange_14 post (nI i) (nI (be i)) f (nI ((kr_dn par be i j).getLastD 0)) (nI j) (nI n) opn rt nid rs kc gc mv a1 a2 a3 a4 a5 a6 a7 a8 a9 a10 a11 a12 a13 a14 a15 a16 a17 a18 a19 a20 a21 a22 a23 := by
  intro r
  induction r with
  | zero =>
    intro j a10 a11 a12 a13 L hr hij hjn hN hA
    have e : j = n := by omega
    subst e
    have eL : L = (kr_kids par j i).map be := by
      have h1 : L.filter (kr_f (kr_dn par be i j) a21) = L := by
        rw [List.filter_eq_self]
        intro x hx
        rcases (hA.1 x).mp hx with z | ⟨k, z1, z2, _⟩
        · unfold kr_f; rw [decide_eq_true_iff]; exact Or.inl z
        · omega
      rw [← h1, hA.2]
      have h2 : kr_sy j par be a15 a21 i j = [] := by unfold kr_sy; rw [Nat.sub_self]; rfl
      rw [h2, List.append_nil]
      rfl
    rw [eL] at hN
    refine ⟨a10, a11, a12, a13, hN, fun _ _ _ _ _ h => h, fun _ _ => rfl, fun _ => ⟨rfl, rfl, rfl, rfl⟩, ?_⟩
    intro post opn rt nid rs kc gc mv a1 a2 a4 a5 a6 a7 a8 a9 a16 a17 a18 a19 a20 a22 a23 f hf H
    obtain ⟨f, rfl⟩ : ∃ g, f = g + 1 := ⟨f - 1, by omega⟩
    exact pk_le j j (fun _ => H) (fun z => absurd z (by omega))
  | succ r ih =>
    intro j a10 a11 a12 a13 L hr hij hjn hN hA
    have hj : j < n := by omega
    have cj := nI_clamp (show j < 2 ^ 31 by omega)
    have hp3 := hpar j (by omega) hj
    obtain ⟨b1, b2, b3, b4⟩ := hb j hj
    have cb := nI_clamp (show be j < 2 ^ 31 by omega)
    obtain ⟨_, i2, _, _⟩ := hb i hi
    by_cases hp : par j = i
    · have e3 : a3 (nI j).toNatClampNeg = nI i := by rw [cj, hp3.1, hp]
      have e14 : a14 (nI j).toNatClampNeg = nI (be j) := by rw [cj]; exact b3
      have edn : (kr_dn par be i (j + 1)).getLastD 0 = be j := by rw [kr_dn_next hij, if_pos hp, List.getLastD_concat]
      have hL1 : ∀ x, (x ∈ kr_dn par be i j ∨ ∃ k, j ≤ k ∧ k < n ∧ par k = i ∧ a15 k = 1 ∧ x = be k) ↔ ((a15 j = 1 ∧ x = be j) ∨ (x ∈ kr_dn par be i j ∨ ∃ k, j + 1 ≤ k ∧ k < n ∧ par k = i ∧ a15 k = 1 ∧ x = be k)) := fun x => by
        constructor
        · rintro (z | ⟨k, k1, k2, k3, k4, k5⟩)
          · exact Or.inr (Or.inl z)
          · rcases Nat.eq_or_lt_of_le k1 with w | w
            · subst w; exact Or.inl ⟨k4, k5⟩
            · exact Or.inr (Or.inr ⟨k, w, k2, k3, k4, k5⟩)
        · rintro (⟨z1, z2⟩ | z | ⟨k, k1, k2, k3, k4, k5⟩)
          · exact Or.inr ⟨j, Nat.le_refl j, hj, hp, z1, z2⟩
          · exact Or.inl z
          · exact Or.inr ⟨k, by omega, k2, k3, k4, k5⟩
      have hnew : ∀ x, (x ∈ kr_dn par be i j ∨ ∃ k, j + 1 ≤ k ∧ k < n ∧ par k = i ∧ a15 k = 1 ∧ x = be k) → x ≠ be j := fun x hx e => by
        rcases hx with z | ⟨k, k1, k2, _, _, k5⟩
        · obtain ⟨k, k1, k2, _, k5⟩ := kr_mem_dn.mp z
          have := hbe k j (by omega) hj (by rw [← k5, e])
          omega
        · have := hbe k j k2 hj (by rw [← k5, e])
          omega
      rcases b4 with h15 | h15
      · -- a new node: link it in
        have hs : ¬ (a15 j = 1 ∧ ¬ a21 (be j) = 0) := fun z => by rw [h15] at z; exact absurd z.1 (by decide)
        have hm : ∀ x, x ∈ L ↔ (x ∈ kr_dn par be i j ∨ ∃ k, j + 1 ≤ k ∧ k < n ∧ par k = i ∧ a15 k = 1 ∧ x = be k) := fun x => by
          rw [hA.1 x, hL1 x]
          constructor
          · rintro (z | z)
            · rw [h15] at z; exact absurd z.1 (by decide)
            · exact z
          · exact Or.inr
        have hcL : be j ∉ L := fun z => hnew _ ((hm _).mp z) rfl
        obtain ⟨C, D, e1, e2, hA'⟩ := kr_AJ_link hij hj hbe hp hs hN.2.2.2 hcL hm hA.2
        rw [e1] at hN hcL
        obtain ⟨k1, k2⟩ := kr_lnk hN i2 hcL b1 b2
        obtain ⟨a10', a11', a12', a13', q1, q2, q3, q4, q5⟩ := ih (j + 1) _ _ _ _ _ (by omega) (by omega) (by omega) k1 hA'
        refine ⟨a10', a11', a12', a13', q1, fun q l' g1 g2 g3 g4 => q2 q l' g1 g2 g3 (k2 q l' g1 g2 (g3 j hij hj hp) g4), fun z hz => ?_, fun hz => ?_, ?_⟩
        · rw [q3 z hz]; exact pk_un (hz j hij hj hp)
        · exact absurd (hz j (Nat.le_refl j) hj hp).1 (by rw [h15]; decide)
        · intro post opn rt nid rs kc gc mv a1 a2 a4 a5 a6 a7 a8 a9 a16 a17 a18 a19 a20 a22 a23 f hf H
          obtain ⟨f, rfl⟩ : ∃ g, f = g + 1 := ⟨f - 1, by omega⟩
          have h7 := q5 post opn rt nid rs kc gc mv a1 a2 a4 a5 a6 a7 a8 a9 a16 a17 a18 a19 a20 a22 a23 f (by omega) H
          rw [edn] at h7
          refine pk_le n j (fun z => absurd z (by omega)) (fun _ => ⟨pk_in j 16 (by omega), br_t e3 ⟨pk_in j 16 (by omega), nm_r e14 ⟨pk_in j 16 (by omega), br_t (by rw [cj]; exact h15) ?_⟩⟩⟩)
          unfold wX_arrange_80
          refine ⟨pk_in j 16 (by omega), br_t (by rw [cj]; exact h15) ?_⟩
          rw [← e2]
          exact kt_link hN i2 b2 (nm_r (nI_1 j) h7)
      · have n15 : ¬ a15 j = 0 := by rw [h15]; decide
        by_cases h21 : a21 (be j) = 0
        · -- kept, moved
          have hs : ¬ (a15 j = 1 ∧ ¬ a21 (be j) = 0) := fun z => z.2 h21
          have hcL : be j ∈ L := (hA.1 _).mpr (Or.inr ⟨j, Nat.le_refl j, hj, hp, h15, rfl⟩)
          obtain ⟨A, B, eAB⟩ := List.append_of_mem hcL
          rw [eAB] at hN
          obtain ⟨u1, u2⟩ := kr_unl hN i2
          have hsp := kr_split hN.2.2.2
          have hm : ∀ x, x ∈ A ++ B ↔ (x ∈ kr_dn par be i j ∨ ∃ k, j + 1 ≤ k ∧ k < n ∧ par k = i ∧ a15 k = 1 ∧ x = be k) := fun x => by
            rw [hsp, ← eAB, List.mem_filter, hA.1 x, hL1 x]
            constructor
            · rintro ⟨z | z, w⟩
              · rw [z.2] at w; exact absurd w (by simp)
              · exact z
            · intro z
              exact ⟨Or.inr z, by simpa using hnew x z⟩
          have hcn : be j ∉ A ++ B := fun z => hnew _ ((hm _).mp z) rfl
          have fj : kr_f (kr_dn par be i j) a21 (be j) = false := by
            unfold kr_f
            rw [decide_eq_false_iff_not]
            rintro (z | z)
            · exact hnew _ (Or.inl z) rfl
            · exact z h21
          have hf2 : (A ++ B).filter (kr_f (kr_dn par be i j) a21) = kr_dn par be i j ++ kr_sy n par be a15 a21 i j := by
            rw [← hA.2, eAB, List.filter_append, List.filter_append, List.filter_cons_of_neg (by rw [fj]; decide)]
          obtain ⟨C, D, e1, e2, hA'⟩ := kr_AJ_link hij hj hbe hp hs u1.2.2.2 hcn hm hf2
          rw [e1] at u1 hcn
          obtain ⟨k1, k2⟩ := kr_lnk u1 i2 hcn b1 b2
          obtain ⟨a10', a11', a12', a13', q1, q2, q3, q4, q5⟩ := ih (j + 1) _ _ _ _ _ (by omega) (by omega) (by omega) k1 hA'
          refine ⟨a10', a11', a12', a13', q1, fun q l' g1 g2 g3 g4 => q2 q l' g1 g2 g3 (k2 q l' g1 g2 (g3 j hij hj hp) (u2 q l' g1 g2 g4)), fun z hz => ?_, fun hz => ?_, ?_⟩
          · rw [q3 z hz]; exact pk_un (hz j hij hj hp)
          · exact absurd h21 (hz j (Nat.le_refl j) hj hp).2
          · intro post opn rt nid rs kc gc mv a1 a2 a4 a5 a6 a7 a8 a9 a16 a17 a18 a19 a20 a22 a23 f hf H
            obtain ⟨f, rfl⟩ : ∃ g, f = g + 1 := ⟨f - 1, by omega⟩
            have h7 := q5 post opn rt nid rs kc gc mv a1 a2 a4 a5 a6 a7 a8 a9 a16 a17 a18 a19 a20 a22 a23 f (by omega) H
            rw [edn] at h7
            refine pk_le n j (fun z => absurd z (by omega)) (fun _ => ⟨pk_in j 16 (by omega), br_t e3 ⟨pk_in j 16 (by omega), nm_r e14 ⟨pk_in j 16 (by omega), br_f (by rw [cj]; exact n15) ⟨pk_in (be j) 33 b2, br_t (by rw [cb]; exact h21) ?_⟩⟩⟩⟩)
            rw [← e2]
            exact kt_unlink hN i2 (kt_link u1 i2 b2 (nm_r (nI_1 j) h7))
        · -- stays
          have hA' : kr_AJ n par be a15 a21 i (j + 1) L := by
            refine ⟨fun x => ?_, ?_⟩
            · rw [hA.1 x, hL1 x, kr_dn_next hij, if_pos hp, List.mem_append, List.mem_singleton]
              constructor
              · rintro (⟨_, z⟩ | z | z)
                · exact Or.inl (Or.inr z)
                · exact Or.inl (Or.inl z)
                · exact Or.inr z
              · rintro ((z | z) | z)
                · exact Or.inr (Or.inl z)
                · exact Or.inl ⟨h15, z⟩
                · exact Or.inr (Or.inr z)
            · have hf : L.filter (kr_f (kr_dn par be i (j + 1)) a21) = L.filter (kr_f (kr_dn par be i j) a21) := by
                apply List.filter_congr
                intro x _
                unfold kr_f
                rw [kr_dn_next hij, if_pos hp, decide_eq_decide, List.mem_append, List.mem_singleton]
                constructor
                · rintro ((z | z) | z)
                  · exact Or.inl z
                  · rw [z]; exact Or.inr h21
                  · exact Or.inr z
                · rintro (z | z)
                  · exact Or.inl (Or.inl z)
                  · exact Or.inr z
              rw [hf, hA.2, kr_sy_next hj, if_pos ⟨hp, h15, h21⟩, kr_dn_next hij, if_pos hp]
              simp
          obtain ⟨a10', a11', a12', a13', q1, q2, q3, q4, q5⟩ := ih (j + 1) _ _ _ _ _ (by omega) (by omega) (by omega) hN hA'
          refine ⟨a10', a11', a12', a13', q1, q2, q3, fun hz => q4 (fun k g1 g2 g3 => hz k (by omega) g2 g3), ?_⟩
          intro post opn rt nid rs kc gc mv a1 a2 a4 a5 a6 a7 a8 a9 a16 a17 a18 a19 a20 a22 a23 f hf H
          obtain ⟨f, rfl⟩ : ∃ g, f = g + 1 := ⟨f - 1, by omega⟩
          have h7 := q5 post opn rt nid rs kc gc mv a1 a2 a4 a5 a6 a7 a8 a9 a16 a17 a18 a19 a20 a22 a23 f (by omega) H
          rw [edn] at h7
          refine pk_le n j (fun z => absurd z (by omega)) (fun _ => ⟨pk_in j 16 (by omega), br_t e3 ⟨pk_in j 16 (by omega), nm_r e14 ⟨pk_in j 16 (by omega), br_f (by rw [cj]; exact n15) ⟨pk_in (be j) 33 b2, br_f (by rw [cb]; exact h21) ?_⟩⟩⟩⟩)
          exact kt_arr80 (by omega) n15 h7
    · -- no child of i
      have edn : kr_dn par be i (j + 1) = kr_dn par be i j := by rw [kr_dn_next hij, if_neg hp]
      have hA' : kr_AJ n par be a15 a21 i (j + 1) L := by
        refine ⟨fun x => ?_, ?_⟩
        · rw [hA.1 x, edn]
          constructor
          · rintro (z | ⟨k, k1, k2, k3, k4, k5⟩)
            · exact Or.inl z
            · rcases Nat.eq_or_lt_of_le k1 with w | w
              · subst w; exact absurd k3 hp
              · exact Or.inr ⟨k, w, k2, k3, k4, k5⟩
          · rintro (z | ⟨k, k1, k2, k3, k4, k5⟩)
            · exact Or.inl z
            · exact Or.inr ⟨k, by omega, k2, k3, k4, k5⟩
        · rw [edn, hA.2, kr_sy_next hj, if_neg (fun z => hp z.1)]
      obtain ⟨a10', a11', a12', a13', q1, q2, q3, q4, q5⟩ := ih (j + 1) _ _ _ _ _ (by omega) (by omega) (by omega) hN hA'
      refine ⟨a10', a11', a12', a13', q1, q2, q3, fun hz => q4 (fun k g1 g2 g3 => hz k (by omega) g2 g3), ?_⟩
      intro post opn rt nid rs kc gc mv a1 a2 a4 a5 a6 a7 a8 a9 a16 a17 a18 a19 a20 a22 a23 f hf H
      obtain ⟨f, rfl⟩ : ∃ g, f = g + 1 := ⟨f - 1, by omega⟩
      have h7 := q5 post opn rt nid rs kc gc mv a1 a2 a4 a5 a6 a7 a8 a9 a16 a17 a18 a19 a20 a22 a23 f (by omega) H
      rw [edn] at h7
      exact pk_le n j (fun z => absurd z (by omega)) (fun _ => ⟨pk_in j 16 (by omega), br_f (by rw [cj, hp3.1]; exact fun e => hp ((nI_eq (by omega) (by omega)).mp e)) (nm_r (nI_1 j) h7)⟩)
/-- arrange -/
theorem kt_arrange {a3 a10 a11 a12 a13 a14 a15 a21 : Nat → Int32} {n i : Nat} {par be : Nat → Nat} {L : List Nat} (hn : n ≤ 16) (hi : i < n) (hbe : ∀ a b, a < n → b < n → be a = be b → a = b) (hb : ∀ j, j < n → 0 < be j ∧ be j < 33 ∧ a14 j = nI (be j) ∧ (a15 j = 0 ∨ a15 j = 1)) (hpar : ∀ j, 0 < j → j < n → a3 j = nI (par j) ∧ par j < 16)
    (hN : kr_Nd a10 a11 a12 a13 (be i) L) (hA : kr_AJ n par be a15 a21 i (i + 1) L) :
    ∃ a10' a11' a12' a13' : Nat → Int32, kr_Nd a10' a11' a12' a13' (be i) ((kr_kids par n i).map be) ∧
      (∀ q l', q < 33 → q ≠ be i → (∀ k, i < k → k < n → par k = i → be k ∉ l') → kr_Nd a10 a11 a12 a13 q l' → kr_Nd a10' a11' a12' a13' q l') ∧
      (∀ z, (∀ k, i < k → k < n → par k = i → z ≠ be k) → a10' z = a10 z) ∧
      ((∀ k, i < k → k < n → par k = i → a15 k = 1 ∧ ¬ a21 (be k) = 0) → a10' = a10 ∧ a11' = a11 ∧ a12' = a12 ∧ a13' = a13) ∧
      ∀ (post : St1 → Prop) (opn rt nid rs kc gc mv : Int32) (a1 a2 a4 a5 a6 a7 a8 a9 a16 a17 a18 a19 a20 a22 a23 : Nat → Int32), post (nI n, opn, rt, nid, rs, kc, gc, mv, a1, a2, a3, a4, a5, a6, a7, a8, a9, a10', a11', a12', a13', a14, a15, a16, a17, a18, a19, a20, a21, a22, a23) → wpX_arrange post (nI n, opn, rt, nid, rs, kc, gc, mv, a1, a2, a3, a4, a5, a6, a7, a8, a9, a10, a11, a12, a13, a14, a15, a16, a17, a18, a19, a20, a21, a22, a23) (nI i) := by
  obtain ⟨a10', a11', a12', a13', q1, q2, q3, q4, q5⟩ := kt_arr hn hi hbe hb hpar (n - (i + 1)) (i + 1) a10 a11 a12 a13 L rfl (by omega) (by omega) hN hA
  refine ⟨a10', a11', a12', a13', q1, q2, q3, q4, ?_⟩
  intro post opn rt nid rs kc gc mv a1 a2 a4 a5 a6 a7 a8 a9 a16 a17 a18 a19 a20 a22 a23 H
  have ed : (kr_dn par be i (i + 1)).getLastD 0 = 0 := by unfold kr_dn; rw [Nat.sub_self]; rfl
  have h7 := q5 post opn rt nid rs kc gc mv a1 a2 a4 a5 a6 a7 a8 a9 a16 a17 a18 a19 a20 a22 a23 (n - (i + 1) + 1) (by omega) H
  rw [ed] at h7
  unfold wpX_arrange
  exact ⟨pk_in i 16 (by omega), nm_r (e' := nI (be i)) (by rw [nI_clamp (by omega)]; exact (hb i hi).2.2.1) (nm_r (nI_1 i) ⟨_, h7⟩)⟩
end
section
/-- the draft is the shown tree itself -/
def kr_Idc (n : Nat) (par : Nat → Nat) (a1 a2 : Nat → Int32) (n0 : Nat) (par0 b0 : Nat → Nat) (A6 A7 : Nat → Int32) : Prop :=
  n = n0 ∧ (∀ j, 0 < j → j < n → par j = par0 j) ∧ (∀ j, j < n → a1 j = A6 (b0 j)) ∧ (∀ j, j < n → a2 j = A7 (b0 j))
/-- then nothing changes -/
def kr_ID (n : Nat) (par b0 : Nat → Nat) (N0 : Nat) (A5 A6 A7 A8 A9 A10 A11 A12 A13 : Nat → Int32) (i N φ : Nat) (o : Nat → Nat) (gc mv : Int32) (a5 a6 a7 a8 a9 a10 a11 a12 a13 a15 a21 : Nat → Int32) : Prop :=
  φ = 0 ∧ N = N0 ∧ gc = 0 ∧ mv = 0 ∧ (a5 = A5 ∧ a6 = A6 ∧ a7 = A7 ∧ a8 = A8 ∧ a9 = A9 ∧ a10 = A10 ∧ a11 = A11 ∧ a12 = A12 ∧ a13 = A13) ∧ (∀ j, j < n → (j = 0 ∨ par j < i) → a15 j = 1 ∧ o j = j) ∧ (∀ j, 0 < j → j < n → par j < i → a21 (b0 j) = 1)
theorem kr_kids_congr {n i : Nat} {par par0 : Nat → Nat} (h : ∀ j, 0 < j → j < n → par j = par0 j) : kr_kids par n i = kr_kids par0 n i := by
  unfold kr_kids
  apply List.filter_congr
  intro k hk
  rw [List.mem_range'_1] at hk
  rw [h k (by omega) (by omega)]
/-- at the shown tree itself every child has itself as partner -/
theorem kr_id_M {n i : Nat} {par ky par0 b0 kyn g : Nat → Nat} {a1 a2 a6 a7 : Nat → Int32} (hp : ∀ j, 0 < j → j < n → par j = par0 j) (h1 : ∀ j, j < n → a1 j = a6 (b0 j)) (h2 : ∀ j, j < n → a2 j = a7 (b0 j)) (hky : ∀ j, j < n → a2 j = nI (ky j) ∧ ky j < 10)
    (hkn : ∀ d, d ∈ kr_kids par0 n i → kyn (b0 d) < 10 ∧ a7 (b0 d) = nI (kyn (b0 d))) (hkd : ∀ c d, c ∈ kr_kids par0 n i → d ∈ kr_kids par0 n i → kyn (b0 c) = kyn (b0 d) → c = d) (hb : ∀ u, u < n → 0 < b0 u ∧ b0 u < 33)
    (hg : ∀ y, g y = 0 ∧ (∀ d, d ∈ kr_kids par0 n i → kyn (b0 d) ≠ y) ∨ (∃ d, d ∈ kr_kids par0 n i ∧ g y = b0 d ∧ kyn (b0 d) = y)) :
    (∀ k, k ∈ kr_kids par0 n i → g (ky k) = b0 k ∧ g (ky k) ≠ 0 ∧ a6 (g (ky k)) = a1 k) ∧ kr_M a1 a6 g ky par n i (i + 1) = kr_kids par0 n i ∧ (kr_M a1 a6 g ky par n i (i + 1)).map (fun k => g (ky k)) = (kr_kids par0 n i).map b0 := by
  have hk : ∀ k, k ∈ kr_kids par0 n i → g (ky k) = b0 k ∧ g (ky k) ≠ 0 ∧ a6 (g (ky k)) = a1 k := fun k hk => by
    have hk' := kr_mem_kids.mp hk
    have e1 : kyn (b0 k) = ky k := by
      have x1 := (hkn k hk)
      have x2 := hky k hk'.2.1
      rw [h2 k hk'.2.1, x1.2] at x2
      exact (nI_eq (by omega) (by omega)).mp x2.1
    have e2 : g (ky k) = b0 k := by
      rcases hg (ky k) with z | ⟨d, d1, d2, d3⟩
      · exact absurd e1 (z.2 k hk)
      · rw [d2, hkd d k d1 hk (by rw [d3, e1])]
    exact ⟨e2, by rw [e2]; have := (hb k hk'.2.1).1; omega, by rw [e2]; exact (h1 k hk'.2.1).symm⟩
  have hM : kr_M a1 a6 g ky par n i (i + 1) = kr_kids par0 n i := by
    rw [← kr_kids_congr hp]
    unfold kr_M
    unfold kr_kids
    apply List.filter_congr
    intro k hk'
    rw [List.mem_range'_1] at hk'
    by_cases e : par k = i
    · have hkk : k ∈ kr_kids par0 n i := kr_mem_kids.mpr ⟨by omega, by omega, by rw [← hp k (by omega) (by omega)]; exact e⟩
      have := (hk k hkk).2
      unfold kr_mt
      rw [decide_eq_true this, Bool.and_true]
    · have : (par k == i) = false := by simpa using e
      rw [this, Bool.false_and]
  refine ⟨hk, hM, ?_⟩
  rw [hM]
  apply List.map_congr_left
  intro k hk'
  exact (hk k hk').1
theorem kt_show124 {n n0 N0 : Nat} {par ky par0 b0 kyn : Nat → Nat} {a1 a2 a3 A5 A6 A7 A8 A9 A10 A11 A12 A13 : Nat → Int32} (hD : kr_Dr n par ky a2 a3) (hO : kr_Old n0 par0 b0 kyn) :
    ∀ (r i N κ φ : Nat) (V : Nat → Prop) (o be : Nat → Nat) (rs gc mv : Int32) (a5 a6 a7 a8 a9 a10 a11 a12 a13 a14 a15 a16 a17 a18 a19 a20 a21 : Nat → Int32), n - i = r → i ≤ n → κ + φ = i → N + (n - i) < 2 ^ 30 →
    kr_MI n par a1 a2 n0 par0 b0 kyn i N V o be (nI N) a5 a6 a7 a8 a10 a11 a12 a13 a14 a15 a21 →
    (kr_Idc n par a1 a2 n0 par0 b0 A6 A7 → kr_ID n par b0 N0 A5 A6 A7 A8 A9 A10 A11 A12 A13 i N φ o gc mv a5 a6 a7 a8 a9 a10 a11 a12 a13 a15 a21) →
    ∃ (N' κ' φ' : Nat) (V' : Nat → Prop) (o' be' : Nat → Nat) (rs' gc' mv' : Int32) (a5' a6' a7' a8' a9' a10' a11' a12' a13' a14' a15' a16' a17' a18' a19' a20' a21' : Nat → Int32), κ' + φ' = n ∧ N' ≤ N + (n - i) ∧
      kr_MI n par a1 a2 n0 par0 b0 kyn n N' V' o' be' (nI N') a5' a6' a7' a8' a10' a11' a12' a13' a14' a15' a21' ∧
      (kr_Idc n par a1 a2 n0 par0 b0 A6 A7 → kr_ID n par b0 N0 A5 A6 A7 A8 A9 A10 A11 A12 A13 n N' φ' o' gc' mv' a5' a6' a7' a8' a9' a10' a11' a12' a13' a15' a21') ∧
      ∀ (post : Int32 → St1 → Prop) (opn rt : Int32) (a4 a22 a23 : Nat → Int32) (f : Nat), n - i < f →
        (∀ o p : Nat → Int32, wX_show_124 post 1 (nI φ') (nI n) (nI n) opn rt (nI N') rs' (nI κ') gc' mv' a1 a2 a3 a4 a5' a6' a7' a8' a9' a10' a11' a12' a13' a14' a15' a16' a17' a18' a19' a20' a21' o p) →
        wX_show_124 post f (nI φ) (nI i) (nI n) opn rt (nI N) rs (nI κ) gc mv a1 a2 a3 a4 a5 a6 a7 a8 a9 a10 a11 a12 a13 a14 a15 a16 a17 a18 a19 a20 a21 a22 a23 := by
  intro r
  induction r with
  | zero =>
    intro i N κ φ V o be rs gc mv a5 a6 a7 a8 a9 a10 a11 a12 a13 a14 a15 a16 a17 a18 a19 a20 a21 hr hi hκ hN hM hID
    have e : i = n := by omega
    subst e
    refine ⟨N, κ, φ, V, o, be, rs, gc, mv, a5, a6, a7, a8, a9, a10, a11, a12, a13, a14, a15, a16, a17, a18, a19, a20, a21, hκ, by omega, hM, hID, ?_⟩
    intro post opn rt a4 a22 a23 f hf H
    obtain ⟨f, rfl⟩ : ∃ g, f = g + 1 := ⟨f - 1, by omega⟩
    have hn := hD.1
    exact ⟨fun z => (H a22 a23).1 z, fun z => absurd (nI_le (Nat.le_refl _) (by omega)) z⟩
  | succ r ih =>
    intro i N κ φ V o be rs gc mv a5 a6 a7 a8 a9 a10 a11 a12 a13 a14 a15 a16 a17 a18 a19 a20 a21 hr hi hκ hN hM hID
    have hin : i < n := by omega
    obtain ⟨hn, hS, hpar, hky, hdist⟩ := id hD
    obtain ⟨hn0, hS0, hb, hinj, hk0, hkn0, hkd0⟩ := id hO
    have ci := nI_clamp (show i < 2 ^ 31 by omega)
    have hdi : ∀ j k, i < j → j < k → k < n → par j = i → par k = i → ky j ≠ ky k := fun j k h1 h2 h3 h4 h5 => hdist j k (by omega) h2 h3 (by rw [h4, h5])
    have hasgi : i = 0 ∨ par i < i := by
      rcases Nat.eq_zero_or_pos i with w | w
      · exact Or.inl w
      · exact Or.inr (hS.1 i w hin)
    have hm1 := hM.1 i hin hasgi
    by_cases h15 : a15 i = 0
    · -- a new node
      obtain ⟨x, x0, x1, x2, xw⟩ := kt_make (kr_MI_free hM hn0 (by omega))
      obtain ⟨a14', a15', a16', a20', c1, c2, cw⟩ := kt_mcN (a1 := a1) (a6 := upd a6 x (a1 i)) (a14 := upd a14 i (nI x)) (a16 := a16) (a20 := a20) hn hin hpar hky h15 hdi
      have hM' := kr_stepN hD hO hin hM h15 x0 x1 x2 (by omega) c1 c2
      rw [nI_1] at hM'
      obtain ⟨N', κ', φ', V', o', be', rs', gc', mv', b5, b6, b7, b8, b9, b10, b11, b12, b13, b14, b15, b16, b17, b18, b19, b20, b21, p1, p2, p3, p4, p5⟩ := ih (i + 1) (N + 1) κ (φ + 1) V o _ rs gc mv _ _ _ _ (upd a9 x 0) _ _ _ _ a14' a15' a16' a17 a18 a19 a20' a21 (by omega) (by omega) (by omega) (by omega) hM' (fun hI => by
        have := (hID hI).2.2.2.2.2.1 i hin hasgi
        rw [h15] at this
        exact absurd this.1 (by decide))
      refine ⟨N', κ', φ', V', o', be', rs', gc', mv', b5, b6, b7, b8, b9, b10, b11, b12, b13, b14, b15, b16, b17, b18, b19, b20, b21, p1, by omega, p3, p4, ?_⟩
      intro post opn rt a4 a22 a23 f hf H
      obtain ⟨f, rfl⟩ : ∃ g, f = g + 1 := ⟨f - 1, by omega⟩
      refine pk_le n i (fun z => absurd z (by omega)) (fun _ => ⟨pk_in i 16 (by omega), br_t (by rw [ci]; exact h15) ?_⟩)
      refine xw _ (nI n) opn rt (nI N) rs (nI κ) gc mv a1 a2 a3 a4 a6 a7 a8 a9 a10 a11 a12 a13 a14 a15 a16 a17 a18 a19 a20 a21 a22 a23 i (by omega) ?_
      refine ⟨pk_in i 16 (by omega), nm_r (e' := upd a14 i (nI x)) (by rw [ci]) (nm_r (nI_1 φ) ?_)⟩
      rw [nI_1]
      unfold wX_show_168
      refine cw _ opn rt (nI (N + 1)) rs (nI κ) gc mv a4 _ _ _ _ _ _ a12 a13 a17 a18 a19 a21 a22 a23 (nm_r (nI_1 i) ?_)
      exact p5 post opn rt a4 a22 a23 f (by omega) H
    · -- kept
      rcases hm1 with z | ⟨h151, ht, h14, _, _, _, _⟩
      · exact absurd z h15
      have hVt : V (o i) := hM.2.2.2.2.1 i (Nat.le_refl i) hin hasgi h151
      have hVc : ∀ t, V t → ∀ s, s ∈ kr_kids par0 n0 t → V s := fun t ht' => (hM.2.2.2.2.2.2.1 t ht').2.1
      obtain ⟨et, hT⟩ := kr_en_ex par0 n0 (o i) ht
      have hVs := kr_V_sub hS0 hVc hT hVt
      have hkn : ∀ d, d ∈ kr_kids par0 n0 (o i) → kyn (b0 d) < 10 ∧ a7 (b0 d) = nI (kyn (b0 d)) := fun d hd => ⟨hkn0 d (kr_mem_kids.mp hd).2.1, (hM.2.2.2.2.2.2.1 d (hVc _ hVt d hd)).2.2.2⟩
      have hkd : ∀ c d, c ∈ kr_kids par0 n0 (o i) → d ∈ kr_kids par0 n0 (o i) → kyn (b0 c) = kyn (b0 d) → c = d := fun c d hc hd e => by
        have hc' := kr_mem_kids.mp hc
        have hd' := kr_mem_kids.mp hd
        rcases Nat.lt_trichotomy c d with w | w | w
        · exact absurd e (hkd0 c d (by omega) w hd'.2.1 (by omega))
        · exact w
        · exact absurd e.symm (hkd0 d c (by omega) w hc'.2.1 (by omega))
      obtain ⟨g, un, rs1, gc1, mv1, d5, d11, d12, d13, d14, d15, d16, d17, d18, d19, d20, d21, g1, g2, g3, g4, g5, g6, g7, g8, g9, g10, g11, g12⟩ := kt_mcK (a1 := a1) (a5 := a5) (a6 := a6) (a7 := a7) hn hin hpar hky hdi h15 h14 hn0 hS0 ht hT hb hinj hk0 (fun u h1 h2 => (hM.2.2.2.2.2.2.1 u (hVs u h1 h2)).2.2.1) hkn hkd gc mv a16 a17 a18 a19 a20 a21
      obtain ⟨od, hod⟩ : ∃ od : Nat → Nat, ∀ y, g y ≠ 0 → od y ∈ kr_kids par0 n0 (o i) ∧ g y = b0 (od y) ∧ kyn (b0 (od y)) = y := by
        have hex : ∀ y, ∃ d, g y ≠ 0 → d ∈ kr_kids par0 n0 (o i) ∧ g y = b0 d ∧ kyn (b0 d) = y := fun y => by
          rcases g1 y with z | ⟨d, q1, q2, q3⟩
          · exact ⟨0, fun w => absurd z.1 w⟩
          · exact ⟨d, fun _ => ⟨q1, q2, q3⟩⟩
        exact ⟨fun y => Classical.choose (hex y), fun y => Classical.choose_spec (hex y)⟩
      have hM' := kr_stepK hD hO hin hM h151 hod g2 g3 g4 g5 g6 g7 g8 g9 g10
      obtain ⟨N', κ', φ', V', o', be', rs', gc', mv', b5, b6, b7, b8, b9, b10, b11, b12, b13, b14, b15, b16, b17, b18, b19, b20, b21, p1, p2, p3, p4, p5⟩ := ih (i + 1) N (κ + 1) φ _ _ _ rs1 gc1 mv1 d5 a6 a7 a8 a9 a10 d11 d12 d13 d14 d15 d16 d17 d18 d19 d20 d21 (by omega) (by omega) (by omega) (by omega) hM' (fun hI => by
        obtain ⟨j1, j2, j3, j4⟩ := id hI
        obtain ⟨k1, k2, k3, k4, ⟨k5, k6, k7, k8, k9, k10, k11, k12, k13⟩, k15, k21⟩ := hID hI
        subst j1
        have hoi := (k15 i hin hasgi).2
        rw [hoi] at g1 g2 g9 g11 hkn hkd
        obtain ⟨q1, q2, q3⟩ := kr_id_M (a1 := a1) (a2 := a2) (a6 := a6) (a7 := a7) j2 (fun j hj => by rw [k6]; exact j3 j hj) (fun j hj => by rw [k7]; exact j4 j hj) hky hkn hkd hb g1
        obtain ⟨v1, v2, v3, v4, v5, v6, v7⟩ := g11 (fun d hd => (g2 d hd).mpr ⟨d, by rw [q2]; exact hd, (q1 d hd).1⟩) q3
        refine ⟨k1, k2, by rw [v1]; exact k3, by rw [v2]; exact k4, ⟨by rw [v3]; exact k5, k6, k7, k8, k9, k10, by rw [v4]; exact k11, by rw [v5]; exact k12, by rw [v6]; exact k13⟩, fun j h1 h2 => ?_, fun j h1 h2 h3 => ?_⟩
        · show d15 j = 1 ∧ (if i < j ∧ par j = i then od (ky j) else o j) = j
          by_cases e : i < j ∧ par j = i
          · rw [if_pos e]
            have hjk : j ∈ kr_kids par0 n i := kr_mem_kids.mpr ⟨e.1, h1, by rw [← j2 j (by omega) h1]; exact e.2⟩
            have x1 := (g3 j e.1 h1 e.2).1
            rw [if_pos (q1 j hjk).2] at x1
            refine ⟨x1, ?_⟩
            have x2 := hod (ky j) (q1 j hjk).2.1
            exact hinj _ _ (kr_mem_kids.mp x2.1).2.1 h1 (by rw [← x2.2.1]; exact (q1 j hjk).1)
          · rw [if_neg e]
            have hold : j = 0 ∨ par j < i := by
              rcases Nat.eq_zero_or_pos j with w | w
              · exact Or.inl w
              · have := hS.1 j w h1
                rcases h2 with v | v
                · exact Or.inl v
                · rcases Nat.lt_or_ge (par j) i with u | u
                  · exact Or.inr u
                  · exact absurd ⟨by omega, by omega⟩ e
            have x3 := (g4 j (Or.elim hold (fun w => Or.inl (by omega)) (fun w => Or.inr (Or.inr (by omega))))).1
            rw [x3]
            exact k15 j h1 hold
        · by_cases e : par j = i
          · have := hS.1 j h1 h2
            exact v7 j (kr_mem_kids.mpr ⟨by omega, h2, by rw [← j2 j h1 h2]; exact e⟩)
          · rw [g9 (b0 j) (fun hz => ?_)]
            · exact k21 j h1 h2 (by omega)
            · obtain ⟨d, hd, e2⟩ := List.mem_map.mp hz
              have hd' := kr_mem_kids.mp hd
              have e3 := hinj d j hd'.2.1 h2 e2
              subst e3
              rw [← j2 d h1 h2] at hd'
              exact e hd'.2.2)
      refine ⟨N', κ', φ', V', o', be', rs', gc', mv', b5, b6, b7, b8, b9, b10, b11, b12, b13, b14, b15, b16, b17, b18, b19, b20, b21, p1, by omega, p3, p4, ?_⟩
      intro post opn rt a4 a22 a23 f hf H
      obtain ⟨f, rfl⟩ : ∃ g, f = g + 1 := ⟨f - 1, by omega⟩
      refine pk_le n i (fun z => absurd z (by omega)) (fun _ => ⟨pk_in i 16 (by omega), br_f (by rw [ci]; exact h15) (nm_r (nI_1 κ) ?_)⟩)
      unfold wX_show_168
      refine g12 _ opn rt (nI N) rs (nI (κ + 1)) a4 a8 a9 a22 a23 (fun o p => nm_r (nI_1 i) ?_)
      exact p5 post opn rt a4 o p f (by omega) H
end
section
theorem kt_show201 {a3 a14 a15 a21 : Nat → Int32} {n : Nat} {par be : Nat → Nat} (hn : n ≤ 16) (hbe : ∀ a b, a < n → b < n → be a = be b → a = b) (hb : ∀ j, j < n → 0 < be j ∧ be j < 33 ∧ a14 j = nI (be j) ∧ (a15 j = 0 ∨ a15 j = 1)) (hpar : ∀ j, 0 < j → j < n → a3 j = nI (par j) ∧ par j < 16) :
    ∀ (r i : Nat) (a10 a11 a12 a13 : Nat → Int32), n - i = r → i ≤ n → (∀ j, j < n → ∃ L, kr_Nd a10 a11 a12 a13 (be j) L ∧ (j < i → L = (kr_kids par n j).map be) ∧ (i ≤ j → kr_AJ n par be a15 a21 j (j + 1) L) ∧ (∀ x, x ∈ L → ∃ k, j < k ∧ k < n ∧ par k = j ∧ x = be k)) →
    ∃ a10' a11' a12' a13' : Nat → Int32, (∀ j, j < n → kr_Nd a10' a11' a12' a13' (be j) ((kr_kids par n j).map be)) ∧ (∀ z, (∀ k, 0 < k → k < n → z ≠ be k) → a10' z = a10 z) ∧
      ((∀ k, 0 < k → k < n → a15 k = 1 ∧ ¬ a21 (be k) = 0) → a10' = a10 ∧ a11' = a11 ∧ a12' = a12 ∧ a13' = a13) ∧
      ∀ (post : Int32 → St1 → Prop) (x1 opn rt nid rs kc gc mv : Int32) (a1 a2 a4 a5 a6 a7 a8 a9 a16 a17 a18 a19 a20 a22 a23 : Nat → Int32) (f : Nat), n - i < f → post x1 (0, 0, rt, nid, rs, kc, gc, mv, a1, a2, a3, a4, a5, a6, a7, a8, a9, a10', a11', a12', a13', a14, a15, a16, a17, a18, a19, a20, a21, a22, a23) → wX_show_201 post x1 f (nI i) (nI n) opn rt nid rs kc gc mv a1 a2 a3 a4 a5 a6 a7 a8 a9 a10 a11 a12 a13 a14 a15 a16 a17 a18 a19 a20 a21 a22 a23 := by
  intro r
  induction r with
  | zero =>
    intro i a10 a11 a12 a13 hr hi hA
    have e : i = n := by omega
    subst e
    refine ⟨a10, a11, a12, a13, fun j hj => ?_, fun _ _ => rfl, fun _ => ⟨rfl, rfl, rfl, rfl⟩, ?_⟩
    · obtain ⟨L, l1, l2, _⟩ := hA j hj
      rw [← l2 hj]; exact l1
    · intro post x1 opn rt nid rs kc gc mv a1 a2 a4 a5 a6 a7 a8 a9 a16 a17 a18 a19 a20 a22 a23 f hf H
      obtain ⟨f, rfl⟩ : ∃ g, f = g + 1 := ⟨f - 1, by omega⟩
      refine pk_le i i (fun _ => ?_) (fun z => absurd z (by omega))
      unfold wpX_scrap
      exact H
  | succ r ih =>
    intro i a10 a11 a12 a13 hr hi hA
    have hin : i < n := by omega
    obtain ⟨L, l1, _, l3, _⟩ := hA i hin
    obtain ⟨b10, b11, b12, b13, q1, q2, q3, q4, q5⟩ := kt_arrange (a3 := a3) hn hin hbe hb hpar l1 (l3 (Nat.le_refl i))
    have hA' : ∀ j, j < n → ∃ L, kr_Nd b10 b11 b12 b13 (be j) L ∧ (j < i + 1 → L = (kr_kids par n j).map be) ∧ (i + 1 ≤ j → kr_AJ n par be a15 a21 j (j + 1) L) ∧ (∀ x, x ∈ L → ∃ k, j < k ∧ k < n ∧ par k = j ∧ x = be k) := fun j hj => by
      by_cases e : j = i
      · subst e
        refine ⟨_, q1, fun _ => rfl, fun z => absurd z (by omega), fun x hx => ?_⟩
        obtain ⟨k, hk, e⟩ := List.mem_map.mp hx
        have hk' := kr_mem_kids.mp hk
        exact ⟨k, hk'.1, hk'.2.1, hk'.2.2, e.symm⟩
      · obtain ⟨L', m1, m2, m3, m4⟩ := hA j hj
        refine ⟨L', q2 (be j) L' (hb j hj).2.1 (fun w => e (hbe j i hj hin w)) (fun k g1 g2 g3 g4 => ?_) m1, fun z => m2 (by omega), fun z => m3 (by omega), m4⟩
        obtain ⟨k', x1, x2, x3, x4⟩ := m4 _ g4
        have := hbe k k' g2 x2 x4
        subst this
        omega
    obtain ⟨a10', a11', a12', a13', p1, p2, p3, p4⟩ := ih (i + 1) b10 b11 b12 b13 (by omega) (by omega) hA'
    refine ⟨a10', a11', a12', a13', p1, fun z hz => ?_, fun hz => ?_, ?_⟩
    · rw [p2 z hz]; exact q3 z (fun k g1 g2 _ => hz k (by omega) g2)
    · obtain ⟨x1, x2, x3, x4⟩ := p3 hz
      obtain ⟨y1, y2, y3, y4⟩ := q4 (fun k g1 g2 _ => hz k (by omega) g2)
      exact ⟨by rw [x1, y1], by rw [x2, y2], by rw [x3, y3], by rw [x4, y4]⟩
    · intro post x1 opn rt nid rs kc gc mv a1 a2 a4 a5 a6 a7 a8 a9 a16 a17 a18 a19 a20 a22 a23 f hf H
      obtain ⟨f, rfl⟩ : ∃ g, f = g + 1 := ⟨f - 1, by omega⟩
      refine pk_le n i (fun z => absurd z (by omega)) (fun _ => ?_)
      refine q5 _ opn rt nid rs kc gc mv a1 a2 a4 a5 a6 a7 a8 a9 a16 a17 a18 a19 a20 a22 a23 (nm_r (nI_1 i) ?_)
      exact p4 post x1 opn rt nid rs kc gc mv a1 a2 a4 a5 a6 a7 a8 a9 a16 a17 a18 a19 a20 a22 a23 f (by omega) H
theorem kr_AJ_0 {n : Nat} {par be b0 o : Nat → Nat} {a15 a21 : Nat → Int32} {j : Nat} {L : List Nat} (hbo : ∀ k, k < n → a15 k = 1 → be k = b0 (o k)) (h1 : ∀ x, x ∈ L ↔ x ∈ kr_KL n par b0 o a15 j) (h2 : L.filter (fun x => decide (¬ a21 x = 0)) = (kr_KL n par b0 o a15 j).filter (fun x => decide (¬ a21 x = 0))) : kr_AJ n par be a15 a21 j (j + 1) L := by
  have e0 : kr_dn par be j (j + 1) = [] := by unfold kr_dn; rw [Nat.sub_self]; rfl
  refine ⟨fun x => ?_, ?_⟩
  · rw [h1 x, kr_mem_KL, e0]
    constructor
    · intro ⟨k, k1, k2, k3, k4, k5⟩
      exact Or.inr ⟨k, k1, k2, k3, k4, by rw [hbo k k2 k4]; exact k5⟩
    · rintro (z | ⟨k, k1, k2, k3, k4, k5⟩)
      · exact absurd z List.not_mem_nil
      · exact ⟨k, k1, k2, k3, k4, by rw [← hbo k k2 k4]; exact k5⟩
  · rw [e0, List.nil_append]
    have f1 : L.filter (kr_f [] a21) = L.filter (fun x => decide (¬ a21 x = 0)) := by
      apply List.filter_congr
      intro x _
      unfold kr_f
      rw [decide_eq_decide]
      constructor
      · rintro (z | z)
        · exact absurd z List.not_mem_nil
        · exact z
      · exact Or.inr
    rw [f1, h2]
    unfold kr_KL kr_sy kr_kids
    rw [List.filter_map, List.filter_filter, List.filter_filter]
    have f2 : (List.range' (j + 1) (n - (j + 1))).filter (fun k => ((fun x => decide (¬ a21 x = 0)) ∘ (fun k => b0 (o k))) k && decide (a15 k = 1) && (par k == j)) = (List.range' (j + 1) (n - (j + 1))).filter (fun k => par k == j && decide (a15 k = 1 ∧ ¬ a21 (be k) = 0)) := by
      apply List.filter_congr
      intro k hk
      rw [List.mem_range'_1] at hk
      show (decide (¬ a21 (b0 (o k)) = 0) && decide (a15 k = 1) && (par k == j)) = _
      by_cases h15 : a15 k = 1
      · rw [hbo k (by omega) h15]
        by_cases e : par k = j
        · by_cases e2 : a21 (b0 (o k)) = 0
          · simp [h15, e, e2]
          · simp [h15, e, e2]
        · have : (par k == j) = false := by simpa using e
          rw [this]; simp
      · simp [h15]
    rw [f2]
    apply List.map_congr_left
    intro k hk
    have hk' := List.mem_filter.mp hk
    rw [List.mem_range'_1, Bool.and_eq_true, decide_eq_true_iff] at hk'
    exact (hbo k (by omega) hk'.2.2.1).symm
/-- the shown tree, its keys, the nodes in use, the idents -/
def kr_T (rt nid : Int32) (a5 a7 a8 a10 a11 a12 a13 : Nat → Int32) (n : Nat) (b par : Nat → Nat) (N : Nat) : Prop :=
  kr_V rt a10 a11 a12 a13 n b par ∧ (∀ u, u < n → ∃ y, y < 10 ∧ a7 (b u) = nI y) ∧ (∀ c d, 0 < c → c < d → d < n → par c = par d → a7 (b c) ≠ a7 (b d)) ∧ (∀ x, 0 < x → x < 33 → (¬ a5 x = 0 ↔ ∃ t, t < n ∧ x = b t)) ∧ nid = nI N ∧
  (∀ x, 0 < x → x < 33 → ¬ a5 x = 0 → ∃ k, k < N ∧ a8 x = nI k) ∧ (∀ x y, 0 < x → x < 33 → 0 < y → y < 33 → ¬ a5 x = 0 → ¬ a5 y = 0 → a8 x = a8 y → x = y)
theorem kr_few {n : Nat} {par ky : Nat → Nat} (hky : ∀ j, j < n → ky j < 10) (hd : ∀ j k, 0 < j → j < k → k < n → par j = par k → ky j ≠ ky k) (t : Nat) : (kr_kids par n t).length ≤ 10 := by
  have hnd : ((kr_kids par n t).map ky).Nodup := by
    show List.Pairwise _ _
    rw [List.pairwise_map]
    refine List.Pairwise.imp_of_mem ?_ (kr_kids_pw par n t)
    intro a b ha hb hab
    have ha' := kr_mem_kids.mp ha
    have hb' := kr_mem_kids.mp hb
    exact hd a b (by omega) hab hb'.2.1 (by omega)
  have hsub : (kr_kids par n t).map ky ⊆ List.range 10 := by
    intro y hy
    obtain ⟨k, hk, e⟩ := List.mem_map.mp hy
    rw [List.mem_range, ← e]
    exact hky k (kr_mem_kids.mp hk).2.1
  have := List.Nodup.length_le_of_subset hnd hsub
  rw [List.length_map, List.length_range] at this
  exact this
theorem kt_show_go {n n0 N N0 : Nat} {par ky par0 b0 kyn : Nat → Nat} {a1 a2 a3 A5 A6 A7 A8 A9 A10 A11 A12 A13 : Nat → Int32} (hD : kr_Dr n par ky a2 a3) (hO : kr_Old n0 par0 b0 kyn) (hn0 : 0 < n) (hA10 : A10 (b0 0) = 0) (hN : N + 16 < 2 ^ 30)
    {V : Nat → Prop} {o be : Nat → Nat} {rs gc : Int32} {a5 a6 a7 a8 a9 a10 a11 a12 a13 a14 a15 a16 a17 a18 a19 a20 a21 : Nat → Int32} (hM : kr_MI n par a1 a2 n0 par0 b0 kyn 0 N V o be (nI N) a5 a6 a7 a8 a10 a11 a12 a13 a14 a15 a21)
    (hID : kr_Idc n par a1 a2 n0 par0 b0 A6 A7 → kr_ID n par b0 N0 A5 A6 A7 A8 A9 A10 A11 A12 A13 0 N 0 o gc 0 a5 a6 a7 a8 a9 a10 a11 a12 a13 a15 a21) :
    ∃ (N' κ φ : Nat) (be' : Nat → Nat) (rs' gc' mv' : Int32) (a5' a6' a7' a8' a9' a10' a11' a12' a13' a14' a15' a16' a17' a18' a19' a20' a21' : Nat → Int32), κ + φ = n ∧ N' ≤ N + 16 ∧ kr_T (nI (be' 0)) (nI N') a5' a7' a8' a10' a11' a12' a13' n be' par N' ∧
      (kr_Idc n par a1 a2 n0 par0 b0 A6 A7 → φ = 0 ∧ N' = N0 ∧ gc' = 0 ∧ mv' = 0 ∧ be' 0 = b0 0 ∧ a5' = A5 ∧ a6' = A6 ∧ a7' = A7 ∧ a8' = A8 ∧ a9' = A9 ∧ a10' = A10 ∧ a11' = A11 ∧ a12' = A12 ∧ a13' = A13) ∧
      ∀ (post : Int32 → St1 → Prop) (opn rt : Int32) (a4 a22 a23 : Nat → Int32),
        (∀ o p : Nat → Int32, post (nI φ) (0, 0, nI (be' 0), nI N', rs', nI κ, gc', mv', a1, a2, a3, a4, a5', a6', a7', a8', a9', a10', a11', a12', a13', a14', a15', a16', a17', a18', a19', a20', a21', o, p)) →
        ∃ f, wX_show_124 post f 0 0 (nI n) opn rt (nI N) rs 0 gc 0 a1 a2 a3 a4 a5 a6 a7 a8 a9 a10 a11 a12 a13 a14 a15 a16 a17 a18 a19 a20 a21 a22 a23 := by
  obtain ⟨hn, hS, hpar, hky, hdist⟩ := id hD
  obtain ⟨N', κ, φ, V', o', be', rs', gc', mv', b5, b6, b7, b8, b9, b10, b11, b12, b13, b14, b15, b16, b17, b18, b19, b20, b21, p1, p2, p3, p4, p5⟩ := kt_show124 (N0 := N0) (A5 := A5) (A6 := A6) (A7 := A7) (A8 := A8) (A9 := A9) (A10 := A10) (A11 := A11) (A12 := A12) (A13 := A13) hD hO (n - 0) 0 N 0 0 V o be rs gc 0 a5 a6 a7 a8 a9 a10 a11 a12 a13 a14 a15 a16 a17 a18 a19 a20 a21 rfl (by omega) rfl (by omega) hM hID
  obtain ⟨m1, m2, m3, m4, m5, m6, m7, m8, m9, m10, m11, m12, m13, m14⟩ := id p3
  have hS0 := hO.2.1
  have hVe : ∀ t, ¬ V' t := fun t => by
    induction t using Nat.strongRecOn with
    | ind t ih =>
      intro ht
      rcases m8 t ht with ⟨j, y1, y2, _⟩ | ⟨y1, y2⟩
      · omega
      · exact ih (par0 t) (hS0.1 t y1 (m7 t ht).1) y2
  have h15 : ∀ j, j < n → b15 j = 0 ∨ b15 j = 1 := fun j hj => by
    have hasg : j = 0 ∨ par j < n := by
      rcases Nat.eq_zero_or_pos j with w | w
      · exact Or.inl w
      · have := hS.1 j w hj
        exact Or.inr (by omega)
    rcases m1 j hj hasg with z | z
    · exact Or.inl z
    · exact Or.inr z.1
  have hb : ∀ j, j < n → 0 < be' j ∧ be' j < 33 ∧ b14 j = nI (be' j) ∧ (b15 j = 0 ∨ b15 j = 1) := fun j hj => by
    obtain ⟨y1, y2, y3, _⟩ := m2 j hj
    exact ⟨y2, y3, y1, h15 j hj⟩
  have hbo : ∀ k, k < n → b15 k = 1 → be' k = b0 (o' k) := fun k hk => (m2 k hk).2.2.2.2.2
  have hA : ∀ j, j < n → ∃ L, kr_Nd (upd b10 (be' 0) 0) b11 b12 b13 (be' j) L ∧ (j < 0 → L = (kr_kids par n j).map be') ∧ (0 ≤ j → kr_AJ n par be' b15 b21 j (j + 1) L) ∧ (∀ x, x ∈ L → ∃ k, j < k ∧ k < n ∧ par k = j ∧ x = be' k) := fun j hj => by
    obtain ⟨L, l1, l2, l3⟩ := m11 j hj
    have hmem : ∀ x, x ∈ L → ∃ k, j < k ∧ k < n ∧ par k = j ∧ x = be' k := fun x hx => by
      obtain ⟨k, k1, k2, k3, k4, k5⟩ := kr_mem_KL.mp ((l2 x).mp hx)
      exact ⟨k, k1, k2, k3, by rw [hbo k k2 k4]; exact k5⟩
    refine ⟨L, kr_Nd_fr l1 rfl (fun y hy => ⟨rfl, rfl, ?_⟩), fun z => absurd z (by omega), fun _ => kr_AJ_0 hbo l2 l3, hmem⟩
    obtain ⟨k, k1, k2, _, k4⟩ := hmem y hy
    refine pk_un (fun e => ?_)
    have := m3 k 0 k2 hn0 (by rw [← k4, e])
    omega
  obtain ⟨c10, c11, c12, c13, q1, q2, q3, q4⟩ := kt_show201 (a3 := a3) (a14 := b14) hn m3 hb hpar (n - 0) 0 (upd b10 (be' 0) 0) b11 b12 b13 rfl (by omega) hA
  have hroot : c10 (be' 0) = 0 := by
    rw [q2 (be' 0) (fun k h1 h2 e => by have := m3 0 k hn0 h2 e; omega)]
    exact pk_us
  have hT : kr_T (nI (be' 0)) (nI N') b5 b7 b8 c10 c11 c12 c13 n be' par N' := by
    refine ⟨⟨hn, hS, fun t ht => ⟨(hb t ht).1, (hb t ht).2.1⟩, fun t _ => kr_few (fun j hj => (hky j hj).2) hdist t, q1, by rw [if_neg (by omega)], m3, fun _ => hroot⟩, fun u hu => ⟨ky u, (hky u hu).2, by rw [(m2 u hu).2.2.2.2.1]; exact (hky u hu).1⟩, fun c d h1 h2 h3 h4 e => ?_, fun x hx0 hx1 => ?_, rfl, m13, m14⟩
    · rw [(m2 c (by omega)).2.2.2.2.1, (m2 d h3).2.2.2.2.1, (hky c (by omega)).1, (hky d h3).1] at e
      have e1 := (hky c (by omega)).2
      have e2 := (hky d h3).2
      exact hdist c d h1 h2 h3 h4 ((nI_eq (by omega) (by omega)).mp e)
    · rw [m9 x hx0 hx1]
      constructor
      · rintro (z | ⟨t, z, _⟩)
        · exact z
        · exact absurd z (hVe t)
      · exact Or.inl
  refine ⟨N', κ, φ, be', rs', gc', mv', b5, b6, b7, b8, b9, c10, c11, c12, c13, b14, b15, b16, b17, b18, b19, b20, b21, p1, by omega, hT, fun hI => ?_, ?_⟩
  · obtain ⟨k1, k2, k3, k4, ⟨k5, k6, k7, k8, k9, k10, k11, k12, k13⟩, k15, k21⟩ := p4 hI
    have hpn : ∀ k, 0 < k → k < n → par k < n := fun k h1 h2 => by have := hS.1 k h1 h2; omega
    have hb0 : ∀ k, k < n → be' k = b0 k := fun k hk => by
      have hasg : k = 0 ∨ par k < n := by
        rcases Nat.eq_zero_or_pos k with w | w
        · exact Or.inl w
        · exact Or.inr (hpn k w hk)
      obtain ⟨y1, y2⟩ := k15 k hk hasg
      rw [hbo k hk y1, y2]
    obtain ⟨x1, x2, x3, x4⟩ := q3 (fun k h1 h2 => ⟨(k15 k h2 (Or.inr (hpn k h1 h2))).1, by rw [hb0 k h2, k21 k h1 h2 (hpn k h1 h2)]; decide⟩)
    refine ⟨k1, k2, k3, k4, hb0 0 hn0, k5, k6, k7, k8, k9, ?_, by rw [x2]; exact k11, by rw [x3]; exact k12, by rw [x4]; exact k13⟩
    rw [x1, k10, hb0 0 hn0]
    funext z
    by_cases e : z = b0 0
    · rw [e, pk_us, hA10]
    · exact pk_un e
  · intro post opn rt a4 a22 a23 H
    refine ⟨n - 0 + 1, p5 post opn rt a4 a22 a23 (n - 0 + 1) (by omega) (fun o p => ?_)⟩
    obtain ⟨y1, y2, y3, _⟩ := m2 0 hn0
    refine pk_le n n (fun _ => nm_r (e' := nI (be' 0)) y1 ⟨pk_in (be' 0) 33 y3, nm_r (e' := upd b10 (be' 0) 0) (by rw [nI_clamp (by omega)]) ⟨n - 0 + 1, ?_⟩⟩) (fun z => absurd z (by omega))
    exact q4 post (nI φ) opn (nI (be' 0)) (nI N') rs' (nI κ) gc' mv' a1 a2 a4 b5 b6 b7 b8 b9 b16 b17 b18 b19 b20 o p (n - 0 + 1) (by omega) (H o p)
end
section
theorem kr_T_old {rt nid : Int32} {a5 a7 a8 a10 a11 a12 a13 : Nat → Int32} {n : Nat} {b par : Nat → Nat} {N : Nat} (h : kr_T rt nid a5 a7 a8 a10 a11 a12 a13 n b par N) : kr_Old n par b (fun x => (a7 x).toNatClampNeg) ∧ ∀ u, u < n → a7 (b u) = nI (a7 (b u)).toNatClampNeg := by
  obtain ⟨⟨hn, hS, hb, hk, _, _, hinj, _⟩, hky, hd, _⟩ := h
  have hc : ∀ u, u < n → (a7 (b u)).toNatClampNeg < 10 ∧ a7 (b u) = nI (a7 (b u)).toNatClampNeg := fun u hu => by
    obtain ⟨y, y1, y2⟩ := hky u hu
    rw [y2, nI_clamp (by omega)]
    exact ⟨y1, rfl⟩
  refine ⟨⟨hn, hS, hb, hinj, hk, fun u hu => (hc u hu).1, fun c d h1 h2 h3 h4 e => ?_⟩, fun u hu => (hc u hu).2⟩
  refine hd c d h1 h2 h3 h4 ?_
  rw [(hc c (by omega)).2, (hc d h3).2]
  have e' : (a7 (b c)).toNatClampNeg = (a7 (b d)).toNatClampNeg := e
  rw [e']
/-- showing: the draft becomes the shown tree -/
theorem kt_show {rt rs : Int32} {a1 a2 a3 a5 a6 a7 a8 a9 a10 a11 a12 a13 a14 a15 a16 a17 a18 a19 a20 a21 : Nat → Int32} {n n0 N : Nat} {par ky par0 b0 : Nat → Nat} (hT : kr_T rt (nI N) a5 a7 a8 a10 a11 a12 a13 n0 b0 par0 N) (hD : kr_Dr n par ky a2 a3) (hn : 0 < n) (hN : N + 16 < 2 ^ 30) :
    ∃ (N' κ φ : Nat) (be' : Nat → Nat) (rs' gc' mv' : Int32) (a5' a6' a7' a8' a9' a10' a11' a12' a13' a14' a15' a16' a17' a18' a19' a20' a21' : Nat → Int32), κ + φ = n ∧ N' ≤ N + 16 ∧ kr_T (nI (be' 0)) (nI N') a5' a7' a8' a10' a11' a12' a13' n be' par N' ∧
      (kr_Idc n par a1 a2 n0 par0 b0 a6 a7 → φ = 0 ∧ N' = N ∧ gc' = 0 ∧ mv' = 0 ∧ nI (be' 0) = rt ∧ a5' = a5 ∧ a6' = a6 ∧ a7' = a7 ∧ a8' = a8 ∧ a9' = a9 ∧ a10' = a10 ∧ a11' = a11 ∧ a12' = a12 ∧ a13' = a13) ∧
      ∀ (post : Int32 → St1 → Prop) (kc gc mv : Int32) (a4 a22 a23 : Nat → Int32),
        (∀ o p : Nat → Int32, post (nI φ) (0, 0, nI (be' 0), nI N', rs', nI κ, gc', mv', a1, a2, a3, a4, a5', a6', a7', a8', a9', a10', a11', a12', a13', a14', a15', a16', a17', a18', a19', a20', a21', o, p)) →
        wpX_show post (nI n, 0, rt, nI N, rs, kc, gc, mv, a1, a2, a3, a4, a5, a6, a7, a8, a9, a10, a11, a12, a13, a14, a15, a16, a17, a18, a19, a20, a21, a22, a23) := by
  obtain ⟨hO, h7⟩ := kr_T_old hT
  obtain ⟨⟨hn16, hS0, hb, hk, hNd, hrt, hinj, hup⟩, hky0, hkd0, hus, _, hid1, hid2⟩ := id hT
  have hD16 := hD.1
  have hn31 := nI_ne0 hn (show n < 2 ^ 31 by omega)
  have c0 : (0 : Int32).toNatClampNeg = 0 := sb_cl0
  by_cases hz : n0 = 0
  · -- nothing shown yet
    have hrt0 : rt = 0 := by rw [hrt, if_pos hz]
    have hnone : ∀ x, 0 < x → x < 33 → a5 x = 0 := fun x h1 h2 => by
      apply Classical.byContradiction
      intro h3
      obtain ⟨t, t1, _⟩ := (hus x h1 h2).mp h3
      omega
    have hM : kr_MI n par a1 a2 n0 par0 b0 (fun x => (a7 x).toNatClampNeg) 0 N (fun _ => False) (fun _ => 0) (fun _ => 0) (nI N) a5 a6 a7 a8 a10 a11 a12 a13 (upd a14 0 rt) (upd a15 0 0) a21 := by
      refine ⟨fun j h1 h2 => ?_, fun j h1 => absurd h1 (by omega), fun j k h1 => absurd h1 (by omega), fun j k h1 h2 h3 h4 h5 h6 h7 => ?_, fun j h1 h2 h3 h4 => ?_, fun j h1 => absurd h1 (by omega), fun t ht => ht.elim, fun t ht => ht.elim, fun x h1 h2 => ⟨fun h3 => absurd (hnone x h1 h2) h3, ?_⟩, fun j t h1 => absurd h1 (by omega), fun j h1 => absurd h1 (by omega), rfl, fun x h1 h2 h3 => absurd (hnone x h1 h2) h3, fun x y h1 h2 h3 h4 h5 => absurd (hnone x h1 h2) h5⟩
      · rcases h2 with w | w
        · subst w; exact Or.inl pk_us
        · omega
      · omega
      · rcases h3 with w | w
        · subst w; rw [pk_us] at h4; exact absurd h4 (by decide)
        · omega
      · rintro (⟨j, h3, _⟩ | ⟨t, h3, _⟩)
        · omega
        · exact h3.elim
    obtain ⟨N', κ, φ, be', rs', gc', mv', b5, b6, b7, b8, b9, b10, b11, b12, b13, b14, b15, b16, b17, b18, b19, b20, b21, p1, p2, p3, p4, p5⟩ := kt_show_go (N0 := N) (rs := rs) (gc := 0) (a9 := a9) (a16 := a16) (a17 := a17) (a18 := a18) (a19 := a19) (a20 := a20) (A5 := a5) (A6 := a6) (A7 := a7) (A8 := a8) (A9 := a9) (A10 := fun _ => 0) (A11 := a11) (A12 := a12) (A13 := a13) hD hO hn rfl hN hM (fun hI => absurd hI.1 (by omega))
    refine ⟨N', κ, φ, be', rs', gc', mv', b5, b6, b7, b8, b9, b10, b11, b12, b13, b14, b15, b16, b17, b18, b19, b20, b21, p1, p2, p3, fun hI => absurd hI.1 (by omega), ?_⟩
    intro post kc gc mv a4 a22 a23 H
    unfold wpX_show
    refine br_f hn31 (br_t (by decide) (br_t hrt0 ?_))
    unfold wX_show_86 wX_show_87
    rw [c0]
    exact ⟨pk_in 0 16 (by omega), nm_r (e' := upd a15 0 0) rfl (nm_e (br_t pk_us (br_t hrt0 (p5 post 0 rt a4 a22 a23 H))))⟩
  · have hz0 : 0 < n0 := by omega
    have hrt0 : rt = nI (b0 0) := by rw [hrt, if_neg hz]
    have hb0 := hb 0 hz0
    have hrne : ¬ rt = 0 := by rw [hrt0]; exact nI_ne0 hb0.1 (by omega)
    have crt : rt.toNatClampNeg = b0 0 := by rw [hrt0]; exact nI_clamp (by omega)
    have hin : vp_in rt 33 := pk_in (b0 0) 33 hb0.2 hrt0
    by_cases hkp : a6 (b0 0) = a1 0 ∧ a7 (b0 0) = a2 0
    · -- the root is kept
      have hM : kr_MI n par a1 a2 n0 par0 b0 (fun x => (a7 x).toNatClampNeg) 0 N (fun t => t < n0) (fun _ => 0) (fun _ => 0) (nI N) a5 a6 a7 a8 a10 a11 a12 a13 (upd a14 0 rt) (upd a15 0 1) a21 := by
        refine ⟨fun j h1 h2 => ?_, fun j h1 => absurd h1 (by omega), fun j k h1 => absurd h1 (by omega), fun j k h1 h2 h3 h4 h5 h6 h7 => ?_, fun j h1 h2 h3 h4 => hz0, fun j h1 => absurd h1 (by omega), fun t ht => ⟨ht, fun s hs => (kr_mem_kids.mp hs).2.1, hNd t ht, h7 t ht⟩, fun t ht => ?_, fun x h1 h2 => ?_, fun j t h1 => absurd h1 (by omega), fun j h1 => absurd h1 (by omega), rfl, hid1, hid2⟩
        · rcases h2 with w | w
          · subst w; exact Or.inr ⟨pk_us, hz0, by rw [pk_us]; exact hrt0, hkp.1, hkp.2, fun _ => rfl, fun w => absurd w (by omega)⟩
          · omega
        · omega
        · rcases Nat.eq_zero_or_pos t with w | w
          · exact Or.inl ⟨0, by omega, hn, Or.inl rfl, pk_us, w⟩
          · have := hS0.1 t w ht
            exact Or.inr ⟨w, by show par0 t < n0; have h9 : t < n0 := ht; omega⟩
        · rw [hus x h1 h2]
          constructor
          · intro z; exact Or.inr z
          · rintro (⟨j, h3, _⟩ | z)
            · omega
            · exact z
      obtain ⟨N', κ, φ, be', rs', gc', mv', b5, b6, b7, b8, b9, b10, b11, b12, b13, b14, b15, b16, b17, b18, b19, b20, b21, p1, p2, p3, p4, p5⟩ := kt_show_go (N0 := N) (rs := rs) (gc := 0) (a9 := a9) (a16 := a16) (a17 := a17) (a18 := a18) (a19 := a19) (a20 := a20) (A5 := a5) (A6 := a6) (A7 := a7) (A8 := a8) (A9 := a9) (A10 := a10) (A11 := a11) (A12 := a12) (A13 := a13) hD hO hn (hup hz0) hN hM (fun hI => ⟨rfl, rfl, rfl, rfl, ⟨rfl, rfl, rfl, rfl, rfl, rfl, rfl, rfl, rfl⟩, fun j h1 h2 => by
        rcases h2 with w | w
        · subst w; exact ⟨pk_us, rfl⟩
        · omega, fun j h1 h2 h3 => absurd h3 (by omega)⟩)
      refine ⟨N', κ, φ, be', rs', gc', mv', b5, b6, b7, b8, b9, b10, b11, b12, b13, b14, b15, b16, b17, b18, b19, b20, b21, p1, p2, p3, fun hI => ?_, ?_⟩
      · obtain ⟨k1, k2, k3, k4, k5, k6⟩ := p4 hI
        exact ⟨k1, k2, k3, k4, by rw [k5]; exact hrt0.symm, k6⟩
      · intro post kc gc mv a4 a22 a23 H
        unfold wpX_show
        dsimp only
        rw [crt]
        refine br_f hn31 (br_t (by decide) (br_f hrne ⟨hin, br_t hkp.1 ⟨hin, br_t hkp.2 ?_⟩⟩))
        unfold wX_show_87
        rw [c0]
        exact ⟨pk_in 0 16 (by omega), nm_r (e' := upd a15 0 1) rfl (nm_e (br_f (by rw [pk_us]; decide) (p5 post 0 rt a4 a22 a23 H)))⟩
    · -- the root goes
      have hclr : ∀ x, 0 < x → x < 33 → kr_clr a5 b0 0 (n0 - 0) x = 0 := fun x h1 h2 => by
        by_cases w : ∃ t, t < n0 ∧ x = b0 t
        · obtain ⟨t, t1, t2⟩ := w
          rw [t2]; exact kr_clr_in _ t (by omega) (by omega)
        · rw [kr_clr_out _ (fun u g1 g2 e => w ⟨u, by omega, e⟩)]
          apply Classical.byContradiction
          intro h3
          exact w ((hus x h1 h2).mp h3)
      have hM : kr_MI n par a1 a2 n0 par0 b0 (fun x => (a7 x).toNatClampNeg) 0 N (fun _ => False) (fun _ => 0) (fun _ => 0) (nI N) (kr_clr a5 b0 0 (n0 - 0)) a6 a7 a8 a10 a11 a12 a13 (upd a14 0 rt) (upd a15 0 0) a21 := by
        refine ⟨fun j h1 h2 => ?_, fun j h1 => absurd h1 (by omega), fun j k h1 => absurd h1 (by omega), fun j k h1 h2 h3 h4 h5 h6 h7 => ?_, fun j h1 h2 h3 h4 => ?_, fun j h1 => absurd h1 (by omega), fun t ht => ht.elim, fun t ht => ht.elim, fun x h1 h2 => ⟨fun h3 => absurd (hclr x h1 h2) h3, ?_⟩, fun j t h1 => absurd h1 (by omega), fun j h1 => absurd h1 (by omega), rfl, fun x h1 h2 h3 => absurd (hclr x h1 h2) h3, fun x y h1 h2 h3 h4 h5 => absurd (hclr x h1 h2) h5⟩
        · rcases h2 with w | w
          · subst w; exact Or.inl pk_us
          · omega
        · omega
        · rcases h3 with w | w
          · subst w; rw [pk_us] at h4; exact absurd h4 (by decide)
          · omega
        · rintro (⟨j, h3, _⟩ | ⟨t, h3, _⟩)
          · omega
          · exact h3.elim
      have hnI : ¬ kr_Idc n par a1 a2 n0 par0 b0 a6 a7 := fun hI => hkp ⟨(hI.2.2.1 0 hn).symm, (hI.2.2.2 0 hn).symm⟩
      obtain ⟨N', κ, φ, be', rs', gc', mv', b5, b6, b7, b8, b9, b10, b11, b12, b13, b14, b15, b16, b17, b18, b19, b20, b21, p1, p2, p3, p4, p5⟩ := kt_show_go (N0 := N) (rs := rs) (gc := 0 + nI (n0 - 0)) (a9 := a9) (a16 := a16) (a17 := a17) (a18 := a18) (a19 := a19) (a20 := a20) (A5 := a5) (A6 := a6) (A7 := a7) (A8 := a8) (A9 := a9) (A10 := a10) (A11 := a11) (A12 := a12) (A13 := a13) hD hO hn (hup hz0) hN hM (fun hI => absurd hI hnI)
      refine ⟨N', κ, φ, be', rs', gc', mv', b5, b6, b7, b8, b9, b10, b11, b12, b13, b14, b15, b16, b17, b18, b19, b20, b21, p1, p2, p3, fun hI => absurd hI hnI, ?_⟩
      intro post kc gc mv a4 a22 a23 H
      have key : wX_show_86 post 0 0 (nI n) 0 rt (nI N) rs 0 0 0 a1 a2 a3 a4 a5 a6 a7 a8 a9 a10 a11 a12 a13 a14 a15 a16 a17 a18 a19 a20 a21 a22 a23 := by
        unfold wX_show_86 wX_show_87
        rw [c0]
        refine ⟨pk_in 0 16 (by omega), nm_r (e' := upd a15 0 0) rfl (nm_e (br_t pk_us (br_f hrne ?_)))⟩
        have hdrop := kt_drop (dr := nI n) (opn := 0) (rt := rt) (nid := nI N) (rs := rs) (kc := 0) (gc := 0) (mv := 0) (a1 := a1) (a2 := a2) (a3 := a3) (a4 := a4) (a5 := a5) (a6 := a6) (a7 := a7) (a8 := a8) (a9 := a9) (a14 := upd a14 0 rt) (a15 := upd a15 0 0) (a16 := a16) (a17 := a17) (a18 := a18) (a19 := a19) (a20 := a20) (a21 := a21) (a22 := a22) (a23 := a23) (post := fun u => match u with | (dr_q, opn_q, rt_q, nid_q, rs_q, kc_q, gc_q, mv_q, a1_q, a2_q, a3_q, a4_q, a5_q, a6_q, a7_q, a8_q, a9_q, a10_q, a11_q, a12_q, a13_q, a14_q, a15_q, a16_q, a17_q, a18_q, a19_q, a20_q, a21_q, a22_q, a23_q) => ∃ f, wX_show_124 post f 0 0 dr_q opn_q rt_q nid_q rs_q kc_q gc_q mv_q a1_q a2_q a3_q a4_q a5_q a6_q a7_q a8_q a9_q a10_q a11_q a12_q a13_q a14_q a15_q a16_q a17_q a18_q a19_q a20_q a21_q a22_q a23_q) hS0 (kr_en_0 hz0) (by omega) (fun t _ h => hb t h) (fun t _ h => hk t h) (fun t _ h => hNd t h) (fun o p => p5 post 0 rt a4 o p H)
        rw [← hrt0] at hdrop
        exact hdrop
      unfold wpX_show
      dsimp only
      rw [crt]
      refine br_f hn31 (br_t (by decide) (br_f hrne ⟨hin, br_c (fun w1 => ⟨hin, br_c (fun w2 => absurd ⟨w1, w2⟩ hkp) (fun _ => key)⟩) (fun _ => key)⟩))
end
section
/-- the draft and its unclosed places: d places, oc unclosed -/
def kr_DI (dr opn : Int32) (a2 a3 a4 : Nat → Int32) (d oc : Nat) (par ky st : Nat → Nat) : Prop :=
  dr = nI d ∧ opn = nI oc ∧ kr_Dr d par ky a2 a3 ∧ oc ≤ d ∧ (∀ k, k < oc → a4 k = nI (st k) ∧ st k < d ∧ ∀ j, st k < j → j < d → st k ≤ par j) ∧ (∀ k l, k < l → l < oc → st k < st l)
theorem kt_twin {a2 a3 : Nat → Int32} {d : Nat} {x1 x2 : Int32} (hd : d ≤ 16) : ∀ (q j : Nat), d - j = q → j ≤ d → ∃ r : Int32, (r = 0 → ∀ k, j ≤ k → k < d → ¬ (a3 k = x1 ∧ a2 k = x2)) ∧
    ∀ (post : Int32 → Prop) (opn rt nid rs kc gc mv : Int32) (a1 a4 a5 a6 a7 a8 a9 a10 a11 a12 a13 a14 a15 a16 a17 a18 a19 a20 a21 a22 a23 : Nat → Int32) (f : Nat), d - j < f → post r → wX_twin_2 post x1 x2 (nI d) opn rt nid rs kc gc mv a1 a2 a3 a4 a5 a6 a7 a8 a9 a10 a11 a12 a13 a14 a15 a16 a17 a18 a19 a20 a21 a22 a23 f (nI j) := by
  intro q
  induction q with
  | zero =>
    intro j hq hj
    refine ⟨0, fun _ k h1 h2 => absurd h1 (by omega), ?_⟩
    intro post opn rt nid rs kc gc mv a1 a4 a5 a6 a7 a8 a9 a10 a11 a12 a13 a14 a15 a16 a17 a18 a19 a20 a21 a22 a23 f hf H
    obtain ⟨f, rfl⟩ : ∃ g, f = g + 1 := ⟨f - 1, by omega⟩
    exact pk_le d j (fun _ => H) (fun z => absurd z (by omega))
  | succ q ih =>
    intro j hq hj
    have cj := nI_clamp (show j < 2 ^ 31 by omega)
    obtain ⟨r, p1, p2⟩ := ih (j + 1) (by omega) (by omega)
    by_cases h3 : a3 j = x1
    · by_cases h2 : a2 j = x2
      · refine ⟨1, fun z => absurd z (by decide), ?_⟩
        intro post opn rt nid rs kc gc mv a1 a4 a5 a6 a7 a8 a9 a10 a11 a12 a13 a14 a15 a16 a17 a18 a19 a20 a21 a22 a23 f hf H
        obtain ⟨f, rfl⟩ : ∃ g, f = g + 1 := ⟨f - 1, by omega⟩
        exact pk_le d j (fun z => absurd z (by omega)) (fun _ => ⟨pk_in j 16 (by omega), br_t (by rw [cj]; exact h3) ⟨pk_in j 16 (by omega), br_t (by rw [cj]; exact h2) H⟩⟩)
      · refine ⟨r, fun z k h1 h4 => ?_, ?_⟩
        · rcases Nat.eq_or_lt_of_le h1 with w | w
          · subst w; exact fun t => h2 t.2
          · exact p1 z k w h4
        · intro post opn rt nid rs kc gc mv a1 a4 a5 a6 a7 a8 a9 a10 a11 a12 a13 a14 a15 a16 a17 a18 a19 a20 a21 a22 a23 f hf H
          obtain ⟨f, rfl⟩ : ∃ g, f = g + 1 := ⟨f - 1, by omega⟩
          exact pk_le d j (fun z => absurd z (by omega)) (fun _ => ⟨pk_in j 16 (by omega), br_t (by rw [cj]; exact h3) ⟨pk_in j 16 (by omega), br_f (by rw [cj]; exact h2) (nm_r (nI_1 j) (p2 post opn rt nid rs kc gc mv a1 a4 a5 a6 a7 a8 a9 a10 a11 a12 a13 a14 a15 a16 a17 a18 a19 a20 a21 a22 a23 f (by omega) H))⟩⟩)
    · refine ⟨r, fun z k h1 h4 => ?_, ?_⟩
      · rcases Nat.eq_or_lt_of_le h1 with w | w
        · subst w; exact fun t => h3 t.1
        · exact p1 z k w h4
      · intro post opn rt nid rs kc gc mv a1 a4 a5 a6 a7 a8 a9 a10 a11 a12 a13 a14 a15 a16 a17 a18 a19 a20 a21 a22 a23 f hf H
        obtain ⟨f, rfl⟩ : ∃ g, f = g + 1 := ⟨f - 1, by omega⟩
        exact pk_le d j (fun z => absurd z (by omega)) (fun _ => ⟨pk_in j 16 (by omega), br_f (by rw [cj]; exact h3) (nm_r (nI_1 j) (p2 post opn rt nid rs kc gc mv a1 a4 a5 a6 a7 a8 a9 a10 a11 a12 a13 a14 a15 a16 a17 a18 a19 a20 a21 a22 a23 f (by omega) H))⟩)
theorem kt_open89 {post : Int32 → St1 → Prop} {dr opn rt nid rs kc gc mv : Int32} {a1 a2 a3 a4 a5 a6 a7 a8 a9 a10 a11 a12 a13 a14 a15 a16 a17 a18 a19 a20 a21 a22 a23 : Nat → Int32} {x1 x2 x3 : Int32} {d oc : Nat} (hd : d < 16) (ho : oc < 16) (H : post (nI (oc + 1)) (nI (d + 1), nI (oc + 1), rt, nid, rs, kc, gc, mv, upd a1 d x1, upd a2 d x2, upd a3 d x3, upd a4 oc (nI d), a5, a6, a7, a8, a9, a10, a11, a12, a13, a14, a15, a16, a17, a18, a19, a20, a21, a22, a23)) : wX_open_89 post x1 x2 x3 (nI d) (nI oc) rt nid rs kc gc mv a1 a2 a3 a4 a5 a6 a7 a8 a9 a10 a11 a12 a13 a14 a15 a16 a17 a18 a19 a20 a21 a22 a23 := by
  unfold wX_open_89
  rw [nI_clamp (show d < 2 ^ 31 by omega), nI_clamp (show oc < 2 ^ 31 by omega)]
  exact ⟨pk_in d 16 hd, nm_e ⟨pk_in d 16 hd, nm_e ⟨pk_in d 16 hd, nm_e ⟨pk_in oc 16 ho, nm_e (nm_r (nI_1 oc) (nm_r (nI_1 d) H))⟩⟩⟩⟩
/-- a new place in the draft -/
theorem kr_DI_new {a1 a2 a3 a4 : Nat → Int32} {d oc ty k0 : Nat} {x3 : Int32} {par ky st : Nat → Nat} (h : kr_DI (nI d) (nI oc) a2 a3 a4 d oc par ky st) (hd : d < 16) (hk0 : k0 < 10) (h0 : oc = 0 → d = 0) (hp : 0 < oc → x3 = nI (st (oc - 1))) (htw : 0 < oc → ∀ k, k < d → ¬ (a3 k = nI (st (oc - 1)) ∧ a2 k = nI k0)) :
    kr_DI (nI (d + 1)) (nI (oc + 1)) (upd a2 d (nI k0)) (upd a3 d x3) (upd a4 oc (nI d)) (d + 1) (oc + 1) (fun j => if j = d then st (oc - 1) else par j) (fun j => if j = d then k0 else ky j) (fun k => if k = oc then d else st k) := by
  obtain ⟨_, _, ⟨hd16, ⟨hS1, hS2⟩, hpar, hky, hdist⟩, hod, hst, hinc⟩ := h
  have hoc : 0 < d → 0 < oc := fun w => by
    rcases Nat.eq_zero_or_pos oc with z | z
    · have := h0 z; omega
    · exact z
  have htop : 0 < oc → st (oc - 1) < d ∧ ∀ j, st (oc - 1) < j → j < d → st (oc - 1) ≤ par j := fun w => (hst (oc - 1) (by omega)).2
  refine ⟨rfl, rfl, ⟨by omega, ⟨fun j h1 h2 => ?_, fun i j k h1 h2 h3 h4 => ?_⟩, fun j h1 h2 => ?_, fun j h1 => ?_, fun j k h1 h2 h3 h4 => ?_⟩, by omega, fun k hk => ?_, fun k l h1 h2 => ?_⟩
  · show (if j = d then st (oc - 1) else par j) < j
    by_cases e : j = d
    · rw [if_pos e]; have := (htop (hoc (by omega))).1; omega
    · rw [if_neg e]; exact hS1 j h1 (by omega)
  · have h4' : (if j = d then st (oc - 1) else par j) < i := h4
    show (if k = d then st (oc - 1) else par k) ≠ i
    rw [if_neg (by omega)] at h4'
    by_cases e : k = d
    · rw [if_pos e]
      intro z
      have := (htop (hoc (by omega))).2 j (by omega) (by omega)
      omega
    · rw [if_neg e]
      exact hS2 i j k h1 h2 (by omega) h4'
  · show upd a3 d x3 j = nI (if j = d then st (oc - 1) else par j) ∧ (if j = d then st (oc - 1) else par j) < 16
    by_cases e : j = d
    · rw [if_pos e, e, pk_us]
      have w := hoc (by omega)
      exact ⟨hp w, by have := (htop w).1; omega⟩
    · rw [if_neg e, pk_un e]; exact hpar j h1 (by omega)
  · show upd a2 d (nI k0) j = nI (if j = d then k0 else ky j) ∧ (if j = d then k0 else ky j) < 10
    by_cases e : j = d
    · rw [if_pos e, e, pk_us]; exact ⟨rfl, hk0⟩
    · rw [if_neg e, pk_un e]; exact hky j (by omega)
  · have h4' : (if j = d then st (oc - 1) else par j) = (if k = d then st (oc - 1) else par k) := h4
    show (if j = d then k0 else ky j) ≠ (if k = d then k0 else ky k)
    rw [if_neg (show ¬ j = d by omega)] at h4' ⊢
    by_cases e : k = d
    · rw [if_pos e] at h4' ⊢
      intro z
      have w := hoc (by omega)
      refine htw w j (by omega) ⟨?_, ?_⟩
      · rw [(hpar j h1 (by omega)).1, h4']
      · rw [(hky j (by omega)).1, z]
    · rw [if_neg e] at h4' ⊢
      exact hdist j k h1 h2 (by omega) h4'
  · show upd a4 oc (nI d) k = nI (if k = oc then d else st k) ∧ (if k = oc then d else st k) < d + 1 ∧ ∀ j, (if k = oc then d else st k) < j → j < d + 1 → (if k = oc then d else st k) ≤ (if j = d then st (oc - 1) else par j)
    by_cases e : k = oc
    · rw [if_pos e, e, pk_us]
      exact ⟨rfl, by omega, fun j h1 h2 => absurd h1 (by omega)⟩
    · rw [if_neg e, pk_un e]
      obtain ⟨y1, y2, y3⟩ := hst k (by omega)
      refine ⟨y1, by omega, fun j h1 h2 => ?_⟩
      by_cases e2 : j = d
      · rw [if_pos e2]
        rcases Nat.lt_or_ge k (oc - 1) with w | w
        · exact Nat.le_of_lt (hinc k (oc - 1) w (by omega))
        · rw [show k = oc - 1 by omega]; exact Nat.le_refl _
      · rw [if_neg e2]; exact y3 j h1 (by omega)
  · show (if k = oc then d else st k) < (if l = oc then d else st l)
    rw [if_neg (show ¬ k = oc by omega)]
    by_cases e : l = oc
    · rw [if_pos e]; exact (hst k (by omega)).2.1
    · rw [if_neg e]; exact hinc k l h1 (by omega)
theorem kt_open {a1 a2 a3 a4 : Nat → Int32} {dr opn : Int32} {d oc ty k0 : Nat} {par ky st : Nat → Nat} (h : kr_DI dr opn a2 a3 a4 d oc par ky st) (hty : ty < 4) (hk0 : k0 < 8) :
    ∃ (ans dr' opn' : Int32) (a1' a2' a3' a4' : Nat → Int32) (d' oc' : Nat) (par' ky' st' : Nat → Nat), kr_DI dr' opn' a2' a3' a4' d' oc' par' ky' st' ∧
    ∀ (post : Int32 → St1 → Prop) (rt nid rs kc gc mv : Int32) (a5 a6 a7 a8 a9 a10 a11 a12 a13 a14 a15 a16 a17 a18 a19 a20 a21 a22 a23 : Nat → Int32), post ans (dr', opn', rt, nid, rs, kc, gc, mv, a1', a2', a3', a4', a5, a6, a7, a8, a9, a10, a11, a12, a13, a14, a15, a16, a17, a18, a19, a20, a21, a22, a23) → wpX_open post (dr, opn, rt, nid, rs, kc, gc, mv, a1, a2, a3, a4, a5, a6, a7, a8, a9, a10, a11, a12, a13, a14, a15, a16, a17, a18, a19, a20, a21, a22, a23) (nI ty) (nI k0) := by
  obtain ⟨e1, e2, hD, hod, hst, hinc⟩ := id h
  subst e1 e2
  have hd16 := hD.1
  -- the four questions ahead
  have hw : ∀ (post : Int32 → St1 → Prop) (rt nid rs kc gc mv : Int32) (a5 a6 a7 a8 a9 a10 a11 a12 a13 a14 a15 a16 a17 a18 a19 a20 a21 a22 a23 : Nat → Int32), (d = 16 → post (-2) (nI d, nI oc, rt, nid, rs, kc, gc, mv, a1, a2, a3, a4, a5, a6, a7, a8, a9, a10, a11, a12, a13, a14, a15, a16, a17, a18, a19, a20, a21, a22, a23)) → (d ≠ 16 → oc = 0 → wX_open_55 post (nI ty) (nI k0) (-1) (nI d) (nI oc) rt nid rs kc gc mv a1 a2 a3 a4 a5 a6 a7 a8 a9 a10 a11 a12 a13 a14 a15 a16 a17 a18 a19 a20 a21 a22 a23) → (d ≠ 16 → oc ≠ 0 → wX_open_55 post (nI ty) (nI k0) (nI (st (oc - 1))) (nI d) (nI oc) rt nid rs kc gc mv a1 a2 a3 a4 a5 a6 a7 a8 a9 a10 a11 a12 a13 a14 a15 a16 a17 a18 a19 a20 a21 a22 a23) → wpX_open post (nI d, nI oc, rt, nid, rs, kc, gc, mv, a1, a2, a3, a4, a5, a6, a7, a8, a9, a10, a11, a12, a13, a14, a15, a16, a17, a18, a19, a20, a21, a22, a23) (nI ty) (nI k0) := by
    intro post rt nid rs kc gc mv a5 a6 a7 a8 a9 a10 a11 a12 a13 a14 a15 a16 a17 a18 a19 a20 a21 a22 a23 H1 H2 H3
    unfold wpX_open
    refine br_f (nI_pos (by omega)) (pk_lt 3 ty (fun z => absurd z (by omega)) (fun _ => br_f (nI_pos (by omega)) (pk_lt k0 10 (fun _ => pk_eq d 16 H1 (fun z => pk_eq oc 0 (H2 z) (fun w => ⟨pk_in (oc - 1) 16 (by omega) ?_, ?_⟩))) (fun z => absurd z (by omega)))))
    · obtain ⟨c, rfl⟩ : ∃ c, oc = c + 1 := ⟨oc - 1, by omega⟩
      rw [nI_pred]; rfl
    · have e1 : nI oc - 1 = nI (oc - 1) := by
        obtain ⟨c, rfl⟩ : ∃ c, oc = c + 1 := ⟨oc - 1, by omega⟩
        rw [nI_pred]; rfl
      rw [e1, nI_clamp (by omega), (hst (oc - 1) (by omega)).1]
      exact H3 z w
  by_cases hf : d = 16
  · exact ⟨-2, nI d, nI oc, a1, a2, a3, a4, d, oc, par, ky, st, h, fun post rt nid rs kc gc mv a5 a6 a7 a8 a9 a10 a11 a12 a13 a14 a15 a16 a17 a18 a19 a20 a21 a22 a23 H => hw post rt nid rs kc gc mv a5 a6 a7 a8 a9 a10 a11 a12 a13 a14 a15 a16 a17 a18 a19 a20 a21 a22 a23 (fun _ => H) (fun z => absurd hf z) (fun z => absurd hf z)⟩
  · by_cases ho : oc = 0
    · by_cases hd0 : d = 0
      · refine ⟨nI (oc + 1), nI (d + 1), nI (oc + 1), upd a1 d (nI ty), upd a2 d (nI k0), upd a3 d (-1), upd a4 oc (nI d), d + 1, oc + 1, _, _, _, kr_DI_new (a1 := a1) (ty := ty) (x3 := -1) h (by omega) (by omega) (fun _ => hd0) (fun w => absurd w (by omega)) (fun w => absurd w (by omega)), ?_⟩
        intro post rt nid rs kc gc mv a5 a6 a7 a8 a9 a10 a11 a12 a13 a14 a15 a16 a17 a18 a19 a20 a21 a22 a23 H
        refine hw post rt nid rs kc gc mv a5 a6 a7 a8 a9 a10 a11 a12 a13 a14 a15 a16 a17 a18 a19 a20 a21 a22 a23 (fun z => absurd z hf) (fun _ _ => ?_) (fun _ z => absurd ho z)
        unfold wX_open_55
        refine pk_eq oc 0 (fun _ => pk_lt 0 d (fun z => absurd z (by omega)) (fun _ => ?_)) (fun z => absurd ho z)
        unfold wX_open_70
        exact pk_le oc 0 (fun _ => kt_open89 (dr := 0) (opn := 0) (by omega) (by omega) H) (fun z => absurd z (by omega))
      · refine ⟨-4, nI d, nI oc, a1, a2, a3, a4, d, oc, par, ky, st, h, ?_⟩
        intro post rt nid rs kc gc mv a5 a6 a7 a8 a9 a10 a11 a12 a13 a14 a15 a16 a17 a18 a19 a20 a21 a22 a23 H
        refine hw post rt nid rs kc gc mv a5 a6 a7 a8 a9 a10 a11 a12 a13 a14 a15 a16 a17 a18 a19 a20 a21 a22 a23 (fun z => absurd z hf) (fun _ _ => ?_) (fun _ z => absurd ho z)
        unfold wX_open_55
        exact pk_eq oc 0 (fun _ => pk_lt 0 d (fun _ => H) (fun z => absurd z (by omega))) (fun z => absurd ho z)
    · obtain ⟨r, r1, r2⟩ := kt_twin (a2 := a2) (a3 := a3) (x1 := nI (st (oc - 1))) (x2 := nI k0) hd16 (d - 0) 0 rfl (by omega)
      by_cases hr : r = 0
      · refine ⟨nI (oc + 1), nI (d + 1), nI (oc + 1), upd a1 d (nI ty), upd a2 d (nI k0), upd a3 d (nI (st (oc - 1))), upd a4 oc (nI d), d + 1, oc + 1, _, _, _, kr_DI_new (a1 := a1) (ty := ty) (x3 := nI (st (oc - 1))) h (by omega) (by omega) (fun w => absurd w ho) (fun _ => rfl) (fun _ k hk => r1 hr k (by omega) hk), ?_⟩
        intro post rt nid rs kc gc mv a5 a6 a7 a8 a9 a10 a11 a12 a13 a14 a15 a16 a17 a18 a19 a20 a21 a22 a23 H
        refine hw post rt nid rs kc gc mv a5 a6 a7 a8 a9 a10 a11 a12 a13 a14 a15 a16 a17 a18 a19 a20 a21 a22 a23 (fun z => absurd z hf) (fun _ z => absurd z ho) (fun _ _ => ?_)
        unfold wX_open_55
        refine pk_eq oc 0 (fun z => absurd z ho) (fun _ => ?_)
        unfold wX_open_70
        refine pk_le oc 0 (fun z => absurd z (by omega)) (fun _ => ?_)
        unfold wpX_twin
        exact ⟨d - 0 + 1, r2 _ (nI oc) rt nid rs kc gc mv a1 a4 a5 a6 a7 a8 a9 a10 a11 a12 a13 a14 a15 a16 a17 a18 a19 a20 a21 a22 a23 _ (by omega) (br_t hr (kt_open89 (dr := 0) (opn := 0) (by omega) (by omega) H))⟩
      · refine ⟨-4, nI d, nI oc, a1, a2, a3, a4, d, oc, par, ky, st, h, ?_⟩
        intro post rt nid rs kc gc mv a5 a6 a7 a8 a9 a10 a11 a12 a13 a14 a15 a16 a17 a18 a19 a20 a21 a22 a23 H
        refine hw post rt nid rs kc gc mv a5 a6 a7 a8 a9 a10 a11 a12 a13 a14 a15 a16 a17 a18 a19 a20 a21 a22 a23 (fun z => absurd z hf) (fun _ z => absurd z ho) (fun _ _ => ?_)
        unfold wX_open_55
        refine pk_eq oc 0 (fun z => absurd z ho) (fun _ => ?_)
        unfold wX_open_70
        refine pk_le oc 0 (fun z => absurd z (by omega)) (fun _ => ?_)
        unfold wpX_twin
        exact ⟨d - 0 + 1, r2 _ (nI oc) rt nid rs kc gc mv a1 a4 a5 a6 a7 a8 a9 a10 a11 a12 a13 a14 a15 a16 a17 a18 a19 a20 a21 a22 a23 _ (by omega) (br_f hr H)⟩
theorem kt_close {a2 a3 a4 : Nat → Int32} {dr opn : Int32} {d oc : Nat} {par ky st : Nat → Nat} (h : kr_DI dr opn a2 a3 a4 d oc par ky st) :
    ∃ (ans opn' : Int32) (oc' : Nat), kr_DI dr opn' a2 a3 a4 d oc' par ky st ∧
    ∀ (post : Int32 → St1 → Prop) (rt nid rs kc gc mv : Int32) (a1 a5 a6 a7 a8 a9 a10 a11 a12 a13 a14 a15 a16 a17 a18 a19 a20 a21 a22 a23 : Nat → Int32), post ans (dr, opn', rt, nid, rs, kc, gc, mv, a1, a2, a3, a4, a5, a6, a7, a8, a9, a10, a11, a12, a13, a14, a15, a16, a17, a18, a19, a20, a21, a22, a23) → wpX_close post (dr, opn, rt, nid, rs, kc, gc, mv, a1, a2, a3, a4, a5, a6, a7, a8, a9, a10, a11, a12, a13, a14, a15, a16, a17, a18, a19, a20, a21, a22, a23) := by
  obtain ⟨e1, e2, hD, hod, hst, hinc⟩ := id h
  subst e1 e2
  have hd16 := hD.1
  by_cases ho : oc = 0
  · refine ⟨-4, nI oc, oc, h, ?_⟩
    intro post rt nid rs kc gc mv a1 a5 a6 a7 a8 a9 a10 a11 a12 a13 a14 a15 a16 a17 a18 a19 a20 a21 a22 a23 H
    unfold wpX_close
    exact pk_eq oc 0 (fun _ => H) (fun z => absurd ho z)
  · refine ⟨nI (oc - 1), nI (oc - 1), oc - 1, ⟨rfl, rfl, hD, by omega, fun k hk => hst k (by omega), fun k l h1 h2 => hinc k l h1 (by omega)⟩, ?_⟩
    intro post rt nid rs kc gc mv a1 a5 a6 a7 a8 a9 a10 a11 a12 a13 a14 a15 a16 a17 a18 a19 a20 a21 a22 a23 H
    unfold wpX_close
    refine pk_eq oc 0 (fun z => absurd z ho) (fun _ => nm_r (e' := nI (oc - 1)) ?_ H)
    obtain ⟨c, rfl⟩ : ∃ c, oc = c + 1 := ⟨oc - 1, by omega⟩
    rw [nI_pred]; rfl
theorem kt_leaf {a1 a2 a3 a4 : Nat → Int32} {dr opn : Int32} {d oc ty k0 : Nat} {par ky st : Nat → Nat} (h : kr_DI dr opn a2 a3 a4 d oc par ky st) (hty : ty < 4) (hk0 : k0 < 8) :
    ∃ (ans dr' opn' : Int32) (a1' a2' a3' a4' : Nat → Int32) (d' oc' : Nat) (par' ky' st' : Nat → Nat), kr_DI dr' opn' a2' a3' a4' d' oc' par' ky' st' ∧
    ∀ (post : Int32 → St1 → Prop) (rt nid rs kc gc mv : Int32) (a5 a6 a7 a8 a9 a10 a11 a12 a13 a14 a15 a16 a17 a18 a19 a20 a21 a22 a23 : Nat → Int32), post ans (dr', opn', rt, nid, rs, kc, gc, mv, a1', a2', a3', a4', a5, a6, a7, a8, a9, a10, a11, a12, a13, a14, a15, a16, a17, a18, a19, a20, a21, a22, a23) → wpX_leaf post (dr, opn, rt, nid, rs, kc, gc, mv, a1, a2, a3, a4, a5, a6, a7, a8, a9, a10, a11, a12, a13, a14, a15, a16, a17, a18, a19, a20, a21, a22, a23) (nI ty) (nI k0) := by
  obtain ⟨ans, dr', opn', a1', a2', a3', a4', d', oc', par', ky', st', h', hw⟩ := kt_open (a1 := a1) h hty hk0
  by_cases ha : 0 ≤ ans
  · obtain ⟨ans2, opn2, oc2, h2, hw2⟩ := kt_close h'
    refine ⟨ans2, dr', opn2, a1', a2', a3', a4', d', oc2, par', ky', st', h2, ?_⟩
    intro post rt nid rs kc gc mv a5 a6 a7 a8 a9 a10 a11 a12 a13 a14 a15 a16 a17 a18 a19 a20 a21 a22 a23 H
    unfold wpX_leaf
    refine hw _ rt nid rs kc gc mv a5 a6 a7 a8 a9 a10 a11 a12 a13 a14 a15 a16 a17 a18 a19 a20 a21 a22 a23 (br_t ha ?_)
    exact hw2 _ rt nid rs kc gc mv a1' a5 a6 a7 a8 a9 a10 a11 a12 a13 a14 a15 a16 a17 a18 a19 a20 a21 a22 a23 H
  · refine ⟨ans, dr', opn', a1', a2', a3', a4', d', oc', par', ky', st', h', ?_⟩
    intro post rt nid rs kc gc mv a5 a6 a7 a8 a9 a10 a11 a12 a13 a14 a15 a16 a17 a18 a19 a20 a21 a22 a23 H
    unfold wpX_leaf
    exact hw _ rt nid rs kc gc mv a5 a6 a7 a8 a9 a10 a11 a12 a13 a14 a15 a16 a17 a18 a19 a20 a21 a22 a23 (br_f ha H)
end
section
/-- the first t places filled -/
def kr_rc (a v : Nat → Int32) : Nat → Nat → Int32
  | 0 => a
  | t + 1 => upd (kr_rc a v t) t (v t)
def kr_rc3 (a3 : Nat → Int32) (par : Nat → Nat) : Nat → Nat → Int32
  | 0 => a3
  | t + 1 => if 0 < t then upd (upd (kr_rc3 a3 par t) t (-1)) t (nI (par t)) else upd (kr_rc3 a3 par t) t (-1)
theorem kr_rc_at {a v : Nat → Int32} : ∀ (t j : Nat), j < t → kr_rc a v t j = v j := by
  intro t
  induction t with
  | zero => intro j h; omega
  | succ t ih =>
    intro j h
    show upd (kr_rc a v t) t (v t) j = v j
    by_cases e : j = t
    · rw [e]; exact pk_us
    · rw [pk_un e]; exact ih j (by omega)
theorem kr_rc3_at {a3 : Nat → Int32} {par : Nat → Nat} : ∀ (t j : Nat), 0 < j → j < t → kr_rc3 a3 par t j = nI (par j) := by
  intro t
  induction t with
  | zero => intro j h0 h; omega
  | succ t ih =>
    intro j h0 h
    show (if 0 < t then upd (upd (kr_rc3 a3 par t) t (-1)) t (nI (par t)) else upd (kr_rc3 a3 par t) t (-1)) j = nI (par j)
    rw [if_pos (by omega)]
    by_cases e : j = t
    · rw [e]; exact pk_us
    · rw [pk_un e, pk_un e]; exact ih j h0 (by omega)
theorem kt_recall {post : Int32 → St1 → Prop} {dr opn rt nid rs kc gc mv : Int32} {a1 a2 a3 a4 a5 a6 a7 a8 a9 a10 a11 a12 a13 a14 a15 a16 a17 a18 a19 a20 a21 a22 a23 : Nat → Int32} {n : Nat} {b par : Nat → Nat} (hV : kr_V rt a10 a11 a12 a13 n b par)
    (H : ∀ o p : Nat → Int32, post (nI n) (nI n, 0, rt, nid, rs, kc, gc, mv, kr_rc a1 (fun t => a6 (b t)) n, kr_rc a2 (fun t => a7 (b t)) n, kr_rc3 a3 par n, a4, a5, a6, a7, a8, a9, a10, a11, a12, a13, a14, a15, a16, a17, a18, a19, a20, a21, o, p)) : wpX_recall post (dr, opn, rt, nid, rs, kc, gc, mv, a1, a2, a3, a4, a5, a6, a7, a8, a9, a10, a11, a12, a13, a14, a15, a16, a17, a18, a19, a20, a21, a22, a23) := by
  have hn := hV.1
  have hS := hV.2.1
  have hb := hV.2.2.1
  have hinj := hV.2.2.2.2.2.2.1
  unfold wpX_recall
  refine kt_root hV (fun o p ho => ?_)
  refine pk_loop (fun f j (s : (Nat → Int32) × (Nat → Int32) × (Nat → Int32)) => wX_recall_11 post (nI n) dr opn rt nid rs kc gc mv f (nI j) s.1 s.2.1 s.2.2 a4 a5 a6 a7 a8 a9 a10 a11 a12 a13 a14 a15 a16 a17 a18 a19 a20 a21 o p) (fun j s => s = (kr_rc a1 (fun t => a6 (b t)) j, kr_rc a2 (fun t => a7 (b t)) j, kr_rc3 a3 par j)) n 0 (a1, a2, a3) (by omega) rfl (fun f s hs => ?_) (fun f t s ht hs hw => ?_)
  · subst hs
    exact pk_le n n (fun _ => H o p) (fun z => absurd z (by omega))
  · subst hs
    have hbt := (hb t ht).2
    have ct := nI_clamp (show t < 2 ^ 31 by omega)
    have cb := nI_clamp (show b t < 2 ^ 31 by omega)
    have e1 : o (nI t).toNatClampNeg = nI (b t) := by rw [ct, ho t ht]
    refine pk_le n t (fun z => absurd z (by omega)) (fun _ => ⟨pk_in t 33 (by omega), nm_r e1 ⟨pk_in (b t) 33 hbt, pk_in t 16 (by omega), nm_r (e' := kr_rc a1 (fun t => a6 (b t)) (t + 1)) (by rw [ct, cb]; rfl) ⟨pk_in (b t) 33 hbt, pk_in t 16 (by omega), nm_r (e' := kr_rc a2 (fun t => a7 (b t)) (t + 1)) (by rw [ct, cb]; rfl) ⟨pk_in t 16 (by omega), nm_r (e' := upd (kr_rc3 a3 par t) t (-1)) (by rw [ct]) ?_⟩⟩⟩⟩)
    refine pk_loop (fun f j (s : Nat → Int32) => wX_recall_57 post (wX_recall_11 post (nI n) dr opn rt nid rs kc gc mv _) (nI n) (nI t) (nI (b t)) dr opn rt nid rs kc gc mv f (nI j) (kr_rc a1 (fun t => a6 (b t)) (t + 1)) (kr_rc a2 (fun t => a7 (b t)) (t + 1)) s a4 a5 a6 a7 a8 a9 a10 a11 a12 a13 a14 a15 a16 a17 a18 a19 a20 a21 o p) (fun j s => s = if 0 < t ∧ par t < j then upd (upd (kr_rc3 a3 par t) t (-1)) t (nI (par t)) else upd (kr_rc3 a3 par t) t (-1)) t 0 (upd (kr_rc3 a3 par t) t (-1)) (by omega) (by rw [if_neg (by omega)]) (fun f' s hs => ?_) (fun f' j s hj hs hw' => ?_)
    · refine pk_le t t (fun _ => nm_r (nI_1 t) ?_) (fun z => absurd z (by omega))
      refine hw (kr_rc a1 (fun t => a6 (b t)) (t + 1), kr_rc a2 (fun t => a7 (b t)) (t + 1), s) ?_
      have e3 : s = kr_rc3 a3 par (t + 1) := by
        rw [hs]
        show _ = if 0 < t then upd (upd (kr_rc3 a3 par t) t (-1)) t (nI (par t)) else upd (kr_rc3 a3 par t) t (-1)
        by_cases w : 0 < t
        · have := hS.1 t w ht
          rw [if_pos ⟨w, this⟩, if_pos w]
        · rw [if_neg (by omega), if_neg w]
      rw [e3]
    · have hu := kr_V_up hV (show 0 < t by omega) ht
      have hpt := hS.1 t (by omega) ht
      have hbj := (hb j (by omega)).2
      have hbp := (hb (par t) (by omega)).2
      have e2 : o (nI j).toNatClampNeg = nI (b j) := by rw [nI_clamp (by omega), ho j (by omega)]
      refine pk_le t j (fun z => absurd z (by omega)) (fun _ => ⟨pk_in j 33 (by omega), pk_in (b t) 33 hbt, ?_⟩)
      rw [e2, cb, hu]
      refine pk_eq (b j) (b (par t)) (fun z => ?_) (fun z => nm_r (nI_1 j) (hw' _ ?_))
      · have e4 := hinj j (par t) (by omega) (by omega) z
        refine ⟨pk_in t 16 (by omega), nm_r (e' := upd (upd (kr_rc3 a3 par t) t (-1)) t (nI (par t))) ?_ (nm_r (nI_1 j) (hw' _ ?_))⟩
        · rw [ct, hs, if_neg (by omega), e4]
        · rw [if_pos ⟨by omega, by omega⟩]
      · rw [hs]
        have hne : j ≠ par t := fun w => z (by rw [w])
        by_cases w : par t < j
        · rw [if_pos ⟨by omega, w⟩, if_pos ⟨by omega, by omega⟩]
        · rw [if_neg (by omega), if_neg (by omega)]
/-- the whole state, but order and pile -/
def kr_Inv (N n : Nat) (dr opn rt nid rs kc gc mv : Int32) (a1 a2 a3 a4 a5 a6 a7 a8 a9 a10 a11 a12 a13 a14 a15 a16 a17 a18 a19 a20 a21 : Nat → Int32) : Prop := ∃ (b par : Nat → Nat) (d oc : Nat) (par' ky st : Nat → Nat), kr_T rt nid a5 a7 a8 a10 a11 a12 a13 n b par N ∧ kr_DI dr opn a2 a3 a4 d oc par' ky st
theorem kr_T_draft {rt nid : Int32} {a5 a7 a8 a10 a11 a12 a13 : Nat → Int32} {n N : Nat} {b par : Nat → Nat} (h : kr_T rt nid a5 a7 a8 a10 a11 a12 a13 n b par N) (a2 a3 : Nat → Int32) : kr_Dr n par (fun t => (a7 (b t)).toNatClampNeg) (kr_rc a2 (fun t => a7 (b t)) n) (kr_rc3 a3 par n) := by
  obtain ⟨hO, h7⟩ := kr_T_old h
  obtain ⟨hn, hS, _, _, _, hk, hd⟩ := hO
  refine ⟨hn, hS, fun j h1 h2 => ⟨kr_rc3_at n j h1 h2, by have := hS.1 j h1 h2; omega⟩, fun j hj => ⟨?_, hk j hj⟩, hd⟩
  rw [kr_rc_at n j hj]
  exact h7 j hj
theorem kr_DI_of {dr : Int32} {a2 a3 a4 : Nat → Int32} {d : Nat} {par ky st : Nat → Nat} (e : dr = nI d) (h : kr_Dr d par ky a2 a3) : kr_DI dr 0 a2 a3 a4 d 0 par ky st :=
  ⟨e, rfl, h, Nat.zero_le d, fun k hk => absurd hk (by omega), fun k l _ hl => absurd hl (by omega)⟩
theorem kr_Dr_0 {a2 a3 : Nat → Int32} {par ky : Nat → Nat} : kr_Dr 0 par ky a2 a3 :=
  ⟨by omega, ⟨fun j _ h => absurd h (by omega), fun i j k _ _ h => absurd h (by omega)⟩, fun j _ h => absurd h (by omega), fun j h => absurd h (by omega), fun j k _ _ h => absurd h (by omega)⟩
end
section
theorem kt_disp (p1 p2 : Int32) : ∃ v ty k0 : Nat, p1 &&& 31 = nI v ∧ v < 32 ∧ ty < 4 ∧ k0 < 8 ∧ ∀ (post : Int32 → St1 → Prop) (dr opn rt nid rs kc gc mv : Int32) (a1 a2 a3 a4 a5 a6 a7 a8 a9 a10 a11 a12 a13 a14 a15 a16 a17 a18 a19 a20 a21 a22 a23 : Nat → Int32), (∀ z0 z1 : Int32, z1 &&& z0 = nI k0 → wL_turn_43 post p2 (nI v) (nI ty) z0 z1 dr opn rt nid rs kc gc mv a1 a2 a3 a4 a5 a6 a7 a8 a9 a10 a11 a12 a13 a14 a15 a16 a17 a18 a19 a20 a21 a22 a23) → wpL_turn post (dr, opn, rt, nid, rs, kc, gc, mv, a1, a2, a3, a4, a5, a6, a7, a8, a9, a10, a11, a12, a13, a14, a15, a16, a17, a18, a19, a20, a21, a22, a23) p1 p2 := by
  obtain ⟨v, hv, ev⟩ := pk_andE p1 (m := 31) 5 rfl
  obtain ⟨t1, ht1, et1⟩ := pk_andE (p2 >>> ((4 : Int32) &&& 31)) (m := 3) 2 rfl
  obtain ⟨t2, ht2, et2⟩ := pk_andE (p2 >>> ((4 : Int32) &&& 31)) (m := 1) 1 rfl
  obtain ⟨k1, hk1, ek1⟩ := pk_andE (p2 >>> ((6 : Int32) &&& 31)) (m := 3) 2 rfl
  obtain ⟨k2, hk2, ek2⟩ := pk_andE (p2 >>> ((6 : Int32) &&& 31)) (m := 7) 3 rfl
  by_cases c1 : (p2 &&& 12) = 0
  · by_cases c2 : (p2 &&& 1) = 0
    · refine ⟨v, t1, k1, ev, by omega, by omega, by omega, fun post dr opn rt nid rs kc gc mv a1 a2 a3 a4 a5 a6 a7 a8 a9 a10 a11 a12 a13 a14 a15 a16 a17 a18 a19 a20 a21 a22 a23 H => ?_⟩
      unfold wpL_turn
      refine nm_r ev (br_t c1 ?_)
      unfold wL_turn_25
      rw [et1]
      exact br_t c2 (H _ _ ek1)
    · refine ⟨v, t1, k2, ev, by omega, by omega, by omega, fun post dr opn rt nid rs kc gc mv a1 a2 a3 a4 a5 a6 a7 a8 a9 a10 a11 a12 a13 a14 a15 a16 a17 a18 a19 a20 a21 a22 a23 H => ?_⟩
      unfold wpL_turn
      refine nm_r ev (br_t c1 ?_)
      unfold wL_turn_25
      rw [et1]
      exact br_f c2 (H _ _ ek2)
  · by_cases c2 : (p2 &&& 1) = 0
    · refine ⟨v, t2, k1, ev, by omega, by omega, by omega, fun post dr opn rt nid rs kc gc mv a1 a2 a3 a4 a5 a6 a7 a8 a9 a10 a11 a12 a13 a14 a15 a16 a17 a18 a19 a20 a21 a22 a23 H => ?_⟩
      unfold wpL_turn
      refine nm_r ev (br_f c1 ?_)
      unfold wL_turn_25
      rw [et2]
      exact br_t c2 (H _ _ ek1)
    · refine ⟨v, t2, k2, ev, by omega, by omega, by omega, fun post dr opn rt nid rs kc gc mv a1 a2 a3 a4 a5 a6 a7 a8 a9 a10 a11 a12 a13 a14 a15 a16 a17 a18 a19 a20 a21 a22 a23 H => ?_⟩
      unfold wpL_turn
      refine nm_r ev (br_f c1 ?_)
      unfold wL_turn_25
      rw [et2]
      exact br_f c2 (H _ _ ek2)
/-- what a turn says to the count of fresh ones -/
def kr_rel (x5 ans : Int32) (n n' : Nat) (kc kc' : Int32) : Prop :=
  ((x5 ≤ 22 ∨ 28 ≤ x5 ∨ ans < 0) → n' = n ∧ kc' = kc) ∧ (¬ x5 ≤ 22 → ¬ 28 ≤ x5 → ¬ ans < 0 → nI n' = kc' + ans)
theorem kt_turnL {N n : Nat} {dr opn rt nid rs kc gc mv : Int32} {a1 a2 a3 a4 a5 a6 a7 a8 a9 a10 a11 a12 a13 a14 a15 a16 a17 a18 a19 a20 a21 : Nat → Int32} (h : kr_Inv N n dr opn rt nid rs kc gc mv a1 a2 a3 a4 a5 a6 a7 a8 a9 a10 a11 a12 a13 a14 a15 a16 a17 a18 a19 a20 a21) (hN : N + 16 < 2 ^ 30) (p1 p2 : Int32) :
    ∃ (ans : Int32) (N' n' : Nat) (dr_1 opn_1 rt_1 nid_1 rs_1 kc_1 gc_1 mv_1 : Int32) (a1_1 a2_1 a3_1 a4_1 a5_1 a6_1 a7_1 a8_1 a9_1 a10_1 a11_1 a12_1 a13_1 a14_1 a15_1 a16_1 a17_1 a18_1 a19_1 a20_1 a21_1 : Nat → Int32), N' ≤ N + 16 ∧ kr_Inv N' n' dr_1 opn_1 rt_1 nid_1 rs_1 kc_1 gc_1 mv_1 a1_1 a2_1 a3_1 a4_1 a5_1 a6_1 a7_1 a8_1 a9_1 a10_1 a11_1 a12_1 a13_1 a14_1 a15_1 a16_1 a17_1 a18_1 a19_1 a20_1 a21_1 ∧ kr_rel (p1 &&& 31) ans n n' kc kc_1 ∧
    ∀ (post : Int32 → St1 → Prop) (a22 a23 : Nat → Int32), (∀ o p : Nat → Int32, post ans (dr_1, opn_1, rt_1, nid_1, rs_1, kc_1, gc_1, mv_1, a1_1, a2_1, a3_1, a4_1, a5_1, a6_1, a7_1, a8_1, a9_1, a10_1, a11_1, a12_1, a13_1, a14_1, a15_1, a16_1, a17_1, a18_1, a19_1, a20_1, a21_1, o, p)) → wpL_turn post (dr, opn, rt, nid, rs, kc, gc, mv, a1, a2, a3, a4, a5, a6, a7, a8, a9, a10, a11, a12, a13, a14, a15, a16, a17, a18, a19, a20, a21, a22, a23) p1 p2 := by
  obtain ⟨b, par, d, oc, par', ky, st, hT, hDI⟩ := h
  obtain ⟨v, ty, k0, ev, hv, hty, hk0, hdisp⟩ := kt_disp p1 p2
  rw [ev]
  have hV := hT.1
  have small : ∀ (ans : Int32), v ≤ 22 → kr_rel (nI v) ans n n kc kc := fun ans hz => ⟨fun _ => ⟨rfl, rfl⟩, fun z => absurd (nI_le hz (by omega)) z⟩
  have big : ∀ (ans : Int32), 28 ≤ v → kr_rel (nI v) ans n n kc kc := fun ans hz => ⟨fun _ => ⟨rfl, rfl⟩, fun _ z => absurd (nI_le hz (by omega)) z⟩
  rcases Nat.lt_or_ge v 7 with w7 | w7
  · -- a place is made and stays unclosed
    obtain ⟨ans, dr', opn', a1', a2', a3', a4', d', oc', q1, q2, q3, h', hw⟩ := kt_open (a1 := a1) hDI hty hk0
    refine ⟨ans, N, n, dr', opn', rt, nid, rs, kc, gc, mv, a1', a2', a3', a4', a5, a6, a7, a8, a9, a10, a11, a12, a13, a14, a15, a16, a17, a18, a19, a20, a21, by omega, ⟨b, par, d', oc', q1, q2, q3, hT, h'⟩, small ans (by omega), fun post a22 a23 H => ?_⟩
    refine hdisp post dr opn rt nid rs kc gc mv a1 a2 a3 a4 a5 a6 a7 a8 a9 a10 a11 a12 a13 a14 a15 a16 a17 a18 a19 a20 a21 a22 a23 (fun z0 z1 ez => ?_)
    unfold wL_turn_43
    refine nm_r ez (pk_le 7 v (fun z => absurd z (by omega)) (fun _ => ?_))
    exact hw _ rt nid rs kc gc mv a5 a6 a7 a8 a9 a10 a11 a12 a13 a14 a15 a16 a17 a18 a19 a20 a21 a22 a23 (H a22 a23)
  rcases Nat.lt_or_ge v 13 with w13 | w13
  · obtain ⟨ans, opn', oc', h', hw⟩ := kt_close hDI
    refine ⟨ans, N, n, dr, opn', rt, nid, rs, kc, gc, mv, a1, a2, a3, a4, a5, a6, a7, a8, a9, a10, a11, a12, a13, a14, a15, a16, a17, a18, a19, a20, a21, by omega, ⟨b, par, d, oc', par', ky, st, hT, h'⟩, small ans (by omega), fun post a22 a23 H => ?_⟩
    refine hdisp post dr opn rt nid rs kc gc mv a1 a2 a3 a4 a5 a6 a7 a8 a9 a10 a11 a12 a13 a14 a15 a16 a17 a18 a19 a20 a21 a22 a23 (fun z0 z1 ez => ?_)
    unfold wL_turn_43
    refine nm_r ez (pk_le 7 v (fun _ => pk_le 13 v (fun z => absurd z (by omega)) (fun _ => ?_)) (fun z => absurd z (by omega)))
    exact hw _ rt nid rs kc gc mv a1 a5 a6 a7 a8 a9 a10 a11 a12 a13 a14 a15 a16 a17 a18 a19 a20 a21 a22 a23 (H a22 a23)
  rcases Nat.lt_or_ge v 22 with w22 | w22
  · obtain ⟨ans, dr', opn', a1', a2', a3', a4', d', oc', q1, q2, q3, h', hw⟩ := kt_leaf (a1 := a1) hDI hty hk0
    refine ⟨ans, N, n, dr', opn', rt, nid, rs, kc, gc, mv, a1', a2', a3', a4', a5, a6, a7, a8, a9, a10, a11, a12, a13, a14, a15, a16, a17, a18, a19, a20, a21, by omega, ⟨b, par, d', oc', q1, q2, q3, hT, h'⟩, small ans (by omega), fun post a22 a23 H => ?_⟩
    refine hdisp post dr opn rt nid rs kc gc mv a1 a2 a3 a4 a5 a6 a7 a8 a9 a10 a11 a12 a13 a14 a15 a16 a17 a18 a19 a20 a21 a22 a23 (fun z0 z1 ez => ?_)
    unfold wL_turn_43
    refine nm_r ez (pk_le 7 v (fun _ => pk_le 13 v (fun _ => pk_le 22 v (fun z => absurd z (by omega)) (fun _ => ?_)) (fun z => absurd z (by omega))) (fun z => absurd z (by omega)))
    exact hw _ rt nid rs kc gc mv a5 a6 a7 a8 a9 a10 a11 a12 a13 a14 a15 a16 a17 a18 a19 a20 a21 a22 a23 (H a22 a23)
  by_cases e22 : v = 22
  · refine ⟨nI n, N, n, nI n, 0, rt, nid, rs, kc, gc, mv, kr_rc a1 (fun t => a6 (b t)) n, kr_rc a2 (fun t => a7 (b t)) n, kr_rc3 a3 par n, a4, a5, a6, a7, a8, a9, a10, a11, a12, a13, a14, a15, a16, a17, a18, a19, a20, a21, by omega, ⟨b, par, n, 0, par, _, st, hT, kr_DI_of rfl (kr_T_draft hT a2 a3)⟩, small _ (by omega), fun post a22 a23 H => ?_⟩
    refine hdisp post dr opn rt nid rs kc gc mv a1 a2 a3 a4 a5 a6 a7 a8 a9 a10 a11 a12 a13 a14 a15 a16 a17 a18 a19 a20 a21 a22 a23 (fun z0 z1 ez => ?_)
    unfold wL_turn_43
    refine nm_r ez (pk_le 7 v (fun _ => pk_le 13 v (fun _ => pk_le 22 v (fun _ => pk_eq v 22 (fun _ => ?_) (fun z => absurd e22 z)) (fun z => absurd z (by omega))) (fun z => absurd z (by omega))) (fun z => absurd z (by omega)))
    exact kt_recall hV H
  rcases Nat.lt_or_ge v 28 with w28 | w28
  · -- showing
    obtain ⟨e1, e2, hDr, hod, _, _⟩ := id hDI
    have hd16 := hDr.1
    have toShow : ∀ (post : Int32 → St1 → Prop) (a22 a23 : Nat → Int32), wpX_show post (dr, opn, rt, nid, rs, kc, gc, mv, a1, a2, a3, a4, a5, a6, a7, a8, a9, a10, a11, a12, a13, a14, a15, a16, a17, a18, a19, a20, a21, a22, a23) → wpL_turn post (dr, opn, rt, nid, rs, kc, gc, mv, a1, a2, a3, a4, a5, a6, a7, a8, a9, a10, a11, a12, a13, a14, a15, a16, a17, a18, a19, a20, a21, a22, a23) p1 p2 := fun post a22 a23 H => by
      refine hdisp post dr opn rt nid rs kc gc mv a1 a2 a3 a4 a5 a6 a7 a8 a9 a10 a11 a12 a13 a14 a15 a16 a17 a18 a19 a20 a21 a22 a23 (fun z0 z1 ez => ?_)
      unfold wL_turn_43
      refine nm_r ez (pk_le 7 v (fun _ => pk_le 13 v (fun _ => pk_le 22 v (fun _ => pk_eq v 22 (fun z => absurd z e22) (fun _ => pk_le 28 v (fun z => absurd z (by omega)) (fun _ => ?_))) (fun z => absurd z (by omega))) (fun z => absurd z (by omega))) (fun z => absurd z (by omega)))
      exact H
    have none : kr_rel (nI v) (-4) n n kc kc := ⟨fun _ => ⟨rfl, rfl⟩, fun _ _ z => absurd (by decide) z⟩
    by_cases hd : d = 0
    · refine ⟨-4, N, n, dr, opn, rt, nid, rs, kc, gc, mv, a1, a2, a3, a4, a5, a6, a7, a8, a9, a10, a11, a12, a13, a14, a15, a16, a17, a18, a19, a20, a21, by omega, ⟨b, par, d, oc, par', ky, st, hT, hDI⟩, none, fun post a22 a23 H => toShow post a22 a23 ?_⟩
      unfold wpX_show
      exact br_t (by rw [e1, hd]; rfl) (H a22 a23)
    · by_cases ho : oc = 0
      · have e3 : nid = nI N := hT.2.2.2.2.1
        subst e1 e2 e3 ho
        obtain ⟨N', κ, φ, be', rs', gc', mv', b5, b6, b7, b8, b9, b10, b11, b12, b13, b14, b15, b16, b17, b18, b19, b20, b21, s1, s2, s3, _, s5⟩ := kt_show (rs := rs) (a1 := a1) (a6 := a6) (a9 := a9) (a14 := a14) (a15 := a15) (a16 := a16) (a17 := a17) (a18 := a18) (a19 := a19) (a20 := a20) (a21 := a21) hT hDr (by omega) hN
        refine ⟨nI φ, N', d, 0, 0, nI (be' 0), nI N', rs', nI κ, gc', mv', a1, a2, a3, a4, b5, b6, b7, b8, b9, b10, b11, b12, b13, b14, b15, b16, b17, b18, b19, b20, b21, s2, ⟨be', par', 0, 0, par', ky, st, s3, kr_DI_of rfl kr_Dr_0⟩, ⟨fun z => ?_, fun _ _ _ => by rw [nI_add, s1]⟩, fun post a22 a23 H => toShow post a22 a23 (s5 post kc gc mv a4 a22 a23 H)⟩
        rcases z with z | z | z
        · exact absurd z (nI_ge (a := 22) (b := v) (by omega) (by omega))
        · exact absurd z (nI_ge (a := v) (b := 28) (by omega) (by omega))
        · exact absurd z (nI_pos (by omega))
      · refine ⟨-4, N, n, dr, opn, rt, nid, rs, kc, gc, mv, a1, a2, a3, a4, a5, a6, a7, a8, a9, a10, a11, a12, a13, a14, a15, a16, a17, a18, a19, a20, a21, by omega, ⟨b, par, d, oc, par', ky, st, hT, hDI⟩, none, fun post a22 a23 H => toShow post a22 a23 ?_⟩
        unfold wpX_show
        exact br_f (by rw [e1]; exact nI_ne0 (by omega) (by omega)) (br_f (by rw [e2]; exact nI_nle (by omega) (by omega)) (H a22 a23))
  rcases Nat.lt_or_ge v 31 with w31 | w31
  · -- put
    obtain ⟨k, hk, ek⟩ := pk_andE p2 (m := 7) 3 rfl
    obtain ⟨u, hu, eu⟩ := pk_andE (p2 >>> ((3 : Int32) &&& 31)) (m := 63) 6 rfl
    have toPut : ∀ (post : Int32 → St1 → Prop) (a22 a23 : Nat → Int32), wpX_put post (dr, opn, rt, nid, rs, kc, gc, mv, a1, a2, a3, a4, a5, a6, a7, a8, a9, a10, a11, a12, a13, a14, a15, a16, a17, a18, a19, a20, a21, a22, a23) (nI k) (nI u) → wpL_turn post (dr, opn, rt, nid, rs, kc, gc, mv, a1, a2, a3, a4, a5, a6, a7, a8, a9, a10, a11, a12, a13, a14, a15, a16, a17, a18, a19, a20, a21, a22, a23) p1 p2 := fun post a22 a23 H => by
      refine hdisp post dr opn rt nid rs kc gc mv a1 a2 a3 a4 a5 a6 a7 a8 a9 a10 a11 a12 a13 a14 a15 a16 a17 a18 a19 a20 a21 a22 a23 (fun z0 z1 ez => ?_)
      unfold wL_turn_43
      refine nm_r ez (pk_le 7 v (fun _ => pk_le 13 v (fun _ => pk_le 22 v (fun _ => pk_eq v 22 (fun z => absurd z e22) (fun _ => pk_le 28 v (fun _ => pk_le 31 v (fun z => absurd z (by omega)) (fun _ => ?_)) (fun z => absurd z (by omega)))) (fun z => absurd z (by omega))) (fun z => absurd z (by omega))) (fun z => absurd z (by omega)))
      rw [ek, eu]
      exact H
    by_cases hkn : k < n
    · refine ⟨a9 (b k), N, n, dr, opn, rt, nid, rs, kc, gc, mv, a1, a2, a3, a4, a5, a6, a7, a8, upd a9 (b k) (nI u), a10, a11, a12, a13, a14, a15, a16, a17, a18, a19, a20, a21, by omega, ⟨b, par, d, oc, par', ky, st, hT, hDI⟩, big _ w28, fun post a22 a23 H => toPut post a22 a23 ?_⟩
      exact kt_put hV (by omega) (by omega) (fun _ => H) (fun z => absurd z (by omega))
    · refine ⟨-4, N, n, dr, opn, rt, nid, rs, kc, gc, mv, a1, a2, a3, a4, a5, a6, a7, a8, a9, a10, a11, a12, a13, a14, a15, a16, a17, a18, a19, a20, a21, by omega, ⟨b, par, d, oc, par', ky, st, hT, hDI⟩, big _ w28, fun post a22 a23 H => toPut post a22 a23 ?_⟩
      exact kt_put hV (by omega) (by omega) (fun z => absurd z hkn) (fun _ => H)
  · -- scrap
    refine ⟨0, N, n, 0, 0, rt, nid, rs, kc, gc, mv, a1, a2, a3, a4, a5, a6, a7, a8, a9, a10, a11, a12, a13, a14, a15, a16, a17, a18, a19, a20, a21, by omega, ⟨b, par, 0, 0, par', ky, st, hT, kr_DI_of rfl kr_Dr_0⟩, big _ w28, fun post a22 a23 H => ?_⟩
    refine hdisp post dr opn rt nid rs kc gc mv a1 a2 a3 a4 a5 a6 a7 a8 a9 a10 a11 a12 a13 a14 a15 a16 a17 a18 a19 a20 a21 a22 a23 (fun z0 z1 ez => ?_)
    unfold wL_turn_43
    refine nm_r ez (pk_le 7 v (fun _ => pk_le 13 v (fun _ => pk_le 22 v (fun _ => pk_eq v 22 (fun z => absurd z e22) (fun _ => pk_le 28 v (fun _ => pk_le 31 v (fun _ => ?_) (fun z => absurd z (by omega))) (fun z => absurd z (by omega)))) (fun z => absurd z (by omega))) (fun z => absurd z (by omega))) (fun z => absurd z (by omega)))
    unfold wpX_scrap
    exact H a22 a23
end
section
theorem kt_equal {post : Int32 → St2 → Prop} {dr opn rt nid rs kc gc mv : Int32} {a1 a2 a3 a4 a5 a6 a7 a8 a9 a10 a11 a12 a13 a14 a15 a16 a17 a18 a19 a20 a21 a22 a23 : Nat → Int32} {dr_s opn_s rt_s nid_s rs_s kc_s gc_s mv_s : Int32} {a1_s a2_s a3_s a4_s a5_s a6_s a7_s a8_s a9_s a10_s a11_s a12_s a13_s a14_s a15_s a16_s a17_s a18_s a19_s a20_s a21_s a22_s a23_s : Nat → Int32} {n : Nat} {b par : Nat → Nat} (hV : kr_V rt a10 a11 a12 a13 n b par) (hVs : kr_V rt_s a10_s a11_s a12_s a13_s n b par) (H : ∀ o p o' p' : Nat → Int32, post 1 (dr, opn, rt, nid, rs, kc, gc, mv, a1, a2, a3, a4, a5, a6, a7, a8, a9, a10, a11, a12, a13, a14, a15, a16, a17, a18, a19, a20, a21, o, p, dr_s, opn_s, rt_s, nid_s, rs_s, kc_s, gc_s, mv_s, a1_s, a2_s, a3_s, a4_s, a5_s, a6, a7, a8, a9, a10_s, a11_s, a12_s, a13_s, a14_s, a15_s, a16_s, a17_s, a18_s, a19_s, a20_s, a21_s, o', p')) : wpL_equal post (dr, opn, rt, nid, rs, kc, gc, mv, a1, a2, a3, a4, a5, a6, a7, a8, a9, a10, a11, a12, a13, a14, a15, a16, a17, a18, a19, a20, a21, a22, a23, dr_s, opn_s, rt_s, nid_s, rs_s, kc_s, gc_s, mv_s, a1_s, a2_s, a3_s, a4_s, a5_s, a6, a7, a8, a9, a10_s, a11_s, a12_s, a13_s, a14_s, a15_s, a16_s, a17_s, a18_s, a19_s, a20_s, a21_s, a22_s, a23_s) := by
  unfold wpL_equal
  refine pk_loop (fun f j (s : (Nat → Int32) × (Nat → Int32) × (Nat → Int32) × (Nat → Int32)) => wL_equal_2 post f (nI j) dr opn rt nid rs kc gc mv a1 a2 a3 a4 a5 a6 a7 a8 a9 a10 a11 a12 a13 a14 a15 a16 a17 a18 a19 a20 a21 s.1 s.2.1 dr_s opn_s rt_s nid_s rs_s kc_s gc_s mv_s a1_s a2_s a3_s a4_s a5_s a6 a7 a8 a9 a10_s a11_s a12_s a13_s a14_s a15_s a16_s a17_s a18_s a19_s a20_s a21_s s.2.2.1 s.2.2.2) (fun _ _ => True) 17 0 (a22, a23, a22_s, a23_s) (by omega) trivial (fun f s _ => ?_) (fun f j s hj _ hw => ?_)
  · refine pk_le 17 17 (fun _ => ?_) (fun z => absurd z (by omega))
    refine kt_size hV (fun o p => ?_)
    refine kt_size hVs (fun o' p' => br_t rfl ?_)
    refine kt_digest hV (fun o2 p2 => ?_)
    exact kt_digest hVs (fun o3 p3 => br_t rfl (H o2 p2 o3 p3))
  · refine pk_le 17 j (fun z => absurd z (by omega)) (fun _ => ?_)
    refine kt_id hV (by omega) (fun o p => ?_)
    refine kt_id hVs (by omega) (fun o' p' => br_t rfl ?_)
    refine kt_state hV (by omega) (fun o p => ?_)
    refine kt_state hVs (by omega) (fun o' p' => br_t rfl ?_)
    refine kt_kind hV (by omega) (fun o p => ?_)
    refine kt_kind hVs (by omega) (fun o' p' => br_t rfl ?_)
    refine kt_parent hV (by omega) (fun o p => ?_)
    refine kt_parent hVs (by omega) (fun o' p' => br_t rfl (nm_r (nI_1 j) ?_))
    exact hw (o, p, o', p') trivial
theorem kt_showN {post : Int32 → St1 → Prop} {dr opn rt nid rs kc gc mv : Int32} {a1 a2 a3 a4 a5 a6 a7 a8 a9 a10 a11 a12 a13 a14 a15 a16 a17 a18 a19 a20 a21 a22 a23 : Nat → Int32} (h : dr = 0) (H : post (-4) (dr, opn, rt, nid, rs, kc, gc, mv, a1, a2, a3, a4, a5, a6, a7, a8, a9, a10, a11, a12, a13, a14, a15, a16, a17, a18, a19, a20, a21, a22, a23)) : wpX_show post (dr, opn, rt, nid, rs, kc, gc, mv, a1, a2, a3, a4, a5, a6, a7, a8, a9, a10, a11, a12, a13, a14, a15, a16, a17, a18, a19, a20, a21, a22, a23) := by
  unfold wpX_show
  exact br_t h H
theorem kt_fin {post : Int32 → Prop} (hp : post 1) {L : Nat} {xs : Nat → Int32} {KC KS : Nat} {dr opn rt nid rs kc gc mv : Int32} {a1 a2 a3 a4 a5 a6 a7 a8 a9 a10 a11 a12 a13 a14 a15 a16 a17 a18 a19 a20 a21 a22 a23 : Nat → Int32} {a22_s a23_s : Nat → Int32} {n N : Nat} {b par : Nat → Nat} (hT : kr_T rt nid a5 a7 a8 a10 a11 a12 a13 n b par N) (hN : N + 16 < 2 ^ 30) : wL_law_196 post L xs (nI n) KC KS dr opn rt nid rs kc gc mv a1 a2 a3 a4 a5 a6 a7 a8 a9 a10 a11 a12 a13 a14 a15 a16 a17 a18 a19 a20 a21 a22 a23 dr opn rt nid rs kc gc mv a1 a2 a3 a4 a5 a6 a7 a8 a9 a10 a11 a12 a13 a14 a15 a16 a17 a18 a19 a20 a21 a22_s a23_s := by
  have hV := hT.1
  have hn16 := hV.1
  unfold wL_law_196
  refine kt_recall hV (fun o p => ?_)
  by_cases hn : n = 0
  · refine kt_showN (by rw [hn]; rfl) (br_t rfl (pk_eq n 0 (fun _ => ?_) (fun z => absurd hn z)))
    unfold wL_law_228
    refine br_t rfl (kt_equal (a6_s := a4) (a7_s := a4) (a8_s := a4) (a9_s := a4) hV hV (fun o1 p1 o2 p2 => br_f (by decide) (pk_eq n 0 (fun _ => hp) (fun z => absurd hn z))))
  · have e3 : nid = nI N := hT.2.2.2.2.1
    subst e3
    obtain ⟨N', κ, φ, be', rs', gc', mv', b5, b6, b7, b8, b9, b10, b11, b12, b13, b14, b15, b16, b17, b18, b19, b20, b21, s1, s2, s3, s4, s5⟩ := kt_show (rs := rs) (a1 := kr_rc a1 (fun t => a6 (b t)) n) (a6 := a6) (a9 := a9) (a14 := a14) (a15 := a15) (a16 := a16) (a17 := a17) (a18 := a18) (a19 := a19) (a20 := a20) (a21 := a21) hT (kr_T_draft hT a2 a3) (by omega) hN
    obtain ⟨k1, k2, k3, k4, k5, k6, k7, k8, k9, k10, k11, k12, k13, k14⟩ := s4 ⟨rfl, fun _ _ _ => rfl, fun j hj => kr_rc_at n j hj, fun j hj => kr_rc_at n j hj⟩
    subst k1 k2 k3 k4 k6 k7 k8 k9 k10 k11 k12 k13 k14
    refine s5 _ kc gc mv a4 o p (fun o3 p3 => br_t rfl (pk_eq n 0 (fun z => absurd z hn) (fun _ => ?_)))
    rw [k5]
    unfold wL_law_228
    refine br_t rfl (kt_equal (a6_s := a4) (a7_s := a4) (a8_s := a4) (a9_s := a4) hV hV (fun o1 p1 o2 p2 => br_f (by decide) (pk_eq n 0 (fun z => absurd z hn) (fun _ => ?_))))
    exact br_t rfl (br_t rfl (br_t (by rw [show κ = n by omega]) (br_t rfl hp)))
end
section
theorem kr_T_dist {rt nid : Int32} {a5 a7 a8 a10 a11 a12 a13 : Nat → Int32} {n N : Nat} {b par : Nat → Nat} (h : kr_T rt nid a5 a7 a8 a10 a11 a12 a13 n b par N) : ∀ t s, t < n → s < n → a8 (b t) = a8 (b s) → t = s := by
  obtain ⟨⟨_, _, hb, _, _, _, hinj, _⟩, _, _, hus, _, _, hd⟩ := h
  intro t s ht hs e
  have h1 := hb t ht
  have h2 := hb s hs
  exact hinj t s ht hs (hd (b t) (b s) h1.1 h1.2 h2.1 h2.2 ((hus _ h1.1 h1.2).mpr ⟨t, ht, rfl⟩) ((hus _ h2.1 h2.2).mpr ⟨s, hs, rfl⟩) e)
theorem kt_126 {post : Int32 → Prop} (hp : post 1) {L : Nat} {xs : Nat → Int32} {KC KS : Nat} {dr opn rt nid rs kc gc mv : Int32} {a1 a2 a3 a4 a5 a6 a7 a8 a9 a10 a11 a12 a13 a14 a15 a16 a17 a18 a19 a20 a21 a22 a23 : Nat → Int32} {a22_s a23_s : Nat → Int32} {n N : Nat} {b par : Nat → Nat} (hT : kr_T rt nid a5 a7 a8 a10 a11 a12 a13 n b par N) (hN : N + 16 < 2 ^ 30) : ∃ f, wL_law_126 post L xs (nI n) KC KS f 0 dr opn rt nid rs kc gc mv a1 a2 a3 a4 a5 a6 a7 a8 a9 a10 a11 a12 a13 a14 a15 a16 a17 a18 a19 a20 a21 a22 a23 dr opn rt nid rs kc gc mv a1 a2 a3 a4 a5 a6 a7 a8 a9 a10 a11 a12 a13 a14 a15 a16 a17 a18 a19 a20 a21 a22_s a23_s := by
  have hV := hT.1
  have hn16 := hV.1
  have hd := kr_T_dist hT
  refine pk_loop (fun f i (s : (Nat → Int32) × (Nat → Int32)) => wL_law_126 post L xs (nI n) KC KS f (nI i) dr opn rt nid rs kc gc mv a1 a2 a3 a4 a5 a6 a7 a8 a9 a10 a11 a12 a13 a14 a15 a16 a17 a18 a19 a20 a21 s.1 s.2 dr opn rt nid rs kc gc mv a1 a2 a3 a4 a5 a6 a7 a8 a9 a10 a11 a12 a13 a14 a15 a16 a17 a18 a19 a20 a21 a22_s a23_s) (fun _ _ => True) n 0 (a22, a23) (by omega) trivial (fun f s _ => ?_) (fun f i s hi _ hw => ?_)
  · exact pk_le 16 n (fun _ => kt_fin hp hT hN) (fun _ => pk_le n n (fun _ => kt_fin hp hT hN) (fun z => absurd z (by omega)))
  · refine pk_le 16 i (fun z => absurd z (by omega)) (fun _ => pk_le n i (fun z => absurd z (by omega)) (fun _ => ?_))
    refine kt_id hV (by omega) (fun o p => ?_)
    rw [if_pos hi]
    refine kt_place hV hi hd (fun o1 p1 => br_t rfl ?_)
    refine pk_loop (fun f' j (s : (Nat → Int32) × (Nat → Int32)) => wL_law_164 post L xs (wL_law_126 post L xs (nI n) KC KS f) (nI n) (nI i) (a8 (b i)) KC KS f' (nI j) dr opn rt nid rs kc gc mv a1 a2 a3 a4 a5 a6 a7 a8 a9 a10 a11 a12 a13 a14 a15 a16 a17 a18 a19 a20 a21 s.1 s.2 dr opn rt nid rs kc gc mv a1 a2 a3 a4 a5 a6 a7 a8 a9 a10 a11 a12 a13 a14 a15 a16 a17 a18 a19 a20 a21 a22_s a23_s) (fun _ _ => True) i 0 (o1, p1) (by omega) trivial (fun f' s' _ => ?_) (fun f' j s' hj _ hw' => ?_)
    · exact pk_le i i (fun _ => nm_r (nI_1 i) (hw s' trivial)) (fun z => absurd z (by omega))
    · refine pk_le i j (fun z => absurd z (by omega)) (fun _ => ?_)
      refine kt_id hV (by omega) (fun o2 p2 => ?_)
      rw [if_pos (show j < n by omega)]
      refine br_f (fun e => ?_) (nm_r (nI_1 j) (hw' (o2, p2) trivial))
      have := hd j i (by omega) hi e
      omega
theorem kt_95 {post : Int32 → Prop} {L : Nat} {xs : Nat → Int32} {J : Int32 → Int32 → Int32 → Int32 → Int32 → Int32 → Int32 → Int32 → Int32 → Int32 → (Nat → Int32) → (Nat → Int32) → (Nat → Int32) → (Nat → Int32) → (Nat → Int32) → (Nat → Int32) → (Nat → Int32) → (Nat → Int32) → (Nat → Int32) → (Nat → Int32) → (Nat → Int32) → (Nat → Int32) → (Nat → Int32) → (Nat → Int32) → (Nat → Int32) → (Nat → Int32) → (Nat → Int32) → (Nat → Int32) → (Nat → Int32) → (Nat → Int32) → (Nat → Int32) → (Nat → Int32) → (Nat → Int32) → Int32 → Int32 → Int32 → Int32 → Int32 → Int32 → Int32 → Int32 → (Nat → Int32) → (Nat → Int32) → (Nat → Int32) → (Nat → Int32) → (Nat → Int32) → (Nat → Int32) → (Nat → Int32) → (Nat → Int32) → (Nat → Int32) → (Nat → Int32) → (Nat → Int32) → (Nat → Int32) → (Nat → Int32) → (Nat → Int32) → (Nat → Int32) → (Nat → Int32) → (Nat → Int32) → (Nat → Int32) → (Nat → Int32) → (Nat → Int32) → (Nat → Int32) → (Nat → Int32) → (Nat → Int32) → Prop} {z0 : Int32} {KC KS k : Nat} {dr opn rt nid rs kc gc mv : Int32} {a1 a2 a3 a4 a5 a6 a7 a8 a9 a10 a11 a12 a13 a14 a15 a16 a17 a18 a19 a20 a21 a22 a23 : Nat → Int32} {dr_s opn_s rt_s nid_s rs_s kc_s gc_s mv_s : Int32} {a1_s a2_s a3_s a4_s a5_s a6_s a7_s a8_s a9_s a10_s a11_s a12_s a13_s a14_s a15_s a16_s a17_s a18_s a19_s a20_s a21_s a22_s a23_s : Nat → Int32} {n : Nat} {b par : Nat → Nat} (hV : kr_V rt a10 a11 a12 a13 n b par) (hz : nI n = kc + z0)
    (H : ∀ o p : Nat → Int32, J z0 (nI (k + 2)) dr opn rt nid rs kc gc mv a1 a2 a3 a4 a5 a6 a7 a8 a9 a10 a11 a12 a13 a14 a15 a16 a17 a18 a19 a20 a21 o p dr_s opn_s rt_s nid_s rs_s kc_s gc_s mv_s a1_s a2_s a3_s a4_s a5_s a6_s a7_s a8_s a9_s a10_s a11_s a12_s a13_s a14_s a15_s a16_s a17_s a18_s a19_s a20_s a21_s a22_s a23_s) : wL_law_95 post L xs J (nI k) z0 KC KS dr opn rt nid rs kc gc mv a1 a2 a3 a4 a5 a6 a7 a8 a9 a10 a11 a12 a13 a14 a15 a16 a17 a18 a19 a20 a21 a22 a23 dr_s opn_s rt_s nid_s rs_s kc_s gc_s mv_s a1_s a2_s a3_s a4_s a5_s a6_s a7_s a8_s a9_s a10_s a11_s a12_s a13_s a14_s a15_s a16_s a17_s a18_s a19_s a20_s a21_s a22_s a23_s := by
  unfold wL_law_95
  refine kt_size hV (fun o p => ?_)
  exact br_t hz (nm_r (nI_add k 2) (H o p))
theorem kt_law {post : Int32 → Prop} (hp : post 1) {L : Nat} (hL : L ≤ 260) {xs : Nat → Int32} {KC KS : Nat} :
    ∀ (r k f N n : Nat) (fr : Int32) (dr opn rt nid rs kc gc mv : Int32) (a1 a2 a3 a4 a5 a6 a7 a8 a9 a10 a11 a12 a13 a14 a15 a16 a17 a18 a19 a20 a21 : Nat → Int32), L - k ≤ r → r < f → k < 1000 → N + 16 * (L - k) ≤ 5000 → kr_Inv N n dr opn rt nid rs kc gc mv a1 a2 a3 a4 a5 a6 a7 a8 a9 a10 a11 a12 a13 a14 a15 a16 a17 a18 a19 a20 a21 → nI n = kc + fr → ∀ a22 a23 a22_s a23_s : Nat → Int32, wL_law_21 post L xs KC KS f fr (nI k) dr opn rt nid rs kc gc mv a1 a2 a3 a4 a5 a6 a7 a8 a9 a10 a11 a12 a13 a14 a15 a16 a17 a18 a19 a20 a21 a22 a23 dr opn rt nid rs kc gc mv a1 a2 a3 a4 a5 a6 a7 a8 a9 a10 a11 a12 a13 a14 a15 a16 a17 a18 a19 a20 a21 a22_s a23_s := by
  intro r
  induction r with
  | zero =>
    intro k f N n fr dr opn rt nid rs kc gc mv a1 a2 a3 a4 a5 a6 a7 a8 a9 a10 a11 a12 a13 a14 a15 a16 a17 a18 a19 a20 a21 hr hf hk hN hI hz a22 a23 a22_s a23_s
    obtain ⟨f, rfl⟩ : ∃ g, f = g + 1 := ⟨f - 1, by omega⟩
    obtain ⟨b, par, d, oc, par', ky, st, hT, hDI⟩ := hI
    refine pk_le L (k + 1) (fun _ => ?_) (fun z => absurd z (by omega)) (hy := nI_1 k)
    refine kt_size hT.1 (fun o p => ?_)
    exact kt_126 hp hT (by omega)
  | succ r ih =>
    intro k f N n fr dr opn rt nid rs kc gc mv a1 a2 a3 a4 a5 a6 a7 a8 a9 a10 a11 a12 a13 a14 a15 a16 a17 a18 a19 a20 a21 hr hf hk hN hI hz a22 a23 a22_s a23_s
    obtain ⟨f, rfl⟩ : ∃ g, f = g + 1 := ⟨f - 1, by omega⟩
    refine pk_le L (k + 1) (fun _ => ?_) (fun hkL => ?_) (hy := nI_1 k)
    · obtain ⟨b, par, d, oc, par', ky, st, hT, hDI⟩ := hI
      refine kt_size hT.1 (fun o p => ?_)
      exact kt_126 hp hT (by omega)
    · have i1 : vp_in (nI k) L := pk_in k L (by omega)
      have i2 : vp_in (nI k + 1) L := pk_in (k + 1) L (by omega) (nI_1 k)
      obtain ⟨ans, N', n', dr_1, opn_1, rt_1, nid_1, rs_1, kc_1, gc_1, mv_1, a1_1, a2_1, a3_1, a4_1, a5_1, a6_1, a7_1, a8_1, a9_1, a10_1, a11_1, a12_1, a13_1, a14_1, a15_1, a16_1, a17_1, a18_1, a19_1, a20_1, a21_1, q1, q2, q3, q4⟩ := kt_turnL hI (by omega) (xs (nI k).toNatClampNeg) (xs (nI k + 1).toNatClampNeg)
      refine ⟨i1, nm_e ⟨i1, i2, ?_⟩⟩
      refine q4 _ a22 a23 (fun o p => ⟨i1, i2, ?_⟩)
      refine q4 _ a22_s a23_s (fun o' p' => ?_)
      have hlen : L - (k + 2) ≤ r := by omega
      have hN' : N' + 16 * (L - (k + 2)) ≤ 5000 := by omega
      have same : (xs (nI k).toNatClampNeg &&& 31 ≤ 22 ∨ 28 ≤ xs (nI k).toNatClampNeg &&& 31 ∨ ans < 0) → wL_law_95 post L xs (wL_law_21 post L xs KC KS f) (nI k) fr KC KS dr_1 opn_1 rt_1 nid_1 rs_1 kc_1 gc_1 mv_1 a1_1 a2_1 a3_1 a4_1 a5_1 a6_1 a7_1 a8_1 a9_1 a10_1 a11_1 a12_1 a13_1 a14_1 a15_1 a16_1 a17_1 a18_1 a19_1 a20_1 a21_1 o p dr_1 opn_1 rt_1 nid_1 rs_1 kc_1 gc_1 mv_1 a1_1 a2_1 a3_1 a4_1 a5_1 a6_1 a7_1 a8_1 a9_1 a10_1 a11_1 a12_1 a13_1 a14_1 a15_1 a16_1 a17_1 a18_1 a19_1 a20_1 a21_1 o' p' := fun hc => by
        obtain ⟨e1, e2⟩ := q3.1 hc
        have hz' : nI n' = kc_1 + fr := by rw [e1, e2]; exact hz
        obtain ⟨b, par, d, oc, par', ky, st, hT, hDI⟩ := id q2
        exact kt_95 hT.1 hz' (fun o2 p2 => ih (k + 2) f N' n' fr dr_1 opn_1 rt_1 nid_1 rs_1 kc_1 gc_1 mv_1 a1_1 a2_1 a3_1 a4_1 a5_1 a6_1 a7_1 a8_1 a9_1 a10_1 a11_1 a12_1 a13_1 a14_1 a15_1 a16_1 a17_1 a18_1 a19_1 a20_1 a21_1 hlen (by omega) (by omega) hN' q2 hz' o2 p2 o' p')
      have fresh : ¬ xs (nI k).toNatClampNeg &&& 31 ≤ 22 → ¬ 28 ≤ xs (nI k).toNatClampNeg &&& 31 → ¬ ans < 0 → wL_law_95 post L xs (wL_law_21 post L xs KC KS f) (nI k) ans KC KS dr_1 opn_1 rt_1 nid_1 rs_1 kc_1 gc_1 mv_1 a1_1 a2_1 a3_1 a4_1 a5_1 a6_1 a7_1 a8_1 a9_1 a10_1 a11_1 a12_1 a13_1 a14_1 a15_1 a16_1 a17_1 a18_1 a19_1 a20_1 a21_1 o p dr_1 opn_1 rt_1 nid_1 rs_1 kc_1 gc_1 mv_1 a1_1 a2_1 a3_1 a4_1 a5_1 a6_1 a7_1 a8_1 a9_1 a10_1 a11_1 a12_1 a13_1 a14_1 a15_1 a16_1 a17_1 a18_1 a19_1 a20_1 a21_1 o' p' := fun h1 h2 h3 => by
        have hz' := q3.2 h1 h2 h3
        obtain ⟨b, par, d, oc, par', ky, st, hT, hDI⟩ := id q2
        exact kt_95 hT.1 hz' (fun o2 p2 => ih (k + 2) f N' n' ans dr_1 opn_1 rt_1 nid_1 rs_1 kc_1 gc_1 mv_1 a1_1 a2_1 a3_1 a4_1 a5_1 a6_1 a7_1 a8_1 a9_1 a10_1 a11_1 a12_1 a13_1 a14_1 a15_1 a16_1 a17_1 a18_1 a19_1 a20_1 a21_1 hlen (by omega) (by omega) hN' q2 hz' o2 p2 o' p')
      exact br_c (fun h1 => same (Or.inl h1)) (fun h1 => br_c (fun h2 => same (Or.inr (Or.inl h2))) (fun h2 => br_c (fun h3 => same (Or.inr (Or.inr h3))) (fun h3 => fresh h1 h2 h3)))
theorem kr_Inv_0 : kr_Inv 0 0 0 0 0 0 0 0 0 0 (fun _ => 0) (fun _ => 0) (fun _ => 0) (fun _ => 0) (fun _ => 0) (fun _ => 0) (fun _ => 0) (fun _ => 0) (fun _ => 0) (fun _ => 0) (fun _ => 0) (fun _ => 0) (fun _ => 0) (fun _ => 0) (fun _ => 0) (fun _ => 0) (fun _ => 0) (fun _ => 0) (fun _ => 0) (fun _ => 0) (fun _ => 0) := by
  refine ⟨fun _ => 0, fun _ => 0, 0, 0, fun _ => 0, fun _ => 0, fun _ => 0, ⟨⟨by omega, ⟨fun j _ h => absurd h (by omega), fun i j k _ _ h => absurd h (by omega)⟩, fun t h => absurd h (by omega), fun t h => absurd h (by omega), fun t h => absurd h (by omega), rfl, fun t s h => absurd h (by omega), fun h => absurd h (by omega)⟩, fun u h => absurd h (by omega), fun c d _ _ h => absurd h (by omega), fun x _ _ => ⟨fun h => absurd rfl h, fun ⟨t, h, _⟩ => absurd h (by omega)⟩, rfl, fun x _ _ h => absurd rfl h, fun x y _ _ _ _ h => absurd rfl h⟩, kr_DI_of rfl kr_Dr_0⟩
theorem kt_init {post : St1 → Prop} (H : post (0, 0, 0, 0, 0, 0, 0, 0, (fun _ => 0), (fun _ => 0), (fun _ => 0), (fun _ => 0), (fun _ => 0), (fun _ => 0), (fun _ => 0), (fun _ => 0), (fun _ => 0), (fun _ => 0), (fun _ => 0), (fun _ => 0), (fun _ => 0), (fun _ => 0), (fun _ => 0), (fun _ => 0), (fun _ => 0), (fun _ => 0), (fun _ => 0), (fun _ => 0), (fun _ => 0), (fun _ => 0), (fun _ => 0))) : wpX_init post 23 583 (0, 0, 0, 0, 0, 0, 0, 0) := by
  unfold wpX_init
  dsimp only
  repeat' first | exact H | apply And.intro | omega
theorem i_vc (xs : Nat → Int32) (L : Nat) (hL : L ≤ 260) : wpL_law (fun r => r = 1) L xs := by
  unfold wpL_law
  refine ⟨23, 583, by omega, by omega, kt_init ⟨by omega, by omega, 23, 583, by omega, by omega, kt_init ⟨L + 1, ?_⟩⟩⟩
  exact kt_law (post := fun r => r = 1) (show (1 : Int32) = 1 from rfl) hL L 0 (L + 1) 0 0 0 0 0 0 0 0 0 0 0 _ _ _ _ _ _ _ _ _ _ _ _ _ _ _ _ _ _ _ _ _ (by omega) (by omega) (by omega) (by omega) kr_Inv_0 rfl (fun _ => 0) (fun _ => 0) (fun _ => 0) (fun _ => 0)
end
