section
/-- the node at which a walk over a row ends: 0 the beginning, c + 1 behind insert c -/
def tr_ln : Nat → List Nat → Nat
  | p, [] => p
  | _, c :: R => tr_ln (c + 1) R
theorem tr_ln_app (p : Nat) (X Y : List Nat) : tr_ln p (X ++ Y) = tr_ln (tr_ln p X) Y := by
  induction X generalizing p with
  | nil => rfl
  | cons c X ih => exact ih (c + 1)
theorem tr_ln_snoc (p : Nat) (X : List Nat) (c : Nat) : tr_ln p (X ++ [c]) = c + 1 := by
  rw [tr_ln_app]
  rfl
theorem tr_snoc (X : List Nat) : X = [] ∨ ∃ X' c, X = X' ++ [c] := by
  induction X with
  | nil => exact Or.inl rfl
  | cons x X ih =>
    refine Or.inr ?_
    rcases ih with h | ⟨X', c, h⟩
    · exact ⟨[], x, by rw [h]; rfl⟩
    · exact ⟨x :: X', c, by rw [h]; rfl⟩
theorem tr_ln_mem (p : Nat) (X : List Nat) : X = [] ∨ ∃ c, c ∈ X ∧ tr_ln p X = c + 1 := by
  rcases tr_snoc X with h | ⟨X', c, h⟩
  · exact Or.inl h
  · refine Or.inr ⟨c, ?_, ?_⟩
    · rw [h]
      exact List.mem_append_right _ (List.mem_singleton.mpr rfl)
    · rw [h, tr_ln_snoc]
/-- a place to cut a row behind a node -/
theorem tr_cut (G : List Nat) (n : Nat) (h : n = 0 ∨ n - 1 ∈ G) : ∃ A B, G = A ++ B ∧ tr_ln 0 A = n := by
  by_cases h0 : n = 0
  · exact ⟨[], G, rfl, h0.symm⟩
  · have h1 : n - 1 ∈ G := h.resolve_left h0
    obtain ⟨s, t, e⟩ := List.append_of_mem h1
    refine ⟨s ++ [n - 1], t, ?_, ?_⟩
    · rw [e, List.append_assoc]
      rfl
    · rw [tr_ln_snoc]
      omega
/-- the greatest front piece of elements with greater keys -/
theorem tr_span (key : Nat → Nat) (k : Nat) (B : List Nat) : ∃ S T, B = S ++ T ∧ (∀ x, x ∈ S → k < key x) ∧ (∀ z T', T = z :: T' → ¬ k < key z) := by
  induction B with
  | nil => exact ⟨[], [], rfl, fun x h => absurd h List.not_mem_nil, fun z T' h => nomatch h⟩
  | cons b B ih =>
    by_cases hb : k < key b
    · obtain ⟨S, T, e, h1, h2⟩ := ih
      refine ⟨b :: S, T, by rw [e]; rfl, ?_, h2⟩
      intro x hx
      rcases List.mem_cons.mp hx with h | h
      · rw [h]
        exact hb
      · exact h1 x h
    · refine ⟨[], b :: B, rfl, fun x h => absurd h List.not_mem_nil, ?_⟩
      intro z T' h
      injection h with h3 h4
      rw [← h3]
      exact hb
/-- the law of the common row: all between an insert and its anchor have greater keys -/
def tr_P (key anc : Nat → Nat) (G : List Nat) : Prop :=
  ∀ X c Y, G = X ++ c :: Y → ∃ A M, X = A ++ M ∧ tr_ln 0 A = anc c ∧ ∀ x, x ∈ M → key c < key x
theorem tr_P_nil (key anc : Nat → Nat) : tr_P key anc [] := by
  intro X c Y h
  cases X with
  | nil => exact nomatch h
  | cons x X => exact nomatch h
theorem tr_P_congr {key anc key' anc' : Nat → Nat} {G : List Nat} (h : tr_P key anc G) (hk : ∀ x, x ∈ G → key' x = key x) (ha : ∀ x, x ∈ G → anc' x = anc x) : tr_P key' anc' G := by
  intro X c Y e
  obtain ⟨A, M, e1, e2, e3⟩ := h X c Y e
  have hc : c ∈ G := by
    rw [e]
    exact List.mem_append_right _ List.mem_cons_self
  refine ⟨A, M, e1, by rw [ha c hc]; exact e2, fun x hx => ?_⟩
  have hx' : x ∈ G := by
    rw [e, e1]
    exact List.mem_append_left _ (List.mem_append_right _ hx)
  rw [hk c hc, hk x hx']
  exact e3 x hx
theorem tr_P_ins {key anc : Nat → Nat} {A S T : List Nat} {c : Nat} (h : tr_P key anc (A ++ S ++ T)) (hA : tr_ln 0 A = anc c)
    (hS : ∀ x, x ∈ S → key c < key x) (hT : ∀ z T', T = z :: T' → ¬ key c < key z) (hne : ∀ x, x ∈ A ++ S ++ T → key x ≠ key c) :
    tr_P key anc (A ++ S ++ c :: T) := by
  intro X x Y e
  rcases List.append_eq_append_iff.mp e with ⟨a', e1, e2⟩ | ⟨c', e1, e2⟩
  · cases a' with
    | nil =>
      rw [List.nil_append] at e2
      injection e2 with e3 e4
      subst e3
      rw [List.append_nil] at e1
      exact ⟨A, S, e1, hA, hS⟩
    | cons w a'' =>
      rw [List.cons_append] at e2
      injection e2 with e3 e4
      subst e3
      -- T = a'' ++ x :: Y
      have eG : A ++ S ++ T = (A ++ S ++ a'') ++ x :: Y := by
        rw [e4, List.append_assoc (A ++ S)]
      obtain ⟨A1, M1, f1, f2, f3⟩ := h _ _ _ eG
      have hcx : (∀ y, y ∈ a'' → y ∈ M1) → key x < key c := by
        intro hin
        cases a'' with
        | nil =>
          have g1 := hT x Y e4
          have g2 := hne x (by rw [e4]; exact List.mem_append_right _ List.mem_cons_self)
          omega
        | cons z a3 =>
          have g1 := hT z (a3 ++ x :: Y) e4
          have g2 := hne z (by rw [e4]; exact List.mem_append_right _ List.mem_cons_self)
          have g3 := f3 z (hin z List.mem_cons_self)
          omega
      rcases List.append_eq_append_iff.mp f1 with ⟨e', i1, i2⟩ | ⟨e', i1, i2⟩
      · -- A1 = A ++ S ++ e', a'' = e' ++ M1
        cases e' with
        | nil =>
          rw [List.append_nil] at i1
          refine ⟨A1, c :: a'', by rw [e1, i1], f2, ?_⟩
          have hM : a'' = M1 := i2
          intro y hy
          rcases List.mem_cons.mp hy with g | g
          · rw [g]
            exact hcx (fun y hy => by rw [← hM]; exact hy)
          · exact f3 y (by rw [← hM]; exact g)
        | cons z e3 =>
          refine ⟨A ++ S ++ c :: z :: e3, M1, ?_, ?_, f3⟩
          · rw [e1, i2]
            simp only [List.append_assoc, List.cons_append]
          · rw [← f2, i1, tr_ln_app 0 (A ++ S) (c :: z :: e3), tr_ln_app 0 (A ++ S) (z :: e3)]
            rfl
      · -- A ++ S = A1 ++ e', M1 = e' ++ a''
        refine ⟨A1, e' ++ c :: a'', by rw [e1, i1, List.append_assoc], f2, ?_⟩
        intro y hy
        rcases List.mem_append.mp hy with g | g
        · exact f3 y (by rw [i2]; exact List.mem_append_left _ g)
        · rcases List.mem_cons.mp g with g | g
          · rw [g]
            exact hcx (fun y hy => by rw [i2]; exact List.mem_append_right _ hy)
          · exact f3 y (by rw [i2]; exact List.mem_append_right _ g)
  · cases c' with
    | nil =>
      rw [List.append_nil] at e1
      rw [List.nil_append] at e2
      injection e2 with e3 e4
      subst e3
      exact ⟨A, S, e1.symm, hA, hS⟩
    | cons w c'' =>
      rw [List.cons_append] at e2
      injection e2 with e3 e4
      subst e3
      exact h X x (c'' ++ T) (by rw [e1, List.append_assoc]; rfl)
/-- the anchor of a member is the beginning or a member -/
theorem tr_P_anc {key anc : Nat → Nat} {G : List Nat} (h : tr_P key anc G) {c : Nat} (hc : c ∈ G) : anc c = 0 ∨ anc c - 1 ∈ G := by
  obtain ⟨X, Y, e⟩ := List.append_of_mem hc
  obtain ⟨A, M, e1, e2, e3⟩ := h X c Y e
  rcases tr_ln_mem 0 A with g | ⟨a, g1, g2⟩
  · rw [g] at e2
    exact Or.inl e2.symm
  · refine Or.inr ?_
    rw [← e2, g2, e, e1]
    exact List.mem_append_left _ (List.mem_append_left _ g1)
/-- what a replica knows is a filter of the common row: to learn c is to put it where the common row has it -/
theorem tr_flt {key anc : Nat → Nat} {G : List Nat} {c : Nat} {k k' : Nat → Bool} (h : tr_P key anc G) (hG : G.Nodup) (hc : c ∈ G)
    (hcl : ∀ x, x ∈ G → k x = true → anc x = 0 ∨ k (anc x - 1) = true) (hkc : k c = false) (hanc : anc c = 0 ∨ k (anc c - 1) = true)
    (hk' : ∀ x, x ∈ G → x ≠ c → k' x = k x) (hkc' : k' c = true) :
    ∃ A S T, G.filter k = A ++ S ++ T ∧ tr_ln 0 A = anc c ∧ (∀ x, x ∈ S → key c < key x) ∧ (∀ z T', T = z :: T' → ¬ key c < key z) ∧ G.filter k' = A ++ S ++ c :: T := by
  obtain ⟨X, Y, e⟩ := List.append_of_mem hc
  obtain ⟨A0, M, e1, e2, e3⟩ := h X c Y e
  have nd : (X ++ c :: Y).Nodup := by rw [← e]; exact hG
  obtain ⟨n1, n2, n3⟩ := List.nodup_append.mp nd
  have cX : ∀ x, x ∈ X → x ≠ c := fun x hx => n3 x hx c List.mem_cons_self
  have cY : ∀ x, x ∈ Y → x ≠ c := fun x hx q => (List.nodup_cons.mp n2).1 (by rw [← q]; exact hx)
  refine ⟨A0.filter k, M.filter k, Y.filter k, ?_, ?_, ?_, ?_, ?_⟩
  · rw [e, e1, List.filter_append, List.filter_append, List.filter_cons, hkc]
    rfl
  · rcases tr_snoc A0 with g | ⟨A', a, g⟩
    · rw [g] at e2 ⊢
      exact e2
    · rw [g, tr_ln_snoc] at e2
      have ka : k a = true := by
        rcases hanc with q | q
        · omega
        · rw [← e2] at q
          exact q
      rw [g, List.filter_append, List.filter_cons, ka]
      show tr_ln 0 (A'.filter k ++ [a]) = anc c
      rw [tr_ln_snoc, e2]
  · intro x hx
    exact e3 x (List.mem_filter.mp hx).1
  · intro x T' hT hgt
    obtain ⟨Y1, Y2, y1, y2, y3, y4⟩ := List.filter_eq_cons_iff.mp hT
    have eG : G = (X ++ c :: Y1) ++ x :: Y2 := by
      rw [e, y1, List.append_assoc]
      rfl
    obtain ⟨A', M', g1, g2, g3⟩ := h _ _ _ eG
    have xG : x ∈ G := by
      rw [eG]
      exact List.mem_append_right _ List.mem_cons_self
    have hM' : c ∉ M' := fun q => by
      have := g3 c q
      omega
    rcases List.append_eq_append_iff.mp g1 with ⟨a', i1, i2⟩ | ⟨c', i1, i2⟩
    · -- A' = X ++ a', c :: Y1 = a' ++ M'
      cases a' with
      | nil =>
        have q : c :: Y1 = M' := i2
        exact hM' (by rw [← q]; exact List.mem_cons_self)
      | cons w a'' =>
        rw [List.cons_append] at i2
        injection i2 with i3 i4
        have hun : ∀ y, y ∈ w :: a'' → ¬ k y = true := by
          intro y hy
          rcases List.mem_cons.mp hy with q | q
          · rw [q, ← i3, hkc]
            exact Bool.false_ne_true
          · exact y2 y (by rw [i4]; exact List.mem_append_left _ q)
        rcases tr_ln_mem (tr_ln 0 X) (w :: a'') with q | ⟨y, q1, q2⟩
        · exact nomatch q
        · rw [i1, tr_ln_app, q2] at g2
          rcases hcl x xG y3 with q | q
          · omega
          · rw [← g2] at q
            exact hun y q1 q
    · -- X = A' ++ c', M' = c' ++ c :: Y1
      exact hM' (by rw [i2]; exact List.mem_append_right _ List.mem_cons_self)
  · have f1 : X.filter k' = X.filter k := List.filter_congr (fun x hx => hk' x (by rw [e]; exact List.mem_append_left _ hx) (cX x hx))
    have f2 : Y.filter k' = Y.filter k := List.filter_congr (fun x hx => hk' x (by rw [e]; exact List.mem_append_right _ (List.mem_cons_of_mem _ hx)) (cY x hx))
    rw [e, List.filter_append, List.filter_cons, hkc', f1, f2, e1, List.filter_append]
    rfl
/-- a row without doubles has ranks -/
theorem tr_rank (G : List Nat) (h : G.Nodup) : ∃ rk : Nat → Nat, G.Pairwise (fun x y => rk x < rk y) := by
  induction G with
  | nil => exact ⟨fun x => x, List.Pairwise.nil⟩
  | cons g G ih =>
    obtain ⟨h1, h2⟩ := List.nodup_cons.mp h
    obtain ⟨rk, hr⟩ := ih h2
    refine ⟨fun x => if x = g then 0 else rk x + 1, List.pairwise_cons.mpr ⟨?_, ?_⟩⟩
    · intro x hx
      have : x ≠ g := fun q => h1 (by rw [← q]; exact hx)
      show (if g = g then 0 else rk g + 1) < (if x = g then 0 else rk x + 1)
      rw [if_pos rfl, if_neg this]
      omega
    · refine List.Pairwise.imp_of_mem ?_ hr
      intro x y hx hy hxy
      have q1 : x ≠ g := fun q => h1 (by rw [← q]; exact hx)
      have q2 : y ≠ g := fun q => h1 (by rw [← q]; exact hy)
      show (if x = g then 0 else rk x + 1) < (if y = g then 0 else rk y + 1)
      rw [if_neg q1, if_neg q2]
      omega
/-- two filters of one row without doubles: common members stand in the same order -/
theorem tr_same_order {G : List Nat} (h : G.Nodup) {A B : List Nat} (hA : A.Sublist G) (hB : B.Sublist G) {i j p q x y : Nat}
    (hi : A[i]? = some x) (hj : A[j]? = some y) (hp : B[p]? = some x) (hq : B[q]? = some y) (hij : i < j) : p < q := by
  obtain ⟨rk, hr⟩ := tr_rank G h
  have pA := List.pairwise_iff_getElem.mp (List.Pairwise.sublist hA hr)
  have pB := List.pairwise_iff_getElem.mp (List.Pairwise.sublist hB hr)
  obtain ⟨hi1, hi2⟩ := List.getElem?_eq_some_iff.mp hi
  obtain ⟨hj1, hj2⟩ := List.getElem?_eq_some_iff.mp hj
  obtain ⟨hp1, hp2⟩ := List.getElem?_eq_some_iff.mp hp
  obtain ⟨hq1, hq2⟩ := List.getElem?_eq_some_iff.mp hq
  have r1 := pA i j hi1 hj1 hij
  rw [hi2, hj2] at r1
  rcases Nat.lt_trichotomy p q with c | c | c
  · exact c
  · subst c
    rw [hp2] at hq2
    rw [hq2] at r1
    omega
  · have r2 := pB q p hq1 hp1 c
    rw [hp2, hq2] at r2
    omega
end
section
/-- the first of a row as the code holds it: -1 at the end -/
def tr_hd : List Nat → Int32
  | [] => -1
  | c :: _ => nI c
/-- the links in g from node p on (b: the replica's base) spell the row -/
def tr_ch (g : Nat → Int32) (b : Nat) : Nat → List Nat → Prop
  | p, [] => g (b + p) = -1
  | p, c :: R => g (b + p) = nI c ∧ tr_ch g b (c + 1) R
theorem tr_ch_hd {g : Nat → Int32} {b p : Nat} {R : List Nat} (h : tr_ch g b p R) : g (b + p) = tr_hd R := by
  cases R with
  | nil => exact h
  | cons c R => exact h.1
theorem tr_ch_app {g : Nat → Int32} {b : Nat} {Y : List Nat} : ∀ (X : List Nat) (p : Nat), tr_ch g b p (X ++ Y) → tr_ch g b (tr_ln p X) Y := by
  intro X
  induction X with
  | nil => intro p h; exact h
  | cons c X ih => intro p h; exact ih (c + 1) h.2
theorem tr_ch_congr {g g' : Nat → Int32} {b : Nat} : ∀ (R : List Nat) (p : Nat), tr_ch g b p R → g' (b + p) = g (b + p) → (∀ c, c ∈ R → g' (b + (c + 1)) = g (b + (c + 1))) → tr_ch g' b p R := by
  intro R
  induction R with
  | nil => intro p h h1 _; exact h1.trans h
  | cons c R ih => intro p h h1 h2; exact ⟨h1.trans h.1, ih (c + 1) h.2 (h2 c List.mem_cons_self) (fun d hd => h2 d (List.mem_cons_of_mem _ hd))⟩
theorem tr_ch_ins {g : Nat → Int32} {b c : Nat} {Y : List Nat} : ∀ (X : List Nat) (p : Nat), tr_ch g b p (X ++ Y) → c ∉ X ++ Y → p ≠ c + 1 → (∀ x, x ∈ X ++ Y → x + 1 ≠ p) → (X ++ Y).Nodup →
    tr_ch (upd (upd g (b + (c + 1)) (g (b + tr_ln p X))) (b + tr_ln p X) (nI c)) b p (X ++ c :: Y) := by
  intro X
  induction X with
  | nil =>
    intro p h hc hp hx nd
    have hY : tr_ch g b p Y := h
    show tr_ch (upd (upd g (b + (c + 1)) (g (b + p))) (b + p) (nI c)) b p (c :: Y)
    have hk : ∀ n, n ≠ p → n ≠ c + 1 → upd (upd g (b + (c + 1)) (g (b + p))) (b + p) (nI c) (b + n) = g (b + n) := fun n h1 h2 => by
      rw [pk_un (by omega), pk_un (by omega)]
    have hc1 : upd (upd g (b + (c + 1)) (g (b + p))) (b + p) (nI c) (b + (c + 1)) = g (b + p) := by
      rw [pk_un (by omega), pk_us]
    refine ⟨pk_us, ?_⟩
    cases Y with
    | nil => exact hc1.trans hY
    | cons d Y =>
      refine ⟨hc1.trans hY.1, tr_ch_congr _ _ hY.2 (hk _ (hx d List.mem_cons_self) ?_) (fun y hy => hk _ (hx y (List.mem_cons_of_mem _ hy)) ?_)⟩
      · intro q
        have e : c = d := by omega
        exact hc (by rw [e]; exact List.mem_cons_self)
      · intro q
        have e : c = y := by omega
        exact hc (by rw [e]; exact List.mem_cons_of_mem _ hy)
  | cons x X ih =>
    intro p h hc hp hx nd
    have hq : tr_ln p (x :: X) ≠ p := by
      rcases tr_ln_mem p (x :: X) with e | ⟨y, e1, e2⟩
      · exact nomatch e
      · rw [e2]
        exact hx y (List.mem_append_left _ e1)
    obtain ⟨n1, n2⟩ := List.nodup_cons.mp nd
    refine ⟨?_, ih (x + 1) h.2 (fun z => hc (List.mem_cons_of_mem _ z)) (fun z => hc ?_) (fun y hy z => n1 ?_) n2⟩
    · rw [pk_un (by omega), pk_un (by omega)]
      exact h.1
    · have e : c = x := by omega
      rw [e]
      exact List.mem_cons_self
    · have e : x = y := by omega
      rw [e]
      exact hy
/-! the shown letters -/
def tr_al (g : Nat → Int32) (b x : Nat) : Bool := decide (g (b + (x + 1)) = 0)
def tr_tx (g : Nat → Int32) (b : Nat) (R : List Nat) : List Nat := R.filter (tr_al g b)
def tr_sh (g : Nat → Int32) (b : Nat) (R : List Nat) : List Nat := R.dropWhile (fun x => !tr_al g b x)
def tr_lt (a4 : Nat → Int32) (t : List Nat) (i : Nat) : Int32 := match t[i]? with
  | some c => a4 c
  | none => 0
theorem tr_al_t {g : Nat → Int32} {b x : Nat} (h : g (b + (x + 1)) = 0) : tr_al g b x = true := decide_eq_true h
theorem tr_al_f {g : Nat → Int32} {b x : Nat} (h : ¬ g (b + (x + 1)) = 0) : tr_al g b x = false := decide_eq_false h
theorem tr_tx_t {g : Nat → Int32} {b x : Nat} {R : List Nat} (h : g (b + (x + 1)) = 0) : tr_tx g b (x :: R) = x :: tr_tx g b R := by
  unfold tr_tx
  rw [List.filter_cons, tr_al_t h]
  rfl
theorem tr_tx_f {g : Nat → Int32} {b x : Nat} {R : List Nat} (h : ¬ g (b + (x + 1)) = 0) : tr_tx g b (x :: R) = tr_tx g b R := by
  unfold tr_tx
  rw [List.filter_cons, tr_al_f h]
  rfl
theorem tr_sh_t {g : Nat → Int32} {b x : Nat} {R : List Nat} (h : g (b + (x + 1)) = 0) : tr_sh g b (x :: R) = x :: R := by
  unfold tr_sh
  rw [List.dropWhile_cons, tr_al_t h]
  rfl
theorem tr_sh_f {g : Nat → Int32} {b x : Nat} {R : List Nat} (h : ¬ g (b + (x + 1)) = 0) : tr_sh g b (x :: R) = tr_sh g b R := by
  unfold tr_sh
  rw [List.dropWhile_cons, tr_al_f h]
  rfl
/-- all of a walk over taken letters -/
theorem tr_sh_all {g l : Nat → Int32} {b : Nat} : ∀ (R : List Nat) (p : Nat), tr_ch l b p R →
    (∃ q, tr_ch l b q (tr_sh g b R)) ∧ tr_tx g b (tr_sh g b R) = tr_tx g b R ∧ (tr_sh g b R).length ≤ R.length ∧ (∀ x, x ∈ tr_sh g b R → x ∈ R) ∧ (∀ x R', tr_sh g b R = x :: R' → g (b + (x + 1)) = 0) := by
  intro R
  induction R with
  | nil => intro p h; exact ⟨⟨p, h⟩, rfl, Nat.le_refl _, fun x h => h, fun x R' h => nomatch h⟩
  | cons x R ih =>
    intro p h
    by_cases al : g (b + (x + 1)) = 0
    · rw [tr_sh_t al]
      refine ⟨⟨p, h⟩, rfl, Nat.le_refl _, fun x h => h, fun y R' e => ?_⟩
      injection e with e1 e2
      rw [← e1]
      exact al
    · rw [tr_sh_f al, tr_tx_f al]
      obtain ⟨h1, h2, h3, h4, h5⟩ := ih (x + 1) h.2
      exact ⟨h1, h2, Nat.le_succ_of_le h3, fun y hy => List.mem_cons_of_mem _ (h4 y hy), h5⟩
/-! indices -/
theorem tr_ix (b x : Nat) : nI b + 1 + nI x = nI (b + (x + 1)) := by
  rw [nI_1, nI_add]
  exact congrArg nI (by omega)
theorem tr_49 (r : Nat) : (49 : Int32) * nI r = nI (49 * r) := pk_mul 49 r
theorem tr_3 (r : Nat) : (3 : Int32) * nI r = nI (3 * r) := pk_mul 3 r
theorem tr_ix49 (r x : Nat) : 49 * nI r + 1 + nI x = nI (49 * r + (x + 1)) := by
  rw [tr_49, tr_ix]
theorem tr_ix3 (r o : Nat) : 3 * nI r + nI o = nI (3 * r + o) := by
  rw [tr_3, nI_add]
theorem tr_isR {post : Int32 → Prop} {r : Nat} (hr : r < 3) (h : post 1) : wpX_isReplica post () (nI r) :=
  br_f (nI_pos (by omega)) (br_f (nI_nlt (a := 2) (by omega) (by decide)) h)
theorem tr_10 : ¬ (1 : Int32) = 0 := by decide
section
variable {f : Int32} {a1 a2 a3 a4 a5 a6 a7 a8 a9 a10 a11 a12 a13 a14 a15 : Nat → Int32}
theorem tr_length {post : Int32 → Prop} {r : Nat} (hr : r < 3) (h : post (a15 r)) : wpX_length post (f, a1, a2, a3, a4, a5, a6, a7, a8, a9, a10, a11, a12, a13, a14, a15) (nI r) := by
  unfold wpX_length
  exact tr_isR hr (br_f tr_10 ⟨vp_in_nI hr (by decide), by rw [nI_clamp (by omega)]; exact h⟩)
theorem tr_known {post : Int32 → Prop} {r o : Nat} (hr : r < 3) (ho : o < 3) (h : post (a10 (3 * r + o))) : wpX_known post (f, a1, a2, a3, a4, a5, a6, a7, a8, a9, a10, a11, a12, a13, a14, a15) (nI r) (nI o) := by
  unfold wpX_known
  exact tr_isR hr (br_f tr_10 (tr_isR ho (br_f tr_10 ⟨pk_in (3 * r + o) 9 (by omega) (tr_ix3 r o), by rw [pk_cl (3 * r + o) (tr_ix3 r o)]; exact h⟩)))
theorem tr_isKnown {post : Int32 → Prop} {r c o k n : Nat} (hr : r < 3) (hc : c < 48) (ho : o < 3) (e2 : a2 c = nI o) (e3 : a3 c = nI k) (e10 : a10 (3 * r + o) = nI n) (hk : k < 100) (hn : n < 100)
    (h0 : n < k → post 0) (h1 : k ≤ n → post 1) : wpX_isKnown post (f, a1, a2, a3, a4, a5, a6, a7, a8, a9, a10, a11, a12, a13, a14, a15) (nI r) (nI c) := by
  have e : 3 * nI r + a2 (nI c).toNatClampNeg = nI (3 * r + o) := by
    rw [nI_clamp (by omega), e2, tr_ix3]
  refine ⟨pk_in c 48 hc, pk_in c 48 hc, pk_in (3 * r + o) 9 (by omega) e, pk_lt n k h0 h1 ?_ ?_⟩
  · rw [pk_cl (3 * r + o) e, e10]
  · rw [nI_clamp (by omega), e3]
theorem tr_insertAt_19 {post : Int32 → Prop} {b : Nat} (hb : b ≤ 98) : ∀ (R : List Nat) (p k i c : Nat), tr_ch a12 b p R → (∀ x, x ∈ R → x < 48) → k + R.length ≤ 48 → (tr_tx a13 b R)[i]? = some c → i < 100 → post (nI c) →
    ∃ n, wX_insertAt_19 post (nI b) f a1 a2 a3 a4 a5 a6 a7 a8 a9 a10 a11 a12 a13 a14 a15 n (nI i) (tr_hd R) (nI k) := by
  intro R
  induction R with
  | nil => intro p k i c _ _ _ h _ _; exact absurd h (by simp [tr_tx])
  | cons x R ih =>
    intro p k i c hch h48 hk hi hi0 hp
    have hx : x < 48 := h48 x List.mem_cons_self
    have hl : (x :: R).length = R.length + 1 := rfl
    have hk' : k < 48 := by omega
    have hnx : a12 (nI b + 1 + nI x).toNatClampNeg = tr_hd R := by
      rw [pk_cl (b + (x + 1)) (tr_ix b x)]
      exact tr_ch_hd hch.2
    have hin : vp_in (nI b + 1 + nI x) 147 := pk_in (b + (x + 1)) 147 (by omega) (tr_ix b x)
    have hlow : ∀ y, y ∈ R → y < 48 := fun y hy => h48 y (List.mem_cons_of_mem _ hy)
    by_cases al : a13 (b + (x + 1)) = 0
    · have al' : a13 (nI b + 1 + nI x).toNatClampNeg = 0 := by
        rw [pk_cl (b + (x + 1)) (tr_ix b x)]
        exact al
      rw [tr_tx_t al] at hi
      cases i with
      | zero =>
        have e : x = c := by
          rw [List.getElem?_cons_zero] at hi
          injection hi
        subst e
        exact ⟨0 + 1, br_f (nI_ge (b := 48) hk' (by decide)) (br_f (nI_pos (by omega)) ⟨hin, br_t al' (br_t nI_0 hp)⟩)⟩
      | succ i =>
        rw [List.getElem?_cons_succ] at hi
        obtain ⟨n, hn⟩ := ih (x + 1) (k + 1) i c hch.2 hlow (by omega) hi (by omega) hp
        exact ⟨n + 1, br_f (nI_ge (b := 48) hk' (by decide)) (br_f (nI_pos (by omega)) ⟨hin, br_t al' (br_f (nI_ne0 (by omega) (by omega)) (nm_r (pk_m1 i) ⟨hin, nm_r hnx (nm_r (nI_1 k) hn)⟩))⟩)⟩
    · have al' : ¬ a13 (nI b + 1 + nI x).toNatClampNeg = 0 := by
        rw [pk_cl (b + (x + 1)) (tr_ix b x)]
        exact al
      rw [tr_tx_f al] at hi
      obtain ⟨n, hn⟩ := ih (x + 1) (k + 1) i c hch.2 hlow (by omega) hi hi0 hp
      exact ⟨n + 1, br_f (nI_ge (b := 48) hk' (by decide)) (br_f (nI_pos (by omega)) ⟨hin, br_f al' ⟨hin, nm_r hnx (nm_r (nI_1 k) hn)⟩⟩)⟩
theorem tr_insertAt {post : Int32 → Prop} {r i c : Nat} {R : List Nat} (hr : r < 3) (hch : tr_ch a12 (49 * r) 0 R) (h48 : ∀ x, x ∈ R → x < 48) (hl : R.length ≤ 48) (hi : (tr_tx a13 (49 * r) R)[i]? = some c) (hi0 : i < 100) (hp : post (nI c)) :
    wpX_insertAt post (f, a1, a2, a3, a4, a5, a6, a7, a8, a9, a10, a11, a12, a13, a14, a15) (nI r) (nI i) := by
  refine nm_r (tr_49 r) ⟨pk_in (49 * r) 147 (by omega), nm_r ?_ (tr_insertAt_19 (by omega) R 0 0 i c hch h48 (by omega) hi hi0 hp)⟩
  rw [nI_clamp (by omega)]
  exact tr_ch_hd hch
theorem tr_letter {post : Int32 → Prop} {r i : Nat} {R : List Nat} (hr : r < 3) (hch : tr_ch a12 (49 * r) 0 R) (h48 : ∀ x, x ∈ R → x < 48) (hl : R.length ≤ 48) (ht : a15 r = nI (tr_tx a13 (49 * r) R).length) (hi : i < 100)
    (hp : post (tr_lt a4 (tr_tx a13 (49 * r) R) i)) : wpX_letter post (f, a1, a2, a3, a4, a5, a6, a7, a8, a9, a10, a11, a12, a13, a14, a15) (nI r) (nI i) := by
  have htl : (tr_tx a13 (49 * r) R).length ≤ 48 := Nat.le_trans (List.length_filter_le _ _) hl
  unfold wpX_letter
  refine tr_isR hr (br_f tr_10 (br_f (nI_pos (by omega)) ⟨vp_in_nI hr (by decide), pk_lt i (tr_tx a13 (49 * r) R).length (fun h => ?_) (fun h => ?_) rfl (by rw [nI_clamp (by omega)]; exact ht)⟩))
  · have e : (tr_tx a13 (49 * r) R)[i]? = some ((tr_tx a13 (49 * r) R)[i]) := List.getElem?_eq_getElem h
    have hm : (tr_tx a13 (49 * r) R)[i] < 48 := h48 _ (List.mem_filter.mp (List.getElem_mem h)).1
    refine tr_insertAt hr hch h48 hl e hi ⟨vp_in_nI hm (by decide), ?_⟩
    rw [nI_clamp (by omega)]
    unfold tr_lt at hp
    rw [e] at hp
    exact hp
  · unfold tr_lt at hp
    rw [List.getElem?_eq_none h] at hp
    exact hp
theorem tr_shown_5 {post : Int32 → Prop} {r : Nat} (hr : r < 3) : ∀ (R : List Nat) (p k : Nat), tr_ch a12 (49 * r) p R → (∀ x, x ∈ R → x < 48) → k + R.length ≤ 48 → post (tr_hd (tr_sh a13 (49 * r) R)) →
    ∃ n, wX_shown_5 post (nI r) f a1 a2 a3 a4 a5 a6 a7 a8 a9 a10 a11 a12 a13 a14 a15 n (tr_hd R) (nI k) := by
  intro R
  induction R with
  | nil => intro p k _ _ _ hp; exact ⟨0 + 1, br_c (fun _ => hp) (fun _ => br_t (by decide) hp)⟩
  | cons x R ih =>
    intro p k hch h48 hk hp
    have hx : x < 48 := h48 x List.mem_cons_self
    have hl : (x :: R).length = R.length + 1 := rfl
    have hk' : k < 48 := by omega
    have hnx : a12 (49 * nI r + 1 + nI x).toNatClampNeg = tr_hd R := by
      rw [pk_cl (49 * r + (x + 1)) (tr_ix49 r x)]
      exact tr_ch_hd hch.2
    have hin : vp_in (49 * nI r + 1 + nI x) 147 := pk_in (49 * r + (x + 1)) 147 (by omega) (tr_ix49 r x)
    by_cases al : a13 (49 * r + (x + 1)) = 0
    · have al' : a13 (49 * nI r + 1 + nI x).toNatClampNeg = 0 := by
        rw [pk_cl (49 * r + (x + 1)) (tr_ix49 r x)]
        exact al
      rw [tr_sh_t al] at hp
      exact ⟨0 + 1, br_f (nI_ge (b := 48) hk' (by decide)) (br_f (nI_pos (by omega)) ⟨hin, br_t al' hp⟩)⟩
    · have al' : ¬ a13 (49 * nI r + 1 + nI x).toNatClampNeg = 0 := by
        rw [pk_cl (49 * r + (x + 1)) (tr_ix49 r x)]
        exact al
      rw [tr_sh_f al] at hp
      obtain ⟨n, hn⟩ := ih (x + 1) (k + 1) hch.2 (fun y hy => h48 y (List.mem_cons_of_mem _ hy)) (by omega) hp
      exact ⟨n + 1, br_f (nI_ge (b := 48) hk' (by decide)) (br_f (nI_pos (by omega)) ⟨hin, br_f al' ⟨hin, nm_r hnx (nm_r (nI_1 k) hn)⟩⟩)⟩
theorem tr_shown {post : Int32 → Prop} {r p : Nat} {R : List Nat} {v : Int32} (hr : r < 3) (hch : tr_ch a12 (49 * r) p R) (h48 : ∀ x, x ∈ R → x < 48) (hl : R.length ≤ 48) (hv : v = tr_hd R) (hp : post (tr_hd (tr_sh a13 (49 * r) R))) :
    wpX_shown post (f, a1, a2, a3, a4, a5, a6, a7, a8, a9, a10, a11, a12, a13, a14, a15) (nI r) v := by
  subst hv
  exact tr_shown_5 hr R p 0 hch h48 (by omega) hp
theorem tr_alike_67 {post : Int32 → Prop} {r s : Nat} (hr : r < 3) (hs : s < 3) : ∀ (l : Nat) (X Y : List Nat) (p q k : Nat), X.length < l → tr_ch a12 (49 * r) p X → tr_ch a12 (49 * s) q Y → (∀ x, x ∈ X → x < 48) → (∀ x, x ∈ Y → x < 48) →
    k + X.length ≤ 48 → Y.length ≤ 48 → (tr_tx a13 (49 * r) X).length = (tr_tx a13 (49 * s) Y).length →
    post (if (tr_tx a13 (49 * r) X).map a4 = (tr_tx a13 (49 * s) Y).map a4 then 1 else 0) →
    ∃ n, wX_alike_67 post (nI r) (nI s) f a1 a2 a3 a4 a5 a6 a7 a8 a9 a10 a11 a12 a13 a14 a15 n (tr_hd (tr_sh a13 (49 * r) X)) (tr_hd (tr_sh a13 (49 * s) Y)) (nI k) := by
  intro l
  induction l with
  | zero => intro X Y p q k h; exact absurd h (Nat.not_lt_zero _)
  | succ l ih =>
    intro X Y p q k hl hX hY X48 Y48 hk hYl hlen hp
    obtain ⟨⟨p1, cX⟩, tX, lX, mX, aX⟩ := tr_sh_all (g := a13) X p hX
    obtain ⟨⟨q1, cY⟩, tY, lY, mY, aY⟩ := tr_sh_all (g := a13) Y q hY
    cases eX : tr_sh a13 (49 * r) X with
    | nil =>
      have e1 : tr_tx a13 (49 * r) X = [] := by rw [← tX, eX]; rfl
      have e2 : tr_tx a13 (49 * s) Y = [] := by
        rw [e1] at hlen
        exact List.length_eq_zero_iff.mp hlen.symm
      rw [e1, e2, if_pos rfl] at hp
      exact ⟨0 + 1, br_c (fun _ => hp) (fun _ => br_t (by decide) hp)⟩
    | cons x X' =>
      have ax := aX x X' eX
      have e1 : tr_tx a13 (49 * r) X = x :: tr_tx a13 (49 * r) X' := by rw [← tX, eX, tr_tx_t ax]
      cases eY : tr_sh a13 (49 * s) Y with
      | nil =>
        have e2 : tr_tx a13 (49 * s) Y = [] := by rw [← tY, eY]; rfl
        rw [e1, e2] at hlen
        exact nomatch hlen
      | cons y Y' =>
        have ay := aY y Y' eY
        have e2 : tr_tx a13 (49 * s) Y = y :: tr_tx a13 (49 * s) Y' := by rw [← tY, eY, tr_tx_t ay]
        rw [eX] at cX lX mX
        rw [eY] at cY lY mY
        have hx : x < 48 := X48 x (mX x List.mem_cons_self)
        have hy : y < 48 := Y48 y (mY y List.mem_cons_self)
        have l1 : (x :: X').length = X'.length + 1 := rfl
        have l2 : (y :: Y').length = Y'.length + 1 := rfl
        have hk' : k < 48 := by omega
        rw [e1, e2] at hlen hp
        have hlen' : (tr_tx a13 (49 * r) X').length = (tr_tx a13 (49 * s) Y').length := Nat.succ.inj hlen
        have hnx : a12 (49 * nI r + 1 + nI x).toNatClampNeg = tr_hd X' := by
          rw [pk_cl (49 * r + (x + 1)) (tr_ix49 r x)]
          exact tr_ch_hd cX.2
        have hny : a12 (49 * nI s + 1 + nI y).toNatClampNeg = tr_hd Y' := by
          rw [pk_cl (49 * s + (y + 1)) (tr_ix49 s y)]
          exact tr_ch_hd cY.2
        have X48' : ∀ z, z ∈ X' → z < 48 := fun z hz => X48 z (mX z (List.mem_cons_of_mem _ hz))
        have Y48' : ∀ z, z ∈ Y' → z < 48 := fun z hz => Y48 z (mY z (List.mem_cons_of_mem _ hz))
        by_cases e4 : a4 x = a4 y
        · have hp' : post (if (tr_tx a13 (49 * r) X').map a4 = (tr_tx a13 (49 * s) Y').map a4 then 1 else 0) := by
            rw [List.map_cons, List.map_cons, e4] at hp
            by_cases e5 : (tr_tx a13 (49 * r) X').map a4 = (tr_tx a13 (49 * s) Y').map a4
            · rw [if_pos (by rw [e5])] at hp
              rw [if_pos e5]
              exact hp
            · rw [if_neg (fun z => e5 (List.cons.inj z).2)] at hp
              rw [if_neg e5]
              exact hp
          obtain ⟨n, hn⟩ := ih X' Y' (x + 1) (y + 1) (k + 1) (by omega) cX.2 cY.2 X48' Y48' (by omega) (by omega) hlen' hp'
          have e4' : a4 (nI x).toNatClampNeg = a4 (nI y).toNatClampNeg := by
            rw [nI_clamp (by omega), nI_clamp (by omega)]
            exact e4
          exact ⟨n + 1, br_f (nI_ge (b := 48) hk' (by decide)) (br_f (nI_pos (by omega)) (br_f (nI_pos (by omega)) ⟨vp_in_nI hx (by decide), vp_in_nI hy (by decide), br_t e4' ⟨pk_in (49 * r + (x + 1)) 147 (by omega) (tr_ix49 r x),
            tr_shown hr cX.2 X48' (by omega) hnx ⟨pk_in (49 * s + (y + 1)) 147 (by omega) (tr_ix49 s y), tr_shown hs cY.2 Y48' (by omega) hny (nm_r (nI_1 k) hn)⟩⟩⟩))⟩
        · have hp' : post 0 := by
            rw [List.map_cons, List.map_cons, if_neg (fun z => e4 (List.cons.inj z).1)] at hp
            exact hp
          have e4' : ¬ a4 (nI x).toNatClampNeg = a4 (nI y).toNatClampNeg := by
            rw [nI_clamp (by omega), nI_clamp (by omega)]
            exact e4
          exact ⟨0 + 1, br_f (nI_ge (b := 48) hk' (by decide)) (br_f (nI_pos (by omega)) (br_f (nI_pos (by omega)) ⟨vp_in_nI hx (by decide), vp_in_nI hy (by decide), br_f e4' hp'⟩))⟩
theorem tr_alike {post : Int32 → Prop} {r s : Nat} {X Y : List Nat} (hr : r < 3) (hs : s < 3) (hX : tr_ch a12 (49 * r) 0 X) (hY : tr_ch a12 (49 * s) 0 Y) (X48 : ∀ x, x ∈ X → x < 48) (Y48 : ∀ x, x ∈ Y → x < 48)
    (lX : X.length ≤ 48) (lY : Y.length ≤ 48) (tX : a15 r = nI (tr_tx a13 (49 * r) X).length) (tY : a15 s = nI (tr_tx a13 (49 * s) Y).length)
    (hp : post (if (tr_tx a13 (49 * r) X).map a4 = (tr_tx a13 (49 * s) Y).map a4 then 1 else 0)) : wpX_alike post (f, a1, a2, a3, a4, a5, a6, a7, a8, a9, a10, a11, a12, a13, a14, a15) (nI r) (nI s) := by
  have htX : (tr_tx a13 (49 * r) X).length ≤ 48 := Nat.le_trans (List.length_filter_le _ _) lX
  have htY : (tr_tx a13 (49 * s) Y).length ≤ 48 := Nat.le_trans (List.length_filter_le _ _) lY
  unfold wpX_alike
  refine tr_isR hr (br_f tr_10 (tr_isR hs (br_f tr_10 ⟨vp_in_nI hr (by decide), vp_in_nI hs (by decide),
    pk_eq (tr_tx a13 (49 * r) X).length (tr_tx a13 (49 * s) Y).length (fun e => ?_) (fun e => ?_) (by rw [nI_clamp (by omega)]; exact tX) (by rw [nI_clamp (by omega)]; exact tY)⟩)))
  · refine ⟨pk_in (49 * r) 147 (by omega) (tr_49 r), tr_shown hr hX X48 lX ?_ ⟨pk_in (49 * s) 147 (by omega) (tr_49 s), tr_shown hs hY Y48 lY ?_ (tr_alike_67 hr hs (X.length + 1) X Y 0 0 0 (by omega) hX hY X48 Y48 (by omega) lY e hp)⟩⟩
    · rw [pk_cl (49 * r) (tr_49 r)]
      exact tr_ch_hd hX
    · rw [pk_cl (49 * s) (tr_49 s)]
      exact tr_ch_hd hY
  · rw [if_neg (fun z => e (by have := congrArg List.length z; rw [List.length_map, List.length_map] at this; exact this))] at hp
    exact hp
end
end
section
def tr_key (stm org : Nat → Nat) (x : Nat) : Nat := 3 * stm x + org x
theorem tr_anc (b n : Nat) : nI b + 1 + (nI n - 1) = nI (b + n) := by
  cases n with
  | zero =>
    have e : nI 0 - 1 = (-1 : Int32) := by decide
    rw [e, nI_1, pk_m1]
    rfl
  | succ n => rw [nI_pred, tr_ix]
section
variable {f : Int32} {a1 a2 a3 a4 a5 a6 a7 a8 a9 a10 a11 a12 a13 a14 a15 : Nat → Int32}
theorem tr_isGreater {post : Int32 → Prop} {x c sx sc ox oc : Nat} {v : Int32} (hv : v = nI x) (hx : x < 48) (hc : c < 48) (x6 : a6 x = nI sx) (c6 : a6 c = nI sc) (x2 : a2 x = nI ox) (c2 : a2 c = nI oc)
    (b1 : sx < 100) (b2 : sc < 100) (b3 : ox < 3) (b4 : oc < 3) (h1 : 3 * sc + oc < 3 * sx + ox → post 1) (h0 : ¬ 3 * sc + oc < 3 * sx + ox → post 0) : wpX_isGreater post (f, a1, a2, a3, a4, a5, a6, a7, a8, a9, a10, a11, a12, a13, a14, a15) v (nI c) := by
  subst hv
  have e6x : a6 (nI x).toNatClampNeg = nI sx := by rw [nI_clamp (by omega)]; exact x6
  have e6c : a6 (nI c).toNatClampNeg = nI sc := by rw [nI_clamp (by omega)]; exact c6
  have e2x : a2 (nI x).toNatClampNeg = nI ox := by rw [nI_clamp (by omega)]; exact x2
  have e2c : a2 (nI c).toNatClampNeg = nI oc := by rw [nI_clamp (by omega)]; exact c2
  have ix := vp_in_nI hx (by decide)
  have ic := vp_in_nI hc (by decide)
  exact ⟨ix, ic, pk_eq sx sc (fun e => ⟨ix, ic, pk_le ox oc (fun h => h0 (by omega)) (fun h => h1 (by omega)) e2x e2c⟩) (fun e => ⟨ix, ic, pk_le sx sc (fun h => h0 (by omega)) (fun h => h1 (by omega)) e6x e6c⟩) e6x e6c⟩
theorem tr_put71 {post : St1 → Prop} {r c q s g : Nat} (hr : r < 3) (hc : c < 48) (hq : q ≤ 48) (e6 : a6 c = nI s) (e11 : a11 r = nI g) (hs : s < 100) (hg : g < 100)
    (hp : ∀ a11', (∀ i, i ≠ r → a11' i = a11 i) → (∃ g', a11' r = nI g' ∧ g ≤ g' ∧ s ≤ g' ∧ (g' = g ∨ g' = s)) →
      post (f, a1, a2, a3, a4, a5, a6, a7, a8, a9, a10, a11', upd (upd a12 (49 * r + (c + 1)) (a12 (49 * r + q))) (49 * r + q) (nI c), upd a13 (49 * r + (c + 1)) 0, upd a14 r (a14 r + 1), upd a15 r (a15 r + 1))) :
    wX_putInRow_71 post (nI r) (nI c) (nI (49 * r)) (nI (49 * r + q)) f a1 a2 a3 a4 a5 a6 a7 a8 a9 a10 a11 a12 a13 a14 a15 := by
  have ec : nI (49 * r) + 1 + nI c = nI (49 * r + (c + 1)) := tr_ix _ _
  have c1 : (nI (49 * r) + 1 + nI c).toNatClampNeg = 49 * r + (c + 1) := pk_cl _ ec
  have c2 : (nI (49 * r + q)).toNatClampNeg = 49 * r + q := pk_cl _
  have c3 : (nI r).toNatClampNeg = r := pk_cl _
  have c4 : (nI c).toNatClampNeg = c := pk_cl _
  have i1 : vp_in (nI (49 * r + q)) 147 := pk_in (49 * r + q) 147 (by omega)
  have i2 : vp_in (nI (49 * r) + 1 + nI c) 147 := pk_in (49 * r + (c + 1)) 147 (by omega) ec
  have i3 : vp_in (nI r) 3 := vp_in_nI hr (by decide)
  have i4 : vp_in (nI c) 48 := vp_in_nI hc (by decide)
  refine ⟨i1, i2, nm_r (by rw [c1, c2]) ⟨i1, nm_r (by rw [c2]) ⟨i2, nm_r (by rw [c1]) ⟨i3, i3, nm_r (by rw [c3]) ⟨i3, i3, nm_r (by rw [c3]) ⟨i4, i3, ?_⟩⟩⟩⟩⟩⟩
  refine pk_le s g (fun h => ?_) (fun h => ⟨i4, i3, nm_r (by rw [c3, c4]) ?_⟩) (by rw [c4]; exact e6) (by rw [c3]; exact e11)
  · exact hp a11 (fun i _ => rfl) ⟨g, e11, Nat.le_refl _, h, Or.inl rfl⟩
  · exact hp (upd a11 r (a6 c)) (fun i hi => pk_un hi) ⟨s, by rw [pk_us]; exact e6, by omega, Nat.le_refl _, Or.inr rfl⟩
theorem tr_put20 {post : St1 → Prop} {stm org : Nat → Nat} {r c : Nat} (hr : r < 3) (hc : c < 48 ∧ a6 c = nI (stm c) ∧ a2 c = nI (org c) ∧ stm c < 100 ∧ org c < 3) {T : List Nat} : ∀ (S : List Nat) (q k : Nat), tr_ch a12 (49 * r) q (S ++ T) →
    (∀ x, x ∈ S ++ T → x < 48 ∧ a6 x = nI (stm x) ∧ a2 x = nI (org x) ∧ stm x < 100 ∧ org x < 3) → (∀ x, x ∈ S → tr_key stm org c < tr_key stm org x) → (∀ z T', T = z :: T' → ¬ tr_key stm org c < tr_key stm org z) →
    k + S.length ≤ 48 → q ≤ 48 → wX_putInRow_71 post (nI r) (nI c) (nI (49 * r)) (nI (49 * r + tr_ln q S)) f a1 a2 a3 a4 a5 a6 a7 a8 a9 a10 a11 a12 a13 a14 a15 →
    ∃ n, wX_putInRow_20 post (nI r) (nI c) (nI (49 * r)) f a1 a2 a3 a4 a5 a6 a7 a8 a9 a10 a11 a12 a13 a14 a15 n (nI (49 * r + q)) (nI k) := by
  obtain ⟨hc1, hc2, hc3, hc4, hc5⟩ := hc
  intro S
  induction S with
  | nil =>
    intro q k hch hk hS hT hlen hq h
    have hn := tr_ch_hd hch
    have c2 : (nI (49 * r + q)).toNatClampNeg = 49 * r + q := pk_cl _
    have i1 : vp_in (nI (49 * r + q)) 147 := pk_in (49 * r + q) 147 (by omega)
    cases T with
    | nil => exact ⟨0 + 1, br_c (fun _ => h) (fun _ => ⟨i1, br_t (by rw [c2, hn]; decide) h⟩)⟩
    | cons z T =>
      obtain ⟨z1, z2, z3, z4, z5⟩ := hk z List.mem_cons_self
      have hz : a12 (nI (49 * r + q)).toNatClampNeg = nI z := by rw [c2, hn]; rfl
      exact ⟨0 + 1, br_c (fun _ => h) (fun _ => ⟨i1, br_f (by rw [hz]; exact nI_pos (by omega)) ⟨i1, tr_isGreater hz z1 hc1 z2 hc2 z3 hc3 z4 hc4 z5 hc5 (fun g => absurd g (hT z T rfl)) (fun _ => br_t rfl h)⟩⟩)⟩
  | cons x S ih =>
    intro q k hch hk hS hT hlen hq h
    have hn := tr_ch_hd hch
    have c2 : (nI (49 * r + q)).toNatClampNeg = 49 * r + q := pk_cl _
    have i1 : vp_in (nI (49 * r + q)) 147 := pk_in (49 * r + q) 147 (by omega)
    obtain ⟨x1, x2, x3, x4, x5⟩ := hk x List.mem_cons_self
    have hx : a12 (nI (49 * r + q)).toNatClampNeg = nI x := by rw [c2, hn]; rfl
    have hl : (x :: S).length = S.length + 1 := rfl
    obtain ⟨n, hn'⟩ := ih (x + 1) (k + 1) hch.2 (fun y hy => hk y (List.mem_cons_of_mem _ hy)) (fun y hy => hS y (List.mem_cons_of_mem _ hy)) hT (by omega) (by omega) h
    have hgo : nI (49 * r) + 1 + a12 (nI (49 * r + q)).toNatClampNeg = nI (49 * r + (x + 1)) := by rw [hx, tr_ix]
    exact ⟨n + 1, br_f (nI_ge (b := 48) (by omega) (by decide)) ⟨i1, br_f (by rw [hx]; exact nI_pos (by omega)) ⟨i1, tr_isGreater hx x1 hc1 x2 hc2 x3 hc3 x4 hc4 x5 hc5 (fun _ => br_f (by decide) ⟨i1, nm_r hgo (nm_r (nI_1 k) hn')⟩) (fun g => absurd (hS x List.mem_cons_self) g)⟩⟩⟩
theorem tr_putInRow {post : St1 → Prop} {stm org : Nat → Nat} {r c n g : Nat} {A S T : List Nat} (hr : r < 3) (hc : c < 48 ∧ a6 c = nI (stm c) ∧ a2 c = nI (org c) ∧ stm c < 100 ∧ org c < 3) (e5 : a5 c = nI n - 1)
    (hch : tr_ch a12 (49 * r) 0 (A ++ S ++ T)) (hk : ∀ x, x ∈ A ++ S ++ T → x < 48 ∧ a6 x = nI (stm x) ∧ a2 x = nI (org x) ∧ stm x < 100 ∧ org x < 3)
    (hA : tr_ln 0 A = n) (hS : ∀ x, x ∈ S → tr_key stm org c < tr_key stm org x) (hT : ∀ z T', T = z :: T' → ¬ tr_key stm org c < tr_key stm org z)
    (hl : (A ++ S ++ T).length ≤ 48) (e11 : a11 r = nI g) (hg : g < 100)
    (hp : ∀ a11', (∀ i, i ≠ r → a11' i = a11 i) → (∃ g', a11' r = nI g' ∧ g ≤ g' ∧ stm c ≤ g' ∧ (g' = g ∨ g' = stm c)) →
      post (f, a1, a2, a3, a4, a5, a6, a7, a8, a9, a10, a11', upd (upd a12 (49 * r + (c + 1)) (a12 (49 * r + tr_ln 0 (A ++ S)))) (49 * r + tr_ln 0 (A ++ S)) (nI c), upd a13 (49 * r + (c + 1)) 0, upd a14 r (a14 r + 1), upd a15 r (a15 r + 1))) :
    wpX_putInRow post (f, a1, a2, a3, a4, a5, a6, a7, a8, a9, a10, a11, a12, a13, a14, a15) (nI r) (nI c) := by
  have hc' := hc
  obtain ⟨hc1, hc2, hc3, hc4, hc5⟩ := hc
  have bnd : ∀ X Y, A ++ S ++ T = X ++ Y → tr_ln 0 X ≤ 48 := by
    intro X Y e
    rcases tr_ln_mem 0 X with q | ⟨a, q1, q2⟩
    · rw [q]
      exact Nat.zero_le _
    · rw [q2]
      exact (hk a (by rw [e]; exact List.mem_append_left _ q1)).1
  have hn : n ≤ 48 := by
    rw [← hA]
    exact bnd A (S ++ T) (List.append_assoc _ _ _)
  have hq : tr_ln 0 (A ++ S) ≤ 48 := bnd (A ++ S) T rfl
  have e1 : nI (49 * r) + 1 + a5 (nI c).toNatClampNeg = nI (49 * r + n) := by
    rw [nI_clamp (by omega), e5, tr_anc]
  have hl2 : S.length ≤ 48 := by
    rw [List.length_append, List.length_append] at hl
    omega
  have hch' : tr_ch a12 (49 * r) n (S ++ T) := by
    rw [List.append_assoc] at hch
    rw [← hA]
    exact tr_ch_app A 0 hch
  refine nm_r (tr_49 r) ⟨vp_in_nI hc1 (by decide), nm_r e1 (tr_put20 hr hc' S n 0 hch' ?_ hS hT (by omega) hn ?_)⟩
  · intro x hx
    refine hk x ?_
    rw [List.append_assoc]
    exact List.mem_append_right _ hx
  · have e2 : tr_ln n S = tr_ln 0 (A ++ S) := by rw [tr_ln_app, hA]
    rw [e2]
    exact tr_put71 hr hc1 hq hc2 e11 hc4 hg hp
theorem tr_takeAway {post : St1 → Prop} {r t : Nat} {v : Int32} (hr : r < 3) (ht : t < 48) (hv : v = nI t) (h0 : a13 (49 * r + (t + 1)) = 0 → post (f, a1, a2, a3, a4, a5, a6, a7, a8, a9, a10, a11, a12, upd a13 (49 * r + (t + 1)) 1, a14, upd a15 r (a15 r - 1)))
    (h1 : ¬ a13 (49 * r + (t + 1)) = 0 → post (f, a1, a2, a3, a4, a5, a6, a7, a8, a9, a10, a11, a12, a13, a14, a15)) : wpX_takeAway post (f, a1, a2, a3, a4, a5, a6, a7, a8, a9, a10, a11, a12, a13, a14, a15) (nI r) v := by
  subst hv
  have c1 : (nI (49 * r + (t + 1))).toNatClampNeg = 49 * r + (t + 1) := pk_cl _
  have c3 : (nI r).toNatClampNeg = r := pk_cl _
  have i1 : vp_in (nI (49 * r + (t + 1))) 147 := pk_in (49 * r + (t + 1)) 147 (by omega)
  have i3 : vp_in (nI r) 3 := vp_in_nI hr (by decide)
  refine nm_r (tr_ix49 r t) ⟨i1, ?_⟩
  by_cases h : a13 (49 * r + (t + 1)) = 0
  · exact br_t (by rw [c1]; exact h) ⟨i1, nm_r (by rw [c1]) ⟨i3, i3, nm_r (by rw [c3]) (h0 h)⟩⟩
  · exact br_f (by rw [c1]; exact h) (h1 h)
end
end
section
/-- what a replica with the counts kn knows -/
def tr_kn (num org kn : Nat → Nat) (c : Nat) : Bool := decide (num c ≤ kn (org c))
/-- the log of all changes, and the common row G -/
def tr_L (m : Nat) (org num anc stm tgt cnt : Nat → Nat) (G : List Nat) (f : Int32) (a1 a2 a3 a5 a6 a7 a8 a9 : Nat → Int32) : Prop :=
  m ≤ 48 ∧ f = nI m ∧
  (∀ c, c < m → a2 c = nI (org c) ∧ org c < 3 ∧ a3 c = nI (num c) ∧ 1 ≤ num c ∧ num c ≤ cnt (org c)) ∧
  (∀ c, c < m → ¬ a1 c = 0 → a5 c = nI (anc c) - 1 ∧ anc c ≤ c ∧ a6 c = nI (stm c) ∧ stm c ≤ m) ∧
  (∀ c, c < m → a1 c = 0 → a7 c = nI (tgt c) ∧ tgt c < c ∧ ¬ a1 (tgt c) = 0) ∧
  (∀ o, o < 3 → a8 o = nI (cnt o) ∧ cnt o ≤ m) ∧
  (∀ o k, o < 3 → 1 ≤ k → k ≤ cnt o → ∃ c, c < m ∧ a9 (49 * o + k) = nI c ∧ org c = o ∧ num c = k) ∧
  (∀ c d, c < d → d < m → org c = org d → num c < num d) ∧
  G.Nodup ∧ G.length ≤ m ∧ (∀ c, c ∈ G ↔ c < m ∧ ¬ a1 c = 0) ∧
  tr_P (tr_key stm org) anc G ∧
  (∀ c d, c ∈ G → d ∈ G → tr_key stm org c = tr_key stm org d → c = d)
/-- one replica: its row is the common row cut down to what it knows -/
def tr_R (m : Nat) (org num anc stm tgt cnt : Nat → Nat) (G : List Nat) (kn : Nat → Nat) (r : Nat) (a1 a10 a11 a12 a13 a15 : Nat → Int32) : Prop :=
  (∀ o, o < 3 → a10 (3 * r + o) = nI (kn o) ∧ kn o ≤ cnt o) ∧
  tr_ch a12 (49 * r) 0 (G.filter (tr_kn num org kn)) ∧
  (∀ c, c < 48 → (a13 (49 * r + (c + 1)) = 0 ↔ ∀ d, d < m → a1 d = 0 → tgt d = c → ¬ num d ≤ kn (org d))) ∧
  a15 r = nI (tr_tx a13 (49 * r) (G.filter (tr_kn num org kn))).length ∧
  (∃ g, a11 r = nI g ∧ g ≤ m ∧ ∀ c, c ∈ G → num c ≤ kn (org c) → stm c ≤ g) ∧
  (∀ c, c < m → num c ≤ kn (org c) → ¬ a1 c = 0 → anc c = 0 ∨ num (anc c - 1) ≤ kn (org (anc c - 1))) ∧
  (∀ d, d < m → num d ≤ kn (org d) → a1 d = 0 → num (tgt d) ≤ kn (org (tgt d)))
def tr_K (K : Nat → Nat → Nat) (r o n : Nat) : Nat → Nat → Nat := fun s q => if s = r ∧ q = o then n else K s q
theorem tr_K_o {K : Nat → Nat → Nat} {r o n s : Nat} (h : s ≠ r) : tr_K K r o n s = K s := by
  funext q
  exact if_neg (fun z => h z.1)
theorem tr_K_s {K : Nat → Nat → Nat} {r o n : Nat} : tr_K K r o n r o = n := if_pos ⟨rfl, rfl⟩
theorem tr_K_n {K : Nat → Nat → Nat} {r o n q : Nat} (h : q ≠ o) : tr_K K r o n r q = K r q := if_neg (fun z => h z.2)
theorem tr_tx_congr {g g' : Nat → Int32} {b : Nat} {R : List Nat} (h : ∀ x, x ∈ R → g' (b + (x + 1)) = g (b + (x + 1))) : tr_tx g' b R = tr_tx g b R := by
  unfold tr_tx
  refine List.filter_congr (fun x hx => ?_)
  unfold tr_al
  rw [h x hx]
theorem tr_R_frame {m : Nat} {org num anc stm tgt cnt : Nat → Nat} {G : List Nat} {kn : Nat → Nat} {s : Nat} {a1 a10 a11 a12 a13 a15 a10' a11' a12' a13' a15' : Nat → Int32}
    (h : tr_R m org num anc stm tgt cnt G kn s a1 a10 a11 a12 a13 a15) (hG : ∀ x, x ∈ G → x < 48)
    (e10 : ∀ o, o < 3 → a10' (3 * s + o) = a10 (3 * s + o)) (e11 : a11' s = a11 s) (e12 : ∀ n, n < 49 → a12' (49 * s + n) = a12 (49 * s + n)) (e13 : ∀ n, n < 49 → a13' (49 * s + n) = a13 (49 * s + n)) (e15 : a15' s = a15 s) :
    tr_R m org num anc stm tgt cnt G kn s a1 a10' a11' a12' a13' a15' := by
  obtain ⟨h1, h2, h3, h4, h5, h6, h7⟩ := h
  have hR : ∀ x, x ∈ G.filter (tr_kn num org kn) → x < 48 := fun x hx => hG x (List.mem_filter.mp hx).1
  refine ⟨fun o ho => ⟨(e10 o ho).trans (h1 o ho).1, (h1 o ho).2⟩, tr_ch_congr _ _ h2 (e12 0 (by omega)) (fun c hc => e12 (c + 1) (by have := hR c hc; omega)), fun c hc => ?_, ?_, ?_, h6, h7⟩
  · rw [e13 (c + 1) (by omega)]
    exact h3 c hc
  · rw [e15, h4, tr_tx_congr (fun x hx => e13 (x + 1) (by have := hR x hx; omega))]
  · rw [e11]
    exact h5
/-- same text under another filter of shown letters: one letter goes -/
theorem tr_tx_take {g : Nat → Int32} {b t : Nat} : ∀ (R : List Nat), R.Nodup → t ∈ R → g (b + (t + 1)) = 0 → (tr_tx g b R).length = (tr_tx (upd g (b + (t + 1)) 1) b R).length + 1 := by
  intro R
  induction R with
  | nil => intro _ h _; exact absurd h List.not_mem_nil
  | cons x R ih =>
    intro nd ht hg
    obtain ⟨n1, n2⟩ := List.nodup_cons.mp nd
    by_cases e : t = x
    · subst e
      have e1 : tr_tx (upd g (b + (t + 1)) 1) b R = tr_tx g b R := tr_tx_congr (fun y hy => pk_un (fun z => n1 (by have : t = y := by omega
                                                                                                                   rw [this]; exact hy)))
      rw [tr_tx_t hg, tr_tx_f (g := upd g (b + (t + 1)) 1) (by rw [pk_us]; decide), e1]
      rfl
    · have ht' : t ∈ R := (List.mem_cons.mp ht).resolve_left e
      have hx : upd g (b + (t + 1)) 1 (b + (x + 1)) = g (b + (x + 1)) := pk_un (by omega)
      by_cases al : g (b + (x + 1)) = 0
      · rw [tr_tx_t al, tr_tx_t (g := upd g (b + (t + 1)) 1) (by rw [hx]; exact al), List.length_cons, List.length_cons, ih n2 ht' hg]
      · rw [tr_tx_f al, tr_tx_f (g := upd g (b + (t + 1)) 1) (by rw [hx]; exact al), ih n2 ht' hg]
section
variable {f : Int32} {a1 a2 a3 a4 a5 a6 a7 a8 a9 a10 a11 a12 a13 a14 a15 : Nat → Int32}
/-- to learn change c: the next one of its origin that the replica lacks, its anchor or target known -/
theorem tr_learn {post : St1 → Prop} {m : Nat} {org num anc stm tgt cnt : Nat → Nat} {G : List Nat} {K : Nat → Nat → Nat} {r c : Nat}
    (hL : tr_L m org num anc stm tgt cnt G f a1 a2 a3 a5 a6 a7 a8 a9) (hR : ∀ s, s < 3 → tr_R m org num anc stm tgt cnt G (K s) s a1 a10 a11 a12 a13 a15)
    (hr : r < 3) (hc : c < m) (hn : num c = K r (org c) + 1) (need1 : ¬ a1 c = 0 → anc c = 0 ∨ num (anc c - 1) ≤ K r (org (anc c - 1))) (need2 : a1 c = 0 → num (tgt c) ≤ K r (org (tgt c)))
    (hp : ∀ a10' a11' a12' a13' a14' a15', (∀ s, s < 3 → tr_R m org num anc stm tgt cnt G (tr_K K r (org c) (num c) s) s a1 a10' a11' a12' a13' a15') →
      (¬ a1 c = 0 → a15' r = a15 r + 1 ∧ a13' = upd a13 (49 * r + (c + 1)) 0 ∧ ∃ A S T, G.filter (tr_kn num org (K r)) = A ++ S ++ T ∧ tr_ln 0 A = anc c ∧ (∀ x, x ∈ S → tr_key stm org c < tr_key stm org x) ∧
        G.filter (tr_kn num org (tr_K K r (org c) (num c) r)) = A ++ S ++ c :: T) →
      (a1 c = 0 → a13 (49 * r + (tgt c + 1)) = 0 → a15' r = a15 r - 1) →
      post (f, a1, a2, a3, a4, a5, a6, a7, a8, a9, a10', a11', a12', a13', a14', a15')) : wpX_learn post (f, a1, a2, a3, a4, a5, a6, a7, a8, a9, a10, a11, a12, a13, a14, a15) (nI r) (nI c) := by
  obtain ⟨L1, L2, L3, L4, L5, L6, L7, L8, L9, L10, L11, L12, L13⟩ := hL
  obtain ⟨c2, c2', c3, c3', c3''⟩ := L3 c hc
  have hcn := (L6 (org c) c2').2
  have hG48 : ∀ x, x ∈ G → x < 48 := fun x hx => by
    have := ((L11 x).mp hx).1
    omega
  -- what is known behind it
  have hkn : ∀ d, d < m → (num d ≤ tr_K K r (org c) (num c) r (org d) ↔ num d ≤ K r (org d) ∨ d = c) := by
    intro d hd
    by_cases eo : org d = org c
    · rw [eo, tr_K_s]
      constructor
      · intro h
        by_cases h2 : num d ≤ K r (org c)
        · exact Or.inl h2
        · refine Or.inr ?_
          have e : num d = num c := by omega
          rcases Nat.lt_trichotomy d c with q | q | q
          · have := L8 d c q hc eo
            omega
          · exact q
          · have := L8 c d q hd eo.symm
            omega
      · intro h
        rcases h with h | h
        · omega
        · rw [h]
          exact Nat.le_refl _
    · rw [tr_K_n eo]
      constructor
      · exact Or.inl
      · intro h
        rcases h with h | h
        · exact h
        · rw [h] at eo
          exact absurd rfl eo
  have hcl : (nI c).toNatClampNeg = c := pk_cl _
  have e10 : 3 * nI r + a2 (nI c).toNatClampNeg = nI (3 * r + org c) := by rw [hcl, c2, tr_ix3]
  have ic : vp_in (nI c) 48 := vp_in_nI (by omega) (by decide)
  -- the others
  have hoth : ∀ (a11' a12' a13' a15' : Nat → Int32), (∀ i, i ≠ r → a11' i = a11 i) → (∀ i, i < 49 * r ∨ 49 * r + 49 ≤ i → a12' i = a12 i) → (∀ i, i < 49 * r ∨ 49 * r + 49 ≤ i → a13' i = a13 i) → (∀ i, i ≠ r → a15' i = a15 i) →
      ∀ s, s < 3 → s ≠ r → tr_R m org num anc stm tgt cnt G (tr_K K r (org c) (num c) s) s a1 (upd a10 (3 * r + org c) (nI (num c))) a11' a12' a13' a15' := by
    intro a11' a12' a13' a15' g11 g12 g13 g15 s hs hsr
    rw [tr_K_o hsr]
    exact tr_R_frame (hR s hs) hG48 (fun o ho => pk_un (by omega)) (g11 s hsr) (fun n hn => g12 _ (by omega)) (fun n hn => g13 _ (by omega)) (g15 s hsr)
  obtain ⟨R1, R2, R3, R4, ⟨g, R5, R5', R5''⟩, R6, R7⟩ := hR r hr
  have h10 : ∀ o, o < 3 → upd a10 (3 * r + org c) (nI (num c)) (3 * r + o) = nI (tr_K K r (org c) (num c) r o) ∧ tr_K K r (org c) (num c) r o ≤ cnt o := by
    intro o ho
    by_cases eo : o = org c
    · rw [eo, pk_us, tr_K_s]
      exact ⟨rfl, c3''⟩
    · rw [pk_un (by omega), tr_K_n eo]
      exact R1 o ho
  refine ⟨ic, ic, pk_in (3 * r + org c) 9 (by omega) e10, nm_r (e' := upd a10 (3 * r + org c) (nI (num c))) (by rw [pk_cl _ e10, hcl, c3]) ⟨ic, ?_⟩⟩
  have hRl : (G.filter (tr_kn num org (K r))).length ≤ 48 := by
    have := List.length_filter_le (tr_kn num org (K r)) G
    omega
  by_cases hi : a1 c = 0
  · -- a delete
    obtain ⟨t7, tlt, tin⟩ := L5 c hc hi
    have hfil : G.filter (tr_kn num org (tr_K K r (org c) (num c) r)) = G.filter (tr_kn num org (K r)) := by
      refine List.filter_congr (fun x hx => ?_)
      obtain ⟨x1, x2⟩ := (L11 x).mp hx
      unfold tr_kn
      refine decide_eq_decide.mpr ((hkn x x1).trans ⟨fun h => h.resolve_right (fun q => x2 (by rw [q]; exact hi)), Or.inl⟩)
    have htG : tgt c ∈ G.filter (tr_kn num org (K r)) := List.mem_filter.mpr ⟨(L11 _).mpr ⟨by omega, tin⟩, decide_eq_true (need2 hi)⟩
    have c6 : ∀ d, d < m → num d ≤ tr_K K r (org c) (num c) r (org d) → ¬ a1 d = 0 → anc d = 0 ∨ num (anc d - 1) ≤ tr_K K r (org c) (num c) r (org (anc d - 1)) := by
      intro d hd hk h1
      have hk' := ((hkn d hd).mp hk).resolve_right (fun q => h1 (by rw [q]; exact hi))
      obtain ⟨_, ale, _⟩ := L4 d hd h1
      rcases R6 d hd hk' h1 with q | q
      · exact Or.inl q
      · exact Or.inr ((hkn _ (by omega)).mpr (Or.inl q))
    have c7 : ∀ d, d < m → num d ≤ tr_K K r (org c) (num c) r (org d) → a1 d = 0 → num (tgt d) ≤ tr_K K r (org c) (num c) r (org (tgt d)) := by
      intro d hd hk h1
      obtain ⟨_, tle, _⟩ := L5 d hd h1
      rcases (hkn d hd).mp hk with q | q
      · exact (hkn _ (by omega)).mpr (Or.inl (R7 d hd q h1))
      · rw [q] at tle ⊢
        exact (hkn _ (by omega)).mpr (Or.inl (need2 hi))
    have c5 : ∃ g, a11 r = nI g ∧ g ≤ m ∧ ∀ x, x ∈ G → num x ≤ tr_K K r (org c) (num c) r (org x) → stm x ≤ g := by
      refine ⟨g, R5, R5', fun x hx hk => R5'' x hx ?_⟩
      obtain ⟨x1, x2⟩ := (L11 x).mp hx
      exact ((hkn x x1).mp hk).resolve_right (fun q => x2 (by rw [q]; exact hi))
    refine br_t (by rw [hcl]; exact hi) ⟨ic, tr_takeAway (t := tgt c) hr (by omega) (by rw [hcl]; exact t7) (fun h => ?_) (fun h => ?_)⟩
    · refine hp _ _ _ _ _ _ (fun s hs => ?_) (fun z => absurd hi z) (fun _ _ => pk_us)
      by_cases e : s = r
      · subst e
        refine ⟨h10, by rw [hfil]; exact R2, fun d hd => ?_, ?_, c5, c6, c7⟩
        · by_cases ed : d = tgt c
          · rw [ed, pk_us]
            refine ⟨fun z => absurd z (by decide), fun z => absurd ?_ (z c hc hi rfl)⟩
            exact (hkn c hc).mpr (Or.inr rfl)
          · rw [pk_un (by omega)]
            refine (R3 d hd).trans ⟨fun z x hx h1 h2 h3 => ?_, fun z x hx h1 h2 h3 => z x hx h1 h2 ((hkn x hx).mpr (Or.inl h3))⟩
            rcases (hkn x hx).mp h3 with q | q
            · exact z x hx h1 h2 q
            · exact ed (by rw [← h2, q])
        · have nd := List.Nodup.sublist (List.filter_sublist (p := tr_kn num org (K s)) (l := G)) L9
          have tl := tr_tx_take (g := a13) (b := 49 * s) (t := tgt c) _ nd htG h
          rw [hfil, pk_us, R4, tl, nI_pred]
      · exact hoth _ _ _ _ (fun i _ => rfl) (fun i _ => rfl) (fun i hi => pk_un (by omega)) (fun i hi => pk_un hi) s hs e
    · refine hp _ _ _ _ _ _ (fun s hs => ?_) (fun z => absurd hi z) (fun _ z => absurd z h)
      by_cases e : s = r
      · subst e
        refine ⟨h10, by rw [hfil]; exact R2, fun d hd => ?_, by rw [hfil]; exact R4, c5, c6, c7⟩
        refine ⟨fun z x hx h1 h2 h3 => ?_, fun z => (R3 d hd).mpr (fun x hx h1 h2 h3 => z x hx h1 h2 ((hkn x hx).mpr (Or.inl h3)))⟩
        rcases (hkn x hx).mp h3 with q | q
        · exact (R3 d hd).mp z x hx h1 h2 q
        · rw [q] at h2
          rw [h2] at h
          exact h z
      · exact hoth _ _ _ _ (fun i _ => rfl) (fun i _ => rfl) (fun i hi => rfl) (fun i hi => rfl) s hs e
  · -- an insert
    obtain ⟨e5, ale, e6, s6⟩ := L4 c hc hi
    have hcG : c ∈ G := (L11 c).mpr ⟨hc, hi⟩
    have hkc : tr_kn num org (K r) c = false := decide_eq_false (by omega)
    have hkc' : tr_kn num org (tr_K K r (org c) (num c) r) c = true := decide_eq_true ((hkn c hc).mpr (Or.inr rfl))
    obtain ⟨A, S, T, F1, F2, F3, F4, F5⟩ := tr_flt (k' := tr_kn num org (tr_K K r (org c) (num c) r)) L12 L9 hcG
      (fun x hx hk => by
        obtain ⟨x1, x2⟩ := (L11 x).mp hx
        rcases R6 x x1 (of_decide_eq_true hk) x2 with q | q
        · exact Or.inl q
        · exact Or.inr (decide_eq_true q))
      hkc
      (by
        rcases need1 hi with q | q
        · exact Or.inl q
        · exact Or.inr (decide_eq_true q))
      (fun x hx hne => by
        obtain ⟨x1, x2⟩ := (L11 x).mp hx
        unfold tr_kn
        exact decide_eq_decide.mpr ((hkn x x1).trans ⟨fun h => h.resolve_right hne, Or.inl⟩))
      hkc'
    have fact : ∀ x, x ∈ G → x < 48 ∧ a6 x = nI (stm x) ∧ a2 x = nI (org x) ∧ stm x < 100 ∧ org x < 3 := by
      intro x hx
      obtain ⟨x1, x2⟩ := (L11 x).mp hx
      obtain ⟨_, _, x3, x4⟩ := L4 x x1 x2
      obtain ⟨x5, x6, _⟩ := L3 x x1
      exact ⟨by omega, x3, x5, by omega, x6⟩
    have hsub : ∀ x, x ∈ A ++ S ++ T → x ∈ G := fun x hx => by
      rw [← F1] at hx
      exact (List.mem_filter.mp hx).1
    have hcn' : c ∉ A ++ S ++ T := fun z => by
      rw [← F1] at z
      have := (List.mem_filter.mp z).2
      rw [hkc] at this
      exact Bool.false_ne_true this
    have nd : (A ++ S ++ T).Nodup := by
      rw [← F1]
      exact List.Nodup.sublist List.filter_sublist L9
    rw [F1] at R2 R4 hRl
    refine br_f (by rw [hcl]; exact hi) (tr_putInRow (A := A) (S := S) (T := T) (stm := stm) (org := org) (g := g) hr (fact c hcG) e5 R2 (fun x hx => fact x (hsub x hx)) F2 F3 F4 hRl R5 (by omega) (fun a11' g11 ⟨g', q1, q2, q3, q4⟩ => ?_))
    have lnb : tr_ln 0 (A ++ S) ≤ 48 := by
      rcases tr_ln_mem 0 (A ++ S) with q | ⟨a, q1, q2⟩
      · rw [q]
        exact Nat.zero_le _
      · rw [q2]
        exact hG48 a (hsub a (List.mem_append_left _ q1))
    refine hp _ _ _ _ _ _ (fun s hs => ?_) (fun _ => ⟨pk_us, rfl, A, S, T, F1, F2, F3, F5⟩) (fun z => absurd z hi)
    by_cases e : s = r
    · subst e
      refine ⟨h10, ?_, fun d hd => ?_, ?_, ⟨g', q1, by omega, fun x hx hk => ?_⟩, fun d hd hk h1 => ?_, fun d hd hk h1 => ?_⟩
      · rw [F5]
        exact tr_ch_ins (A ++ S) 0 R2 hcn' (by omega) (fun x _ => by omega) nd
      · by_cases ed : d = c
        · rw [ed, pk_us]
          refine ⟨fun _ x hx h1 h2 h3 => ?_, fun _ => rfl⟩
          have hxk := ((hkn x hx).mp h3).resolve_right (fun q => hi (by rw [← q]; exact h1))
          have := R7 x hx hxk h1
          rw [h2] at this
          omega
        · rw [pk_un (by omega)]
          refine (R3 d hd).trans ⟨fun z x hx h1 h2 h3 => ?_, fun z x hx h1 h2 h3 => z x hx h1 h2 ((hkn x hx).mpr (Or.inl h3))⟩
          exact z x hx h1 h2 (((hkn x hx).mp h3).resolve_right (fun q => hi (by rw [← q]; exact h1)))
      · have e1 : tr_tx (upd a13 (49 * s + (c + 1)) 0) (49 * s) (A ++ S ++ T) = tr_tx a13 (49 * s) (A ++ S ++ T) := tr_tx_congr (fun x hx => pk_un (fun z => hcn' (by
          have : c = x := by omega
          rw [this]
          exact hx)))
        have e2 : (tr_tx (upd a13 (49 * s + (c + 1)) 0) (49 * s) (A ++ S ++ c :: T)).length = (tr_tx a13 (49 * s) (A ++ S ++ T)).length + 1 := by
          rw [← e1]
          unfold tr_tx
          rw [List.filter_append (A ++ S) (c :: T), List.filter_append (A ++ S) T, List.filter_cons, tr_al_t pk_us, List.length_append, List.length_append]
          rfl
        rw [F5, e2, pk_us, R4, nI_1]
      · obtain ⟨x1, x2⟩ := (L11 x).mp hx
        rcases (hkn x x1).mp hk with q | q
        · have := R5'' x hx q
          omega
        · rw [q]
          exact q3
      · obtain ⟨_, dle, _⟩ := L4 d hd h1
        rcases (hkn d hd).mp hk with q | q
        · rcases R6 d hd q h1 with q | q
          · exact Or.inl q
          · exact Or.inr ((hkn _ (by omega)).mpr (Or.inl q))
        · rw [q]
          rcases need1 hi with q | q
          · exact Or.inl q
          · exact Or.inr ((hkn _ (by omega)).mpr (Or.inl q))
      · obtain ⟨_, dlt, _⟩ := L5 d hd h1
        have hk' := ((hkn d hd).mp hk).resolve_right (fun q => hi (by rw [← q]; exact h1))
        exact (hkn _ (by omega)).mpr (Or.inl (R7 d hd hk' h1))
    · exact hoth _ _ _ _ g11 (fun i hi => by rw [pk_un (by omega), pk_un (by omega)]) (fun i hi => pk_un (by omega)) (fun i hi => pk_un hi) s hs e
end
end
section
def tr_up (g : Nat → Nat) (k v : Nat) : Nat → Nat := fun j => if j = k then v else g j
theorem tr_us {g : Nat → Nat} {k v : Nat} : tr_up g k v k = v := if_pos rfl
theorem tr_un {g : Nat → Nat} {k v j : Nat} (h : j ≠ k) : tr_up g k v j = g j := if_neg h
/-- a new insert finds its place in the common row -/
theorem tr_G_ins {key anc : Nat → Nat} {G : List Nat} {c : Nat} (hP : tr_P key anc G) (hq : anc c = 0 ∨ anc c - 1 ∈ G) (hne : ∀ x, x ∈ G → key x ≠ key c) (hcG : c ∉ G) (nd : G.Nodup) :
    ∃ G', tr_P key anc G' ∧ G'.Nodup ∧ G'.length = G.length + 1 ∧ (∀ x, x ∈ G' ↔ x ∈ G ∨ x = c) ∧ (∀ k : Nat → Bool, k c = false → G'.filter k = G.filter k) := by
  obtain ⟨A, B, e1, e2⟩ := tr_cut G (anc c) hq
  obtain ⟨S, T, e3, e4, e5⟩ := tr_span key (key c) B
  have eG : G = A ++ S ++ T := by rw [e1, e3, List.append_assoc]
  subst eG
  refine ⟨A ++ S ++ c :: T, tr_P_ins hP e2 e4 e5 hne, ?_, ?_, ?_, ?_⟩
  · obtain ⟨n1, n2, n3⟩ := List.nodup_append.mp nd
    refine List.nodup_append.mpr ⟨n1, List.nodup_cons.mpr ⟨fun z => hcG (List.mem_append_right _ z), n2⟩, fun x hx y hy => ?_⟩
    rcases List.mem_cons.mp hy with q | q
    · rw [q]
      intro z
      rw [z] at hx
      exact hcG (List.mem_append_left _ hx)
    · exact n3 x hx y q
  · simp only [List.length_append, List.length_cons]
    omega
  · intro x
    simp only [List.mem_append, List.mem_cons]
    constructor
    · rintro (q | q | q)
      · exact Or.inl (Or.inl q)
      · exact Or.inr q
      · exact Or.inl (Or.inr q)
    · rintro ((q | q) | q)
      · exact Or.inl q
      · exact Or.inr (Or.inr q)
      · exact Or.inr (Or.inl q)
  · intro k hk
    rw [List.filter_append (A ++ S) (c :: T), List.filter_append (A ++ S) T, List.filter_cons, hk]
    rfl
/-- the log grows by change m of replica r -/
theorem tr_L_ext {m : Nat} {org num anc stm tgt cnt anc' stm' tgt' : Nat → Nat} {G G' : List Nat} {f v : Int32} {a1 a2 a3 a5 a6 a7 a8 a9 a5' a6' a7' : Nat → Int32} {r : Nat}
    (hL : tr_L m org num anc stm tgt cnt G f a1 a2 a3 a5 a6 a7 a8 a9) (hm : m < 48) (hr : r < 3)
    (ag : ∀ x, x < m → anc' x = anc x ∧ stm' x = stm x ∧ tgt' x = tgt x ∧ a5' x = a5 x ∧ a6' x = a6 x ∧ a7' x = a7 x)
    (hi : ¬ v = 0 → a5' m = nI (anc' m) - 1 ∧ anc' m ≤ m ∧ a6' m = nI (stm' m) ∧ stm' m ≤ m + 1)
    (hd : v = 0 → a7' m = nI (tgt' m) ∧ tgt' m < m ∧ ¬ a1 (tgt' m) = 0)
    (g1 : G'.Nodup) (g2 : G'.length ≤ m + 1) (g3 : ∀ c, c ∈ G' ↔ c < m + 1 ∧ ¬ upd a1 m v c = 0) (g4 : tr_P (tr_key stm' (tr_up org m r)) anc' G')
    (g5 : ∀ c d, c ∈ G' → d ∈ G' → tr_key stm' (tr_up org m r) c = tr_key stm' (tr_up org m r) d → c = d) :
    tr_L (m + 1) (tr_up org m r) (tr_up num m (cnt r + 1)) anc' stm' tgt' (tr_up cnt r (cnt r + 1)) G' (nI (m + 1)) (upd a1 m v) (upd a2 m (nI r)) (upd a3 m (nI (cnt r + 1))) a5' a6' a7' (upd a8 r (nI (cnt r + 1))) (upd a9 (49 * r + (cnt r + 1)) (nI m)) := by
  obtain ⟨L1, L2, L3, L4, L5, L6, L7, L8, L9, L10, L11, L12, L13⟩ := hL
  have cr := (L6 r hr).2
  have hcnt : ∀ o, cnt o ≤ tr_up cnt r (cnt r + 1) o := by
    intro o
    by_cases e : o = r
    · rw [e, tr_us]
      omega
    · rw [tr_un e]
      exact Nat.le_refl _
  refine ⟨by omega, rfl, fun c hc => ?_, fun c hc h1 => ?_, fun c hc h1 => ?_, fun o ho => ?_, fun o k ho h1 h2 => ?_, fun c d hcd hd' h1 => ?_, g1, g2, g3, g4, g5⟩
  · by_cases e : c = m
    · rw [e, pk_us, pk_us, tr_us, tr_us, tr_us]
      exact ⟨rfl, hr, rfl, by omega, Nat.le_refl _⟩
    · obtain ⟨x1, x2, x3, x4, x5⟩ := L3 c (by omega)
      rw [pk_un e, pk_un e, tr_un e, tr_un e]
      exact ⟨x1, x2, x3, x4, Nat.le_trans x5 (hcnt _)⟩
  · by_cases e : c = m
    · rw [e, pk_us] at h1
      rw [e]
      exact hi h1
    · rw [pk_un e] at h1
      obtain ⟨y1, y2, y3, y4, y5, y6⟩ := ag c (by omega)
      obtain ⟨x1, x2, x3, x4⟩ := L4 c (by omega) h1
      rw [y1, y2, y4, y5]
      exact ⟨x1, x2, x3, by omega⟩
  · by_cases e : c = m
    · rw [e, pk_us] at h1
      obtain ⟨x1, x2, x3⟩ := hd h1
      rw [e]
      refine ⟨x1, x2, ?_⟩
      rw [pk_un (by omega)]
      exact x3
    · rw [pk_un e] at h1
      obtain ⟨y1, y2, y3, y4, y5, y6⟩ := ag c (by omega)
      obtain ⟨x1, x2, x3⟩ := L5 c (by omega) h1
      rw [y3, y6]
      refine ⟨x1, x2, ?_⟩
      rw [pk_un (by omega)]
      exact x3
  · by_cases e : o = r
    · rw [e, pk_us, tr_us]
      exact ⟨rfl, by omega⟩
    · rw [pk_un e, tr_un e]
      obtain ⟨x1, x2⟩ := L6 o ho
      exact ⟨x1, by omega⟩
  · by_cases e : o = r ∧ k = cnt r + 1
    · obtain ⟨e1, e2⟩ := e
      refine ⟨m, by omega, ?_, ?_, ?_⟩
      · rw [e1, e2, pk_us]
      · rw [tr_us, e1]
      · rw [tr_us, e2]
    · have hk : k ≤ cnt o := by
        by_cases e1 : o = r
        · rw [e1, tr_us] at h2
          have : k ≠ cnt r + 1 := fun z => e ⟨e1, z⟩
          rw [e1]
          omega
        · rw [tr_un e1] at h2
          exact h2
      obtain ⟨c, c1, c2, c3, c4⟩ := L7 o k ho h1 hk
      have co := (L6 o ho).2
      refine ⟨c, by omega, ?_, ?_, ?_⟩
      · rw [pk_un (fun z => e ⟨by omega, by omega⟩)]
        exact c2
      · rw [tr_un (by omega)]
        exact c3
      · rw [tr_un (by omega)]
        exact c4
  · have ec : c ≠ m := by omega
    rw [tr_un ec] at h1 ⊢
    by_cases e : d = m
    · rw [e, tr_us] at h1
      rw [e, tr_us]
      have := (L3 c (by omega)).2.2.2.2
      rw [h1] at this
      omega
    · rw [tr_un e] at h1 ⊢
      exact L8 c d hcd (by omega) h1
/-- .. and no replica knows it yet -/
theorem tr_R_ext {m : Nat} {org num anc stm tgt cnt org' num' anc' stm' tgt' cnt' : Nat → Nat} {G G' : List Nat} {kn : Nat → Nat} {s : Nat} {a1 a10 a11 a12 a13 a15 a1' : Nat → Int32}
    (h : tr_R m org num anc stm tgt cnt G kn s a1 a10 a11 a12 a13 a15) (hGm : ∀ x, x ∈ G → x < m)
    (ag : ∀ x, x < m → org' x = org x ∧ num' x = num x ∧ anc' x = anc x ∧ stm' x = stm x ∧ tgt' x = tgt x ∧ a1' x = a1 x)
    (hanc : ∀ x, x < m → ¬ a1 x = 0 → anc x ≤ x) (htg : ∀ x, x < m → a1 x = 0 → tgt x < x) (hnew : ¬ num' m ≤ kn (org' m)) (hcnt : ∀ o, o < 3 → cnt o ≤ cnt' o)
    (hG' : ∀ k : Nat → Bool, k m = false → G'.filter k = G.filter k) (hGm' : ∀ x, x ∈ G' → x ∈ G ∨ x = m) :
    tr_R (m + 1) org' num' anc' stm' tgt' cnt' G' kn s a1' a10 a11 a12 a13 a15 := by
  obtain ⟨h1, h2, h3, h4, ⟨g, g1, g2, g3⟩, h6, h7⟩ := h
  have hfil : G'.filter (tr_kn num' org' kn) = G.filter (tr_kn num org kn) := by
    rw [hG' _ (decide_eq_false hnew)]
    refine List.filter_congr (fun x hx => ?_)
    obtain ⟨y1, y2, _⟩ := ag x (hGm x hx)
    unfold tr_kn
    rw [y1, y2]
  have lt : ∀ x, x < m + 1 → num' x ≤ kn (org' x) → x < m := by
    intro x hx hk
    rcases Nat.lt_or_ge x m with q | q
    · exact q
    · have : x = m := by omega
      rw [this] at hk
      exact absurd hk hnew
  refine ⟨fun o ho => ⟨(h1 o ho).1, Nat.le_trans (h1 o ho).2 (hcnt o ho)⟩, by rw [hfil]; exact h2, fun c hc => ?_, by rw [hfil]; exact h4, ⟨g, g1, by omega, fun c hc hk => ?_⟩, fun c hc hk hi => ?_, fun d hd hk hi => ?_⟩
  · refine (h3 c hc).trans ⟨fun z d hd d1 d2 d3 => ?_, fun z d hd d1 d2 d3 => ?_⟩
    · have hd' := lt d hd d3
      obtain ⟨y1, y2, y3, y4, y5, y6⟩ := ag d hd'
      rw [y1, y2] at d3
      exact z d hd' (by rw [← y6]; exact d1) (by rw [← y5]; exact d2) d3
    · obtain ⟨y1, y2, y3, y4, y5, y6⟩ := ag d hd
      exact z d (by omega) (by rw [y6]; exact d1) (by rw [y5]; exact d2) (by rw [y1, y2]; exact d3)
  · rcases hGm' c hc with q | q
    · obtain ⟨y1, y2, y3, y4, y5, y6⟩ := ag c (hGm c q)
      rw [y1, y2] at hk
      rw [y4]
      exact g3 c q hk
    · rw [q] at hk
      exact absurd hk hnew
  · have hc' := lt c hc hk
    obtain ⟨y1, y2, y3, y4, y5, y6⟩ := ag c hc'
    rw [y1, y2] at hk
    rw [y6] at hi
    have ha := hanc c hc' hi
    rw [y3]
    rcases h6 c hc' hk hi with q | q
    · exact Or.inl q
    · by_cases e0 : anc c = 0
      · exact Or.inl e0
      · obtain ⟨z1, z2, _⟩ := ag (anc c - 1) (by omega)
        rw [z1, z2]
        exact Or.inr q
  · have hd' := lt d hd hk
    obtain ⟨y1, y2, y3, y4, y5, y6⟩ := ag d hd'
    rw [y1, y2] at hk
    rw [y6] at hi
    have ht := htg d hd' hi
    obtain ⟨z1, z2, _⟩ := ag (tgt d) (by omega)
    rw [y5, z1, z2]
    exact h7 d hd' hk hi
/-- letters: at most l, and no two alike -/
def tr_T (G : List Nat) (a4 : Nat → Int32) (l : Nat) : Prop :=
  (∀ c, c ∈ G → ∃ j, a4 c = nI j ∧ 1 ≤ j ∧ j ≤ l) ∧ (∀ c d, c ∈ G → d ∈ G → a4 c = a4 d → c = d)
/-- the whole: log, replicas, each replica knows its own changes, letters -/
def tr_C (l m : Nat) (org num anc stm tgt cnt : Nat → Nat) (G : List Nat) (K : Nat → Nat → Nat) (u : St1) : Prop := match u with
  | (f, a1, a2, a3, a4, a5, a6, a7, a8, a9, a10, a11, a12, a13, a14, a15) => tr_L m org num anc stm tgt cnt G f a1 a2 a3 a5 a6 a7 a8 a9 ∧ (∀ s, s < 3 → tr_R m org num anc stm tgt cnt G (K s) s a1 a10 a11 a12 a13 a15) ∧ (∀ s, s < 3 → K s s = cnt s) ∧ tr_T G a4 l
def tr_W (l : Nat) (u : St1) : Prop := ∃ m org num anc stm tgt cnt G K, tr_C l m org num anc stm tgt cnt G K u
section
variable {f : Int32} {a1 a2 a3 a4 a5 a6 a7 a8 a9 a10 a11 a12 a13 a14 a15 : Nat → Int32}
theorem tr_newChange {post : Int32 → St1 → Prop} {m r n : Nat} {p : Int32} (hm : m < 48) (hr : r < 3) (hf : f = nI m) (h8 : a8 r = nI n) (hn : n < 48)
    (hp : post (nI m) (nI (m + 1), upd a1 m (vp_nar .boolean p), upd a2 m (nI r), upd a3 m (nI (n + 1)), a4, a5, a6, a7, upd a8 r (nI (n + 1)), upd a9 (49 * r + (n + 1)) (nI m), a10, a11, a12, a13, a14, a15)) : wpX_newChange post (f, a1, a2, a3, a4, a5, a6, a7, a8, a9, a10, a11, a12, a13, a14, a15) (nI r) p := by
  subst hf
  have cm : (nI m).toNatClampNeg = m := pk_cl _
  have cr : (nI r).toNatClampNeg = r := pk_cl _
  have im : vp_in (nI m) 48 := vp_in_nI hm (by decide)
  have ir : vp_in (nI r) 3 := vp_in_nI hr (by decide)
  have e8 : upd a8 (nI r).toNatClampNeg (a8 (nI r).toNatClampNeg + 1) = upd a8 r (nI (n + 1)) := by rw [cr, h8, nI_1]
  have e8r : upd a8 r (nI (n + 1)) (nI r).toNatClampNeg = nI (n + 1) := by rw [cr, pk_us]
  have ei : 49 * nI r + upd a8 r (nI (n + 1)) (nI r).toNatClampNeg = nI (49 * r + (n + 1)) := by rw [e8r, tr_49, nI_add]
  exact nm_r (nI_1 m) ⟨im, nm_r (by rw [cm]) ⟨im, nm_r (by rw [cm]) ⟨ir, ir, nm_r e8 ⟨ir, im, nm_r (by rw [cm, e8r]) ⟨ir, pk_in _ 147 (by omega) ei, nm_r (by rw [pk_cl _ ei]) hp⟩⟩⟩⟩⟩
theorem tr_insert48 {post : Int32 → St1 → Prop} {l m : Nat} {org num anc stm tgt cnt : Nat → Nat} {G : List Nat} {K : Nat → Nat → Nat} {r q p : Nat} {z0 : Int32}
    (hC : tr_C l m org num anc stm tgt cnt G K (f, a1, a2, a3, a4, a5, a6, a7, a8, a9, a10, a11, a12, a13, a14, a15)) (hl : l < 100) (hr : r < 3) (hm : m < 48) (hq : q = 0 ∨ q - 1 ∈ G ∧ num (q - 1) ≤ K r (org (q - 1))) (hz : z0 = nI q - 1) (hp0 : p < 100)
    (hpos : ∀ A T, G.filter (tr_kn num org (K r)) = A ++ T → tr_ln 0 A = q → (tr_tx a13 (49 * r) A).length = p)
    (h1 : ∀ u', tr_W (l + 1) u' → (∀ post' : Int32 → Prop, post' (nI (l + 1)) → wpX_letter post' u' (nI r) (nI p)) → post (a15 r + 1) u') :
    wX_insert_48 post (nI r) (nI (l + 1)) z0 f a1 a2 a3 a4 a5 a6 a7 a8 a9 a10 a11 a12 a13 a14 a15 := by
  obtain ⟨hL, hR, hown, hT1, hT2⟩ := hC
  have hL' := hL
  obtain ⟨L1, L2, L3, L4, L5, L6, L7, L8, L9, L10, L11, L12, L13⟩ := hL'
  obtain ⟨R1, R2, R3, R4, ⟨g, R5, R5', R5''⟩, R6, R7⟩ := hR r hr
  have cr := L6 r hr
  have cm : (nI m).toNatClampNeg = m := pk_cl _
  have crr : (nI r).toNatClampNeg = r := pk_cl _
  have im : vp_in (nI m) 48 := vp_in_nI hm (by decide)
  have ir : vp_in (nI r) 3 := vp_in_nI hr (by decide)
  have en : vp_nar .boolean 1 = 1 := by decide
  have hGm : ∀ x, x ∈ G → x < m := fun x hx => ((L11 x).mp hx).1
  have hqm : q ≤ m := by
    rcases hq with h | h
    · omega
    · have := hGm _ h.1
      omega
  have hcn : cnt r < 48 := by omega
  -- the common row with the new insert
  have keq : ∀ x, x ∈ G → tr_key (tr_up stm m (g + 1)) (tr_up org m r) x = tr_key stm org x := fun x hx => by
    have := hGm x hx
    unfold tr_key
    rw [tr_un (by omega), tr_un (by omega)]
  have kem : tr_key (tr_up stm m (g + 1)) (tr_up org m r) m = 3 * (g + 1) + r := by
    unfold tr_key
    rw [tr_us, tr_us]
  have kne : ∀ x, x ∈ G → tr_key (tr_up stm m (g + 1)) (tr_up org m r) x ≠ tr_key (tr_up stm m (g + 1)) (tr_up org m r) m := by
    intro x hx z
    rw [keq x hx, kem] at z
    obtain ⟨x1, x2, x3, x4, x5⟩ := L3 x (hGm x hx)
    unfold tr_key at z
    have eo : org x = r := by omega
    have := R5'' x hx (by rw [eo, hown r hr, ← eo]; exact x5)
    omega
  have hmG : m ∉ G := fun z => Nat.lt_irrefl _ (hGm m z)
  have hP' : tr_P (tr_key (tr_up stm m (g + 1)) (tr_up org m r)) (tr_up anc m q) G := tr_P_congr L12 keq (fun x hx => tr_un (by have := hGm x hx; omega))
  obtain ⟨G', p1, p2, p3, p4, p5⟩ := tr_G_ins (c := m) hP' (by
    rw [tr_us]
    rcases hq with h | h
    · exact Or.inl h
    · exact Or.inr h.1) kne hmG L9
  have hL2 := tr_L_ext (v := 1) (anc' := tr_up anc m q) (stm' := tr_up stm m (g + 1)) (tgt' := tgt) (G' := G') (a5' := upd a5 m z0) (a6' := upd a6 m (a11 r + 1)) (a7' := a7) hL hm hr
    (fun x hx => ⟨tr_un (by omega), tr_un (by omega), rfl, pk_un (by omega), pk_un (by omega), rfl⟩)
    (fun _ => by
      rw [pk_us, pk_us, tr_us, tr_us, R5, nI_1]
      exact ⟨hz, hqm, rfl, by omega⟩)
    (fun z => absurd z (by decide)) p2 (by omega)
    (fun c => by
      rw [p4 c]
      by_cases e : c = m
      · rw [e, pk_us]
        exact ⟨fun _ => ⟨by omega, by decide⟩, fun _ => Or.inr rfl⟩
      · rw [pk_un e, L11 c]
        constructor
        · intro z
          rcases z with z | z
          · exact ⟨by omega, z.2⟩
          · exact absurd z e
        · intro z
          exact Or.inl ⟨by omega, z.2⟩) p1
    (fun c d hc hd z => by
      rcases (p4 c).mp hc with q1 | q1
      · rcases (p4 d).mp hd with q2 | q2
        · rw [keq c q1, keq d q2] at z
          exact L13 c d q1 q2 z
        · rw [q2] at z
          exact absurd z (kne c q1)
      · rcases (p4 d).mp hd with q2 | q2
        · rw [q1] at z
          exact absurd z.symm (kne d q2)
        · rw [q1, q2])
  have hR2 : ∀ s, s < 3 → tr_R (m + 1) (tr_up org m r) (tr_up num m (cnt r + 1)) (tr_up anc m q) (tr_up stm m (g + 1)) tgt (tr_up cnt r (cnt r + 1)) G' (K s) s (upd a1 m 1) a10 a11 a12 a13 a15 := by
    intro s hs
    refine tr_R_ext (hR s hs) hGm (fun x hx => ⟨tr_un (by omega), tr_un (by omega), tr_un (by omega), tr_un (by omega), rfl, pk_un (by omega)⟩) (fun x hx h => (L4 x hx h).2.1) (fun x hx h => (L5 x hx h).2.1) ?_ ?_ p5 (fun x hx => (p4 x).mp hx)
    · rw [tr_us, tr_us]
      have := ((hR s hs).1 r hr).2
      omega
    · intro o _
      by_cases e : o = r
      · rw [e, tr_us]
        omega
      · rw [tr_un e]
        exact Nat.le_refl _
  unfold wX_insert_48
  refine tr_newChange hm hr L2 cr.1 hcn ?_
  rw [en]
  refine ⟨im, nm_r (e' := upd a4 m (nI (l + 1))) (by rw [cm]) ⟨im, nm_r (e' := upd a5 m z0) (by rw [cm]) ⟨ir, im, nm_r (e' := upd a6 m (a11 r + 1)) (by rw [cm, crr]) ?_⟩⟩⟩
  refine tr_learn hL2 hR2 hr (by omega) ?_ (fun _ => ?_) (fun z => ?_) (fun a10' a11' a12' a13' a14' a15' hR3 E1 _ => ⟨ir, ?_⟩)
  · rw [tr_us, tr_us, hown r hr]
  · rw [tr_us]
    rcases hq with h | h
    · exact Or.inl h
    · refine Or.inr ?_
      have := hGm _ h.1
      rw [tr_un (by omega), tr_un (by omega)]
      exact h.2
  · rw [pk_us] at z
    exact absurd z (by decide)
  · obtain ⟨E2, E3, A, S, T, E4, E5, E6, E7⟩ := E1 (by rw [pk_us]; decide)
    rw [crr, E2]
    have hrow : G'.filter (tr_kn (tr_up num m (cnt r + 1)) (tr_up org m r) (K r)) = G.filter (tr_kn num org (K r)) := by
      have hk : tr_kn (tr_up num m (cnt r + 1)) (tr_up org m r) (K r) m = false := by
        refine decide_eq_false ?_
        rw [tr_us, tr_us, hown r hr]
        omega
      rw [p5 _ hk]
      refine List.filter_congr (fun x hx => ?_)
      have := hGm x hx
      unfold tr_kn
      rw [tr_un (by omega), tr_un (by omega)]
    have hS : S = [] := by
      cases S with
      | nil => rfl
      | cons x S =>
        have h2 := E6 x List.mem_cons_self
        have h3 : x ∈ G.filter (tr_kn num org (K r)) := by
          rw [← hrow, E4]
          exact List.mem_append_left _ (List.mem_append_right _ List.mem_cons_self)
        obtain ⟨h4, h5⟩ := List.mem_filter.mp h3
        have h6 := R5'' x h4 (of_decide_eq_true h5)
        obtain ⟨x1, x2, _⟩ := L3 x (hGm x h4)
        rw [keq x h4, kem] at h2
        unfold tr_key at h2
        omega
    subst hS
    rw [List.append_nil] at E4 E7
    rw [tr_us] at E5
    rw [hrow] at E4
    have hlen := hpos A T E4 E5
    refine h1 _ ⟨m + 1, _, _, _, _, _, _, G', _, hL2, hR3, fun s hs => ?_, ?_, ?_⟩ (fun post' hp' => ?_)
    · by_cases e : s = r
      · rw [e, tr_us, tr_us, tr_us, tr_K_s]
      · rw [tr_K_o e, tr_un e]
        exact hown s hs
    · intro c hc
      by_cases e : c = m
      · rw [e, pk_us]
        exact ⟨l + 1, rfl, by omega, Nat.le_refl _⟩
      · rw [pk_un e]
        obtain ⟨j, j1, j2, j3⟩ := hT1 c (((p4 c).mp hc).resolve_right e)
        exact ⟨j, j1, j2, by omega⟩
    · have hnew : ∀ d, d ∈ G → a4 d ≠ nI (l + 1) := by
        intro d hd z
        obtain ⟨j, j1, j2, j3⟩ := hT1 d hd
        rw [j1] at z
        have := (nI_eq (by omega) (by omega)).mp z
        omega
      intro c d hc hd z
      by_cases e1 : c = m
      · by_cases e2 : d = m
        · rw [e1, e2]
        · rw [e1, pk_us, pk_un e2] at z
          exact absurd z.symm (hnew d (((p4 d).mp hd).resolve_right e2))
      · by_cases e2 : d = m
        · rw [e2, pk_us, pk_un e1] at z
          exact absurd z (hnew c (((p4 c).mp hc).resolve_right e1))
        · rw [pk_un e1, pk_un e2] at z
          exact hT2 c d (((p4 c).mp hc).resolve_right e1) (((p4 d).mp hd).resolve_right e2) z
    · obtain ⟨Q1, Q2, Q3, Q4, Q5, Q6, Q7⟩ := hR3 r hr
      have hlow : ∀ x, x ∈ G'.filter (tr_kn (tr_up num m (cnt r + 1)) (tr_up org m r) (tr_K K r (tr_up org m r m) (tr_up num m (cnt r + 1) m) r)) → x < 48 := fun x hx => by
        rcases (p4 x).mp (List.mem_filter.mp hx).1 with z | z
        · have := hGm x z
          omega
        · omega
      refine tr_letter hr Q2 hlow ?_ Q4 hp0 ?_
      · have := List.length_filter_le (tr_kn (tr_up num m (cnt r + 1)) (tr_up org m r) (tr_K K r (tr_up org m r m) (tr_up num m (cnt r + 1) m) r)) G'
        omega
      · have e1 : tr_tx a13' (49 * r) A = tr_tx a13 (49 * r) A := tr_tx_congr (fun x hx => by
          have hxG : x ∈ G := by
            have h3 : x ∈ G.filter (tr_kn num org (K r)) := by
              rw [E4]
              exact List.mem_append_left _ hx
            exact (List.mem_filter.mp h3).1
          have := hGm x hxG
          rw [E3]
          exact pk_un (by omega))
        have e2 : tr_tx a13' (49 * r) (A ++ m :: T) = tr_tx a13 (49 * r) A ++ m :: tr_tx a13' (49 * r) T := by
          rw [← e1]
          unfold tr_tx
          rw [List.filter_append, List.filter_cons, tr_al_t (by rw [E3, pk_us])]
          rfl
        rw [E7, e2]
        unfold tr_lt
        rw [List.getElem?_append_right (by omega), hlen, Nat.sub_self, List.getElem?_cons_zero]
        show post' (upd a4 m (nI (l + 1)) m)
        rw [pk_us]
        exact hp'
end
end
section
theorem tr_W_mono {l : Nat} {u : St1} (h : tr_W l u) : tr_W (l + 1) u := by
  obtain ⟨f, a1, a2, a3, a4, a5, a6, a7, a8, a9, a10, a11, a12, a13, a14, a15⟩ := u
  obtain ⟨m, org, num, anc, stm, tgt, cnt, G, K, hL, hR, hown, hT1, hT2⟩ := h
  refine ⟨m, org, num, anc, stm, tgt, cnt, G, K, hL, hR, hown, fun c hc => ?_, hT2⟩
  obtain ⟨j, j1, j2, j3⟩ := hT1 c hc
  exact ⟨j, j1, j2, by omega⟩
section
variable {f : Int32} {a1 a2 a3 a4 a5 a6 a7 a8 a9 a10 a11 a12 a13 a14 a15 : Nat → Int32}
/-- the facts of one replica's row that the walks want -/
theorem tr_view {l m : Nat} {org num anc stm tgt cnt : Nat → Nat} {G : List Nat} {K : Nat → Nat → Nat} {r : Nat} (hC : tr_C l m org num anc stm tgt cnt G K (f, a1, a2, a3, a4, a5, a6, a7, a8, a9, a10, a11, a12, a13, a14, a15)) (hr : r < 3) :
    tr_ch a12 (49 * r) 0 (G.filter (tr_kn num org (K r))) ∧ (∀ x, x ∈ G.filter (tr_kn num org (K r)) → x < 48) ∧ (G.filter (tr_kn num org (K r))).length ≤ 48 ∧
    a15 r = nI (tr_tx a13 (49 * r) (G.filter (tr_kn num org (K r)))).length ∧ (tr_tx a13 (49 * r) (G.filter (tr_kn num org (K r)))).Nodup ∧ (tr_tx a13 (49 * r) (G.filter (tr_kn num org (K r)))).length ≤ 48 ∧
    List.Sublist (tr_tx a13 (49 * r) (G.filter (tr_kn num org (K r)))) G := by
  obtain ⟨hL, hR, hown, hT⟩ := hC
  obtain ⟨L1, L2, L3, L4, L5, L6, L7, L8, L9, L10, L11, L12, L13⟩ := hL
  obtain ⟨R1, R2, R3, R4, R5, R6, R7⟩ := hR r hr
  have s1 : List.Sublist (G.filter (tr_kn num org (K r))) G := List.filter_sublist
  have s2 : List.Sublist (tr_tx a13 (49 * r) (G.filter (tr_kn num org (K r)))) (G.filter (tr_kn num org (K r))) := List.filter_sublist
  have l1 := s1.length_le
  have l2 := s2.length_le
  refine ⟨R2, fun x hx => ?_, by omega, R4, List.Nodup.sublist (s2.trans s1) L9, by omega, s2.trans s1⟩
  have := ((L11 x).mp (List.mem_filter.mp hx).1).1
  omega
theorem tr_insert {post : Int32 → St1 → Prop} {l m : Nat} {org num anc stm tgt cnt : Nat → Nat} {G : List Nat} {K : Nat → Nat → Nat} {r p : Nat}
    (hC : tr_C l m org num anc stm tgt cnt G K (f, a1, a2, a3, a4, a5, a6, a7, a8, a9, a10, a11, a12, a13, a14, a15)) (hl : l < 100) (hr : r < 3) (hp : p ≤ (tr_tx a13 (49 * r) (G.filter (tr_kn num org (K r)))).length)
    (h0 : post (-1) (f, a1, a2, a3, a4, a5, a6, a7, a8, a9, a10, a11, a12, a13, a14, a15)) (h1 : ∀ u', tr_W (l + 1) u' → (∀ post' : Int32 → Prop, post' (nI (l + 1)) → wpX_letter post' u' (nI r) (nI p)) → post (a15 r + 1) u') :
    wpX_insert post (f, a1, a2, a3, a4, a5, a6, a7, a8, a9, a10, a11, a12, a13, a14, a15) (nI r) (nI p) (nI (l + 1)) := by
  obtain ⟨V1, V2, V3, V4, V5, V6, V7⟩ := tr_view hC hr
  have hf : f = nI m := hC.1.2.1
  have hm := hC.1.1
  have crr : (nI r).toNatClampNeg = r := pk_cl _
  unfold wpX_insert
  refine tr_isR hr (br_f tr_10 (br_f (nI_pos (by omega)) ⟨vp_in_nI hr (by decide), br_f ?_ (pk_lt m 48 (fun hm => ?_) (fun _ => h0) hf)⟩))
  · rw [crr, V4]
    exact nI_nlt hp (by omega)
  · refine pk_eq p 0 (fun e => ?_) (fun e => ?_)
    · refine tr_insert48 hC hl hr hm (q := 0) (Or.inl rfl) (by decide) (by omega) (fun A T e1 e2 => ?_) h1
      rcases tr_ln_mem 0 A with q | ⟨a, q1, q2⟩
      · rw [q, e]
        rfl
      · omega
    · obtain ⟨p', rfl⟩ : ∃ p', p = p' + 1 := ⟨p - 1, by omega⟩
      have hp' : p' < (tr_tx a13 (49 * r) (G.filter (tr_kn num org (K r)))).length := by omega
      have hi : (tr_tx a13 (49 * r) (G.filter (tr_kn num org (K r))))[p']? = some ((tr_tx a13 (49 * r) (G.filter (tr_kn num org (K r))))[p']) := List.getElem?_eq_getElem hp'
      have hmem := List.getElem_mem hp'
      generalize (tr_tx a13 (49 * r) (G.filter (tr_kn num org (K r))))[p'] = c at hi hmem
      obtain ⟨c1, c2⟩ := List.mem_filter.mp hmem
      obtain ⟨c3, c4⟩ := List.mem_filter.mp c1
      rw [nI_pred]
      refine tr_insertAt hr V1 V2 V3 hi (by omega) (tr_insert48 hC hl hr hm (q := c + 1) (Or.inr ⟨c3, of_decide_eq_true c4⟩) (nI_pred c).symm (by omega) (fun A T e1 e2 => ?_) h1)
      rcases tr_snoc A with q | ⟨A', a, q⟩
      · rw [q] at e2
        exact nomatch e2
      · rw [q, tr_ln_snoc] at e2
        have ea : a = c := by omega
        have e3 : tr_tx a13 (49 * r) A = tr_tx a13 (49 * r) A' ++ [c] := by
          rw [q, ea]
          unfold tr_tx
          rw [List.filter_append, List.filter_cons, c2]
          rfl
        have e4 : tr_tx a13 (49 * r) (G.filter (tr_kn num org (K r))) = tr_tx a13 (49 * r) A' ++ c :: tr_tx a13 (49 * r) T := by
          rw [e1]
          show List.filter _ (A ++ T) = _
          rw [List.filter_append]
          show tr_tx a13 (49 * r) A ++ tr_tx a13 (49 * r) T = _
          rw [e3, List.append_assoc]
          rfl
        have e5 : (tr_tx a13 (49 * r) (G.filter (tr_kn num org (K r))))[(tr_tx a13 (49 * r) A').length]? = some c := by
          rw [e4, List.getElem?_append_right (Nat.le_refl _), Nat.sub_self, List.getElem?_cons_zero]
        have e6 : p' = (tr_tx a13 (49 * r) A').length := (List.getElem?_inj hp' V5).mp (hi.trans e5.symm)
        rw [e3, List.length_append, e6]
        rfl
theorem tr_delete {post : Int32 → St1 → Prop} {l m : Nat} {org num anc stm tgt cnt : Nat → Nat} {G : List Nat} {K : Nat → Nat → Nat} {r p : Nat}
    (hC : tr_C l m org num anc stm tgt cnt G K (f, a1, a2, a3, a4, a5, a6, a7, a8, a9, a10, a11, a12, a13, a14, a15)) (hr : r < 3) (hp : p < 100) (h0 : post (-1) (f, a1, a2, a3, a4, a5, a6, a7, a8, a9, a10, a11, a12, a13, a14, a15)) (h1 : ∀ u', tr_W l u' → post (a15 r - 1) u') : wpX_delete post (f, a1, a2, a3, a4, a5, a6, a7, a8, a9, a10, a11, a12, a13, a14, a15) (nI r) (nI p) := by
  obtain ⟨V1, V2, V3, V4, V5, V6, V7⟩ := tr_view hC hr
  obtain ⟨hL, hR, hown, hT1, hT2⟩ := hC
  have hL' := hL
  obtain ⟨L1, L2, L3, L4, L5, L6, L7, L8, L9, L10, L11, L12, L13⟩ := hL'
  obtain ⟨R1, R2, R3, R4, R5, R6, R7⟩ := hR r hr
  have crr : (nI r).toNatClampNeg = r := pk_cl _
  have ir : vp_in (nI r) 3 := vp_in_nI hr (by decide)
  unfold wpX_delete
  refine tr_isR hr (br_f tr_10 (br_f (nI_pos (by omega)) ⟨ir, pk_le (tr_tx a13 (49 * r) (G.filter (tr_kn num org (K r)))).length p (fun _ => h0) (fun hp' => pk_lt m 48 (fun hm => ?_) (fun _ => h0) L2) (by rw [crr]; exact V4)⟩))
  have hi : (tr_tx a13 (49 * r) (G.filter (tr_kn num org (K r))))[p]? = some ((tr_tx a13 (49 * r) (G.filter (tr_kn num org (K r))))[p]) := List.getElem?_eq_getElem hp'
  have hmem := List.getElem_mem hp'
  generalize (tr_tx a13 (49 * r) (G.filter (tr_kn num org (K r))))[p] = t at hi hmem
  obtain ⟨t1, t2⟩ := List.mem_filter.mp hmem
  obtain ⟨t3, t4⟩ := List.mem_filter.mp t1
  obtain ⟨t5, t6⟩ := (L11 t).mp t3
  have cr := L6 r hr
  have cm : (nI m).toNatClampNeg = m := pk_cl _
  have im : vp_in (nI m) 48 := vp_in_nI hm (by decide)
  have en : vp_nar .boolean 0 = 0 := by decide
  have hGm : ∀ x, x ∈ G → x < m := fun x hx => ((L11 x).mp hx).1
  have keq : ∀ x, x ∈ G → tr_key stm (tr_up org m r) x = tr_key stm org x := fun x hx => by
    have := hGm x hx
    unfold tr_key
    rw [tr_un (by omega)]
  have hL2 := tr_L_ext (v := 0) (anc' := anc) (stm' := stm) (tgt' := tr_up tgt m t) (G' := G) (a5' := a5) (a6' := a6) (a7' := upd a7 m (nI t)) hL hm hr
    (fun x hx => ⟨rfl, rfl, tr_un (by omega), rfl, rfl, pk_un (by omega)⟩) (fun z => absurd rfl z)
    (fun _ => by
      rw [pk_us, tr_us]
      exact ⟨rfl, t5, t6⟩) L9 (by omega)
    (fun c => by
      by_cases e : c = m
      · rw [e, pk_us]
        exact ⟨fun z => absurd (hGm m z) (Nat.lt_irrefl _), fun z => absurd rfl z.2⟩
      · rw [pk_un e, L11 c]
        exact ⟨fun z => ⟨by omega, z.2⟩, fun z => ⟨by omega, z.2⟩⟩) (tr_P_congr L12 keq (fun x _ => rfl))
    (fun c d hc hd z => L13 c d hc hd (by rw [← keq c hc, ← keq d hd]; exact z))
  have hR2 : ∀ s, s < 3 → tr_R (m + 1) (tr_up org m r) (tr_up num m (cnt r + 1)) anc stm (tr_up tgt m t) (tr_up cnt r (cnt r + 1)) G (K s) s (upd a1 m 0) a10 a11 a12 a13 a15 := by
    intro s hs
    refine tr_R_ext (hR s hs) hGm (fun x hx => ⟨tr_un (by omega), tr_un (by omega), rfl, rfl, tr_un (by omega), pk_un (by omega)⟩) (fun x hx h => (L4 x hx h).2.1) (fun x hx h => (L5 x hx h).2.1) ?_ ?_ (fun k _ => rfl) (fun x hx => Or.inl hx)
    · rw [tr_us, tr_us]
      have := ((hR s hs).1 r hr).2
      omega
    · intro o _
      by_cases e : o = r
      · rw [e, tr_us]
        omega
      · rw [tr_un e]
        exact Nat.le_refl _
  refine tr_insertAt hr V1 V2 V3 hi hp (tr_newChange hm hr L2 cr.1 (by omega) ?_)
  rw [en]
  refine ⟨im, nm_r (e' := upd a7 m (nI t)) (by rw [cm]) (tr_learn hL2 hR2 hr (by omega) ?_ (fun z => ?_) (fun _ => ?_) (fun a10' a11' a12' a13' a14' a15' hR3 _ E1 => ⟨ir, ?_⟩))⟩
  · rw [tr_us, tr_us, hown r hr]
  · rw [pk_us] at z
    exact absurd rfl z
  · rw [tr_us, tr_un (by omega), tr_un (by omega)]
    exact of_decide_eq_true t4
  · rw [crr, E1 pk_us (by rw [tr_us]; exact of_decide_eq_true t2)]
    refine h1 _ ⟨m + 1, _, _, _, _, _, _, G, _, hL2, hR3, fun s hs => ?_, hT1, hT2⟩
    by_cases e : s = r
    · rw [e, tr_us, tr_us, tr_us, tr_K_s]
    · rw [tr_K_o e, tr_un e]
      exact hown s hs
theorem tr_deliver {post : Int32 → St1 → Prop} {l r s : Nat} (hW : tr_W l (f, a1, a2, a3, a4, a5, a6, a7, a8, a9, a10, a11, a12, a13, a14, a15)) (hr : r < 3) (hs : s < 3) (h : ∀ v u', tr_W l u' → post v u') : wpX_deliver post (f, a1, a2, a3, a4, a5, a6, a7, a8, a9, a10, a11, a12, a13, a14, a15) (nI r) (nI s) := by
  have hW' := hW
  obtain ⟨m, org, num, anc, stm, tgt, cnt, G, K, hL, hR, hown, hT⟩ := hW
  have hL' := hL
  obtain ⟨L1, L2, L3, L4, L5, L6, L7, L8, L9, L10, L11, L12, L13⟩ := hL'
  obtain ⟨R1, R2, R3, R4, R5, R6, R7⟩ := hR s hs
  have crr : (nI r).toNatClampNeg = r := pk_cl _
  obtain ⟨k1, k2⟩ := R1 r hr
  obtain ⟨n1, n2⟩ := L6 r hr
  have e1 : a10 (3 * nI s + nI r).toNatClampNeg + 1 = nI (K s r + 1) := by rw [pk_cl _ (tr_ix3 s r), k1, nI_1]
  unfold wpX_deliver
  refine tr_isR hr (br_f tr_10 (tr_isR hs (br_f tr_10 ⟨pk_in _ 9 (by omega) (tr_ix3 s r), nm_r e1 ⟨vp_in_nI hr (by decide), pk_le (K s r + 1) (cnt r) (fun hk => ?_) (fun _ => h _ _ hW') rfl (by rw [crr]; exact n1)⟩⟩)))
  obtain ⟨c, c1, c2, c3, c4⟩ := L7 r (K s r + 1) hr (by omega) hk
  have ei : 49 * nI r + nI (K s r + 1) = nI (49 * r + (K s r + 1)) := by rw [tr_49, nI_add]
  have hcl : (nI c).toNatClampNeg = c := pk_cl _
  have ic : vp_in (nI c) 48 := vp_in_nI (by omega) (by decide)
  have hrs : r ≠ s := fun e => by
    have := hown s hs
    rw [e] at hk
    omega
  -- the learning
  have go : (¬ a1 c = 0 → anc c = 0 ∨ num (anc c - 1) ≤ K s (org (anc c - 1))) → (a1 c = 0 → num (tgt c) ≤ K s (org (tgt c))) → wX_deliver_101 post (nI s) (nI c) f a1 a2 a3 a4 a5 a6 a7 a8 a9 a10 a11 a12 a13 a14 a15 := by
    intro g1 g2
    unfold wX_deliver_101
    refine tr_learn hL hR hs c1 (by rw [c3, c4]) g1 g2 (fun a10' a11' a12' a13' a14' a15' hR3 _ _ => ?_)
    refine h _ _ ⟨m, org, num, anc, stm, tgt, cnt, G, _, hL, hR3, fun q hq => ?_, hT⟩
    by_cases e : q = s
    · rw [e, c3, tr_K_n (by omega)]
      exact hown s hs
    · rw [tr_K_o e]
      exact hown q hq
  -- the question whether the needed one is known
  have ask : ∀ (d : Nat), d < m → (num d ≤ K s (org d) → wX_deliver_101 post (nI s) (nI c) f a1 a2 a3 a4 a5 a6 a7 a8 a9 a10 a11 a12 a13 a14 a15) → wX_deliver_81 post (nI s) (nI c) (nI d) f a1 a2 a3 a4 a5 a6 a7 a8 a9 a10 a11 a12 a13 a14 a15 := by
    intro d hd g
    obtain ⟨d1, d2, d3, d4, d5⟩ := L3 d hd
    have d6 := (L6 _ d2).2
    obtain ⟨d7, d8⟩ := R1 _ d2
    exact br_f (nI_pos (by omega)) (tr_isKnown hs (by omega) d2 d1 d3 d7 (by omega) (by omega) (fun _ => br_t rfl (h _ _ hW')) (fun q => br_f tr_10 (g q)))
  refine ⟨pk_in _ 147 (by omega) ei, nm_r (e' := nI c) (by rw [pk_cl _ ei]; exact c2) ⟨ic, ?_⟩⟩
  by_cases hi : a1 c = 0
  · obtain ⟨t1, t2, t3⟩ := L5 c c1 hi
    refine br_t (by rw [hcl]; exact hi) ⟨ic, ?_⟩
    rw [hcl, t1]
    exact ask _ (by omega) (fun q => go (fun z => absurd hi z) (fun _ => q))
  · obtain ⟨t1, t2, t3, t4⟩ := L4 c c1 hi
    refine br_f (by rw [hcl]; exact hi) ⟨ic, ?_⟩
    rw [hcl, t1]
    by_cases e0 : anc c = 0
    · rw [e0]
      exact br_t (by decide) (go (fun _ => Or.inl e0) (fun z => absurd z hi))
    · obtain ⟨d, hd⟩ : ∃ d, anc c = d + 1 := ⟨anc c - 1, by omega⟩
      rw [hd, nI_pred]
      exact ask d (by omega) (fun q => go (fun _ => Or.inr (by rw [hd]; exact q)) (fun z => absurd z hi))
end
end
section
theorem tr_sync_18 {post : Int32 → St1 → Prop} {m : Nat} {org num anc stm tgt cnt : Nat → Nat} {G : List Nat} {K : Nat → Nat → Nat} {x y : Nat} {f : Int32} {a1 a2 a3 a4 a5 a6 a7 a8 a9 : Nat → Int32} (hx : x < 3) (hy : y < 3)
    (hL : tr_L m org num anc stm tgt cnt G f a1 a2 a3 a5 a6 a7 a8 a9) (hKx : ∀ o, o < 3 → K x o ≤ cnt o)
    (hp : ∀ (a10 a11 a12 a13 a14 a15 : Nat → Int32) (K' : Nat → Nat → Nat), (∀ s, s < 3 → tr_R m org num anc stm tgt cnt G (K' s) s a1 a10 a11 a12 a13 a15) → (∀ s, s ≠ y → K' s = K s) →
      (∀ o, o < 3 → K y o ≤ K' y o ∧ K x o ≤ K' y o ∧ (K' y o ≤ K y o ∨ K' y o ≤ K x o)) → post 0 (f, a1, a2, a3, a4, a5, a6, a7, a8, a9, a10, a11, a12, a13, a14, a15)) :
    ∀ (j i : Nat) (K' : Nat → Nat → Nat) (a10 a11 a12 a13 a14 a15 : Nat → Int32), i + j = m → (∀ s, s < 3 → tr_R m org num anc stm tgt cnt G (K' s) s a1 a10 a11 a12 a13 a15) → (∀ s, s ≠ y → K' s = K s) →
      (∀ o, K y o ≤ K' y o ∧ (K' y o ≤ K y o ∨ K' y o ≤ K x o)) → (∀ c, c < i → num c ≤ K x (org c) → num c ≤ K' y (org c)) → wX_sync_18 post (nI x) (nI y) (j + 1) (nI i) f a1 a2 a3 a4 a5 a6 a7 a8 a9 a10 a11 a12 a13 a14 a15 := by
  have hL' := hL
  obtain ⟨L1, L2, L3, L4, L5, L6, L7, L8, L9, L10, L11, L12, L13⟩ := hL'
  intro j
  induction j with
  | zero =>
    intro i K' a10 a11 a12 a13 a14 a15 hi hR J1 J2 J3
    refine br_t (by rw [L2]; exact nI_le (by omega) (by omega)) (hp _ _ _ _ _ _ K' hR J1 (fun o ho => ⟨(J2 o).1, ?_, (J2 o).2⟩))
    rcases Nat.eq_zero_or_pos (K x o) with q | q
    · omega
    · obtain ⟨c, c1, c2, c3, c4⟩ := L7 o (K x o) ho q (hKx o ho)
      have := J3 c (by omega) (by rw [c3, c4]; exact Nat.le_refl _)
      rw [c3, c4] at this
      exact this
  | succ j ih =>
    intro i K' a10 a11 a12 a13 a14 a15 hi hR J1 J2 J3
    have him : i < m := by omega
    have eKx : ∀ o, K' x o = K x o := by
      intro o
      by_cases e : x = y
      · have := J2 o
        rw [e] at this ⊢
        omega
      · rw [J1 x e]
    obtain ⟨d1, d2, d3, d4, d5⟩ := L3 i him
    have d6 := (L6 _ d2).2
    obtain ⟨x1, x2⟩ := (hR x hx).1 _ d2
    obtain ⟨y1, y2⟩ := (hR y hy).1 _ d2
    refine pk_le m i (fun z => absurd z (by omega)) (fun _ => ?_) L2
    refine tr_isKnown hx (by omega) d2 d1 d3 x1 (by omega) (by omega) (fun z => br_t rfl (nm_r (nI_1 i) ?_)) (fun z => br_f tr_10 ?_)
    · refine ih (i + 1) K' _ _ _ _ _ _ (by omega) hR J1 J2 (fun c hc hk => ?_)
      rcases Nat.lt_or_ge c i with q | q
      · exact J3 c q hk
      · have e : c = i := by omega
        rw [e] at hk
        rw [eKx] at z
        omega
    · refine tr_isKnown hy (by omega) d2 d1 d3 y1 (by omega) (by omega) (fun w => br_t rfl ?_) (fun w => br_f tr_10 (nm_r (nI_1 i) ?_))
      · rw [eKx] at z
        -- below i all that x knows is known to y
        have hn : num i = K' y (org i) + 1 := by
          rcases Nat.lt_or_ge (K' y (org i) + 1) (num i) with q | q
          · obtain ⟨c, c1, c2, c3, c4⟩ := L7 (org i) (K' y (org i) + 1) d2 (by omega) (by omega)
            have hci : c < i := by
              rcases Nat.lt_trichotomy c i with t | t | t
              · exact t
              · rw [t] at c4
                omega
              · have := L8 i c t c1 c3.symm
                omega
            have := J3 c hci (by rw [c3, c4]; omega)
            rw [c3, c4] at this
            omega
          · omega
        have clo := (hR x hx).2.2.2.2.2
        refine tr_learn hL hR hy him hn (fun hi' => ?_) (fun hi' => ?_) (fun a10' a11' a12' a13' a14' a15' hR3 _ _ => nm_r (nI_1 i) ?_)
        · obtain ⟨t1, t2, t3, t4⟩ := L4 i him hi'
          by_cases e0 : anc i = 0
          · exact Or.inl e0
          · refine Or.inr (J3 _ (by omega) ?_)
            rcases clo.1 i him (by rw [eKx]; exact z) hi' with q | q
            · exact absurd q e0
            · rw [eKx] at q
              exact q
        · obtain ⟨t1, t2, t3⟩ := L5 i him hi'
          refine J3 _ (by omega) ?_
          have q := clo.2 i him (by rw [eKx]; exact z) hi'
          rw [eKx] at q
          exact q
        · refine ih (i + 1) _ _ _ _ _ _ _ (by omega) hR3 (fun s hs => by rw [tr_K_o hs]; exact J1 s hs) (fun o => ?_) (fun c hc hk => ?_)
          · by_cases e : o = org i
            · rw [e, tr_K_s]
              have := J2 (org i)
              exact ⟨by omega, Or.inr z⟩
            · rw [tr_K_n e]
              exact J2 o
          · by_cases e : org c = org i
            · rw [e, tr_K_s]
              rcases Nat.lt_or_ge c i with q | q
              · have := L8 c i q him e
                omega
              · have e : c = i := by omega
                rw [e]
                exact Nat.le_refl _
            · rw [tr_K_n e]
              rcases Nat.lt_or_ge c i with q | q
              · exact J3 c q hk
              · have e2 : c = i := by omega
                rw [e2] at e
                exact absurd rfl e
      · refine ih (i + 1) K' _ _ _ _ _ _ (by omega) hR J1 J2 (fun c hc hk => ?_)
        rcases Nat.lt_or_ge c i with q | q
        · exact J3 c q hk
        · have e : c = i := by omega
          rw [e]
          exact w
section
variable {f : Int32} {a1 a2 a3 a4 a5 a6 a7 a8 a9 a10 a11 a12 a13 a14 a15 : Nat → Int32}
theorem tr_sync {post : Int32 → St1 → Prop} {l m : Nat} {org num anc stm tgt cnt : Nat → Nat} {G : List Nat} {K : Nat → Nat → Nat} {x y : Nat} (hC : tr_C l m org num anc stm tgt cnt G K (f, a1, a2, a3, a4, a5, a6, a7, a8, a9, a10, a11, a12, a13, a14, a15)) (hx : x < 3) (hy : y < 3)
    (h : ∀ u' K', tr_C l m org num anc stm tgt cnt G K' u' → (∀ s, s ≠ y → K' s = K s) → (∀ o, o < 3 → K y o ≤ K' y o ∧ K x o ≤ K' y o ∧ (K' y o ≤ K y o ∨ K' y o ≤ K x o)) → post 0 u') : wpX_sync post (f, a1, a2, a3, a4, a5, a6, a7, a8, a9, a10, a11, a12, a13, a14, a15) (nI x) (nI y) := by
  obtain ⟨hL, hR, hown, hT⟩ := hC
  have hKx : ∀ o, o < 3 → K x o ≤ cnt o := fun o ho => ((hR x hx).1 o ho).2
  unfold wpX_sync
  refine tr_isR hx (br_f tr_10 (tr_isR hy (br_f tr_10 ⟨m + 1, tr_sync_18 (K := K) hx hy hL hKx (fun b10 b11 b12 b13 b14 b15 K' hR' J1 J2 => ?_) m 0 K _ _ _ _ _ _ (by omega) hR (fun s _ => rfl) (fun o => ⟨Nat.le_refl _, Or.inl (Nat.le_refl _)⟩) (fun c hc => absurd hc (Nat.not_lt_zero _))⟩)))
  refine h _ K' ⟨hL, hR', fun s hs => ?_, hT⟩ J1 J2
  by_cases e : s = y
  · rw [e]
    have h1 := J2 y hy
    have h2 := hown y hy
    have h3 := hKx y hy
    omega
  · rw [J1 s e]
    exact hown s hs
end
end
section
theorem tr_lt_some {a4 : Nat → Int32} {t : List Nat} {i c : Nat} (h : t[i]? = some c) : tr_lt a4 t i = a4 c := by
  unfold tr_lt
  rw [h]
theorem tr_lt_map (a4 : Nat → Int32) (t : List Nat) (i : Nat) : tr_lt a4 t i = ((t.map a4)[i]?).getD 0 := by
  unfold tr_lt
  rw [List.getElem?_map]
  cases t[i]? with
  | none => rfl
  | some c => rfl
theorem tr_map_eq (a4 : Nat → Int32) (s t : List Nat) : s.map a4 = t.map a4 ↔ s.length = t.length ∧ ∀ k, k < s.length → tr_lt a4 s k = tr_lt a4 t k := by
  constructor
  · intro h
    refine ⟨?_, fun k _ => ?_⟩
    · have := congrArg List.length h
      rw [List.length_map, List.length_map] at this
      exact this
    · rw [tr_lt_map, tr_lt_map, h]
  · intro h
    refine List.ext_getElem (by rw [List.length_map, List.length_map]; exact h.1) (fun i h1 h2 => ?_)
    rw [List.length_map] at h1 h2
    have e := h.2 i h1
    rw [tr_lt_some (List.getElem?_eq_getElem h1), tr_lt_some (List.getElem?_eq_getElem h2)] at e
    rw [List.getElem_map, List.getElem_map]
    exact e
theorem tr_m1_lt {k : Nat} (h : k < 100) : (-1 : Int32) < nI k := by
  rw [Int32.lt_iff_toInt_lt, nI_toInt (by omega)]
  have : (-1 : Int32).toInt = -1 := by decide
  omega
section
variable {f : Int32} {a1 a2 a3 a4 a5 a6 a7 a8 a9 a10 a11 a12 a13 a14 a15 : Nat → Int32}
/-- the same knowledge: the same text -/
theorem tr_same {l m : Nat} {org num anc stm tgt cnt : Nat → Nat} {G : List Nat} {K : Nat → Nat → Nat} {r s : Nat} (hC : tr_C l m org num anc stm tgt cnt G K (f, a1, a2, a3, a4, a5, a6, a7, a8, a9, a10, a11, a12, a13, a14, a15)) (hr : r < 3) (hs : s < 3) (h : ∀ o, o < 3 → K r o = K s o) :
    tr_tx a13 (49 * r) (G.filter (tr_kn num org (K r))) = tr_tx a13 (49 * s) (G.filter (tr_kn num org (K s))) := by
  obtain ⟨hL, hR, hown, hT⟩ := hC
  obtain ⟨L1, L2, L3, L4, L5, L6, L7, L8, L9, L10, L11, L12, L13⟩ := hL
  have hk : ∀ c, c < m → (num c ≤ K r (org c) ↔ num c ≤ K s (org c)) := fun c hc => by rw [h _ (L3 c hc).2.1]
  have e1 : G.filter (tr_kn num org (K r)) = G.filter (tr_kn num org (K s)) := List.filter_congr (fun x hx => decide_eq_decide.mpr (hk x ((L11 x).mp hx).1))
  rw [e1]
  refine List.filter_congr (fun x hx => decide_eq_decide.mpr ?_)
  have hx' := ((L11 x).mp (List.mem_filter.mp hx).1).1
  refine ((hR r hr).2.2.1 x (by omega)).trans (Iff.trans ?_ ((hR s hs).2.2.1 x (by omega)).symm)
  exact ⟨fun z d hd d1 d2 d3 => z d hd d1 d2 ((hk d hd).mpr d3), fun z d hd d1 d2 d3 => z d hd d1 d2 ((hk d hd).mp d3)⟩
theorem tr_equal_52 {post : Int32 → Prop} {l m : Nat} {org num anc stm tgt cnt : Nat → Nat} {G : List Nat} {K : Nat → Nat → Nat} {r s : Nat} (hC : tr_C l m org num anc stm tgt cnt G K (f, a1, a2, a3, a4, a5, a6, a7, a8, a9, a10, a11, a12, a13, a14, a15)) (hr : r < 3) (hs : s < 3) (hp : post 1) :
    wL_equal_52 post (nI r) (nI s) f a1 a2 a3 a4 a5 a6 a7 a8 a9 a10 a11 a12 a13 a14 a15 := by
  obtain ⟨V1, V2, V3, V4, V5, V6, V7⟩ := tr_view hC hr
  obtain ⟨U1, U2, U3, U4, U5, U6, U7⟩ := tr_view hC hs
  generalize hA : tr_tx a13 (49 * r) (G.filter (tr_kn num org (K r))) = A at V4 V5 V6 V7
  generalize hB : tr_tx a13 (49 * s) (G.filter (tr_kn num org (K s))) = B at U4 U5 U6 U7
  have loop : ∀ (j i : Nat) (x5 : Int32), i + j = A.length → (x5 = 1 ∧ (A.length = B.length ∧ ∀ k, k < i → tr_lt a4 A k = tr_lt a4 B k) ∨ x5 = 0 ∧ ¬ (A.length = B.length ∧ ∀ k, k < i → tr_lt a4 A k = tr_lt a4 B k)) →
      wL_equal_79 post (nI r) (nI s) (nI A.length) f a1 a2 a3 a4 a5 a6 a7 a8 a9 a10 a11 a12 a13 a14 a15 (j + 1) x5 (nI i) := by
    intro j
    induction j with
    | zero =>
      intro i x5 hi hx
      have e : i = A.length := by omega
      subst e
      refine br_t (nI_le (Nat.le_refl _) (by omega)) (tr_alike hr hs V1 U1 V2 U2 V3 U3 (by rw [hA]; exact V4) (by rw [hB]; exact U4) ?_)
      rw [hA, hB]
      rcases hx with ⟨h1, h2⟩ | ⟨h1, h2⟩
      · rw [if_pos ((tr_map_eq a4 A B).mpr h2), h1]
        exact br_f tr_10 (br_t rfl hp)
      · rw [if_neg (fun z => h2 ((tr_map_eq a4 A B).mp z)), h1]
        exact br_t rfl (br_t rfl hp)
    | succ j ih =>
      intro i x5 hi hx
      refine br_f (nI_ge (by omega) (by omega)) (tr_letter hr V1 V2 V3 (by rw [hA]; exact V4) (by omega) (tr_letter hs U1 U2 U3 (by rw [hB]; exact U4) (by omega) ?_))
      rw [hA, hB]
      by_cases e : tr_lt a4 A i = tr_lt a4 B i
      · refine br_t e (nm_r (nI_1 i) (ih (i + 1) x5 (by omega) ?_))
        rcases hx with ⟨h1, h2⟩ | ⟨h1, h2⟩
        · exact Or.inl ⟨h1, h2.1, lt_s h2.2 e⟩
        · exact Or.inr ⟨h1, fun z => h2 ⟨z.1, fun k hk => z.2 k (by omega)⟩⟩
      · refine br_f e (nm_r (nI_1 i) (ih (i + 1) 0 (by omega) ?_))
        exact Or.inr ⟨rfl, fun z => e (z.2 i (by omega))⟩
  unfold wL_equal_52
  refine tr_length hr (tr_length hs ?_)
  rw [V4, U4]
  refine pk_eq A.length B.length (fun e => ⟨_, loop A.length 0 1 (by omega) (Or.inl ⟨rfl, e, fun k hk => absurd hk (Nat.not_lt_zero _)⟩)⟩) (fun e => ⟨_, loop A.length 0 0 (by omega) (Or.inr ⟨rfl, fun z => e z.1⟩)⟩)
theorem tr_equal {post : Int32 → Prop} {l r s : Nat} (hW : tr_W l (f, a1, a2, a3, a4, a5, a6, a7, a8, a9, a10, a11, a12, a13, a14, a15)) (hr : r < 3) (hs : s < 3) (hp : post 1) : wpL_equal post (f, a1, a2, a3, a4, a5, a6, a7, a8, a9, a10, a11, a12, a13, a14, a15) (nI r) (nI s) := by
  obtain ⟨m, org, num, anc, stm, tgt, cnt, G, K, hC⟩ := hW
  obtain ⟨V1, V2, V3, V4, V5, V6, V7⟩ := tr_view hC hr
  obtain ⟨U1, U2, U3, U4, U5, U6, U7⟩ := tr_view hC hs
  have h52 := tr_equal_52 hC hr hs hp
  have hR := hC.2.1
  have hcnt : ∀ q o, q < 3 → o < 3 → K q o ≤ 48 := fun q o hq ho => by
    have h1 := ((hR q hq).1 o ho).2
    have h2 := (hC.1.2.2.2.2.2.1 o ho).2
    have h3 := hC.1.1
    omega
  have loop : ∀ (j i : Nat) (x3 : Int32), i + j = 3 → (¬ x3 = 0 → ∀ o, o < i → K r o = K s o) → wL_equal_5 post (nI r) (nI s) f a1 a2 a3 a4 a5 a6 a7 a8 a9 a10 a11 a12 a13 a14 a15 (j + 1) x3 (nI i) := by
    intro j
    induction j with
    | zero =>
      intro i x3 hi hx
      have e : i = 3 := by omega
      subst e
      refine br_t (nI_le (a := 3) (b := 3) (Nat.le_refl _) (by omega)) (br_c (fun _ => h52) (fun z => tr_alike hr hs V1 U1 V2 U2 V3 U3 V4 U4 ?_))
      rw [tr_same hC hr hs (hx z), if_pos rfl]
      exact br_t rfl h52
    | succ j ih =>
      intro i x3 hi hx
      have hi3 : i < 3 := by omega
      refine br_f (nI_ge (b := 3) hi3 (by omega)) (tr_known hr hi3 (tr_known hs hi3 ?_))
      rw [((hR r hr).1 i hi3).1, ((hR s hs).1 i hi3).1]
      have b1 := hcnt r i hr hi3
      have b2 := hcnt s i hs hi3
      refine pk_eq (K r i) (K s i) (fun e => nm_r (nI_1 i) (ih (i + 1) x3 (by omega) (fun z => lt_s (hx z) e))) (fun e => nm_r (nI_1 i) (ih (i + 1) 0 (by omega) (fun z => absurd rfl z)))
  exact ⟨_, loop 3 0 1 (by omega) (fun _ o ho => absurd ho (Nat.not_lt_zero _))⟩
theorem tr_place {post : Int32 → Prop} {r : Nat} {R B : List Nat} {v : Int32} (hr : r < 3) (hch : tr_ch a12 (49 * r) 0 R) (h48 : ∀ x, x ∈ R → x < 48) (hl : R.length ≤ 48) (hB : tr_tx a13 (49 * r) R = B) (ht : a15 r = nI B.length)
    (h0 : post (-1)) (h1 : ∀ k, k < B.length → tr_lt a4 B k = v → post (nI k)) : wpL_place post (f, a1, a2, a3, a4, a5, a6, a7, a8, a9, a10, a11, a12, a13, a14, a15) (nI r) v := by
  have hBl : B.length ≤ 48 := by
    rw [← hB]
    exact Nat.le_trans (List.length_filter_le _ _) hl
  have loop : ∀ (j i : Nat), i + j = B.length → wL_place_9 post (nI r) v (nI B.length) f a1 a2 a3 a4 a5 a6 a7 a8 a9 a10 a11 a12 a13 a14 a15 (j + 1) (nI i) := by
    intro j
    induction j with
    | zero => intro i hi; exact br_t (nI_le (by omega) (by omega)) h0
    | succ j ih =>
      intro i hi
      refine br_f (nI_ge (by omega) (by omega)) (tr_letter hr hch h48 hl (by rw [hB]; exact ht) (by omega) ?_)
      rw [hB]
      exact br_c (fun e => h1 i (by omega) e) (fun _ => nm_r (nI_1 i) (ih (i + 1) (by omega)))
  unfold wpL_place
  refine tr_length hr ?_
  rw [ht]
  exact ⟨_, loop B.length 0 (by omega)⟩
theorem tr_ordered {post : Int32 → Prop} {l r s : Nat} (hW : tr_W l (f, a1, a2, a3, a4, a5, a6, a7, a8, a9, a10, a11, a12, a13, a14, a15)) (hr : r < 3) (hs : s < 3) (hp : post 1) : wpL_ordered post (f, a1, a2, a3, a4, a5, a6, a7, a8, a9, a10, a11, a12, a13, a14, a15) (nI r) (nI s) := by
  obtain ⟨m, org, num, anc, stm, tgt, cnt, G, K, hC⟩ := hW
  obtain ⟨V1, V2, V3, V4, V5, V6, V7⟩ := tr_view hC hr
  obtain ⟨U1, U2, U3, U4, U5, U6, U7⟩ := tr_view hC hs
  have hinj := hC.2.2.2.2
  have hG := hC.1.2.2.2.2.2.2.2.2.1
  generalize hA : tr_tx a13 (49 * r) (G.filter (tr_kn num org (K r))) = A at V4 V5 V6 V7
  generalize hB : tr_tx a13 (49 * s) (G.filter (tr_kn num org (K s))) = B at U4 U5 U6 U7
  have loop : ∀ (j i : Nat) (x4 : Int32), i + j = A.length → (x4 = -1 ∨ ∃ q i' y, x4 = nI q ∧ i' < i ∧ A[i']? = some y ∧ B[q]? = some y) → wL_ordered_12 post (nI r) (nI s) (nI A.length) f a1 a2 a3 a4 a5 a6 a7 a8 a9 a10 a11 a12 a13 a14 a15 (j + 1) x4 (nI i) := by
    intro j
    induction j with
    | zero => intro i x4 hi _; exact br_t (nI_le (by omega) (by omega)) hp
    | succ j ih =>
      intro i x4 hi hx
      have hiA : i < A.length := by omega
      refine br_f (nI_ge hiA (by omega)) (tr_letter hr V1 V2 V3 (by rw [hA]; exact V4) (by omega) (tr_place hs U1 U2 U3 hB U4 ?_ (fun k hk e => ?_)))
      · refine br_t (by decide) (nm_r (nI_1 i) (ih (i + 1) x4 (by omega) ?_))
        rcases hx with h | ⟨q, i', y, h1, h2, h3, h4⟩
        · exact Or.inl h
        · exact Or.inr ⟨q, i', y, h1, by omega, h3, h4⟩
      · rw [hA] at e
        have eA : A[i]? = some A[i] := List.getElem?_eq_getElem hiA
        have eB : B[k]? = some B[k] := List.getElem?_eq_getElem hk
        rw [tr_lt_some eA, tr_lt_some eB] at e
        have exy : B[k] = A[i] := hinj _ _ (U7.subset (List.getElem_mem hk)) (V7.subset (List.getElem_mem hiA)) e
        rw [exy] at eB
        have hlt : x4 < nI k := by
          rcases hx with h | ⟨q, i', y, h1, h2, h3, h4⟩
          · rw [h]
            exact tr_m1_lt (by omega)
          · rw [h1]
            exact nI_lt (tr_same_order hG V7 U7 h3 eA h4 eB h2) (by omega)
        exact br_f (nI_pos (by omega)) (br_t hlt (nm_r (nI_1 i) (ih (i + 1) (nI k) (by omega) (Or.inr ⟨k, i, _, rfl, by omega, eA, eB⟩))))
  unfold wpL_ordered
  refine tr_length hr ?_
  rw [V4]
  exact ⟨_, loop A.length 0 (-1) (by omega) (Or.inl rfl)⟩
end
end
section
section
variable {f : Int32} {a1 a2 a3 a4 a5 a6 a7 a8 a9 a10 a11 a12 a13 a14 a15 : Nat → Int32}
variable {post : Int32 → Prop} {L : Nat} {xs : Nat → Int32} {J12 : Int32 → Int32 → Int32 → (Nat → Int32) → (Nat → Int32) → (Nat → Int32) → (Nat → Int32) → (Nat → Int32) → (Nat → Int32) → (Nat → Int32) → (Nat → Int32) → (Nat → Int32) → (Nat → Int32) → (Nat → Int32) → (Nat → Int32) → (Nat → Int32) → (Nat → Int32) → (Nat → Int32) → Prop} {x2 x3 : Int32} {kc ks l : Nat}
theorem tr_law_238 (hW : tr_W l (f, a1, a2, a3, a4, a5, a6, a7, a8, a9, a10, a11, a12, a13, a14, a15)) (hJ : J12 x2 (x3 + 4) f a1 a2 a3 a4 a5 a6 a7 a8 a9 a10 a11 a12 a13 a14 a15) : wL_law_238 post L xs J12 x2 x3 kc ks f a1 a2 a3 a4 a5 a6 a7 a8 a9 a10 a11 a12 a13 a14 a15 := by
  unfold wL_law_238
  exact tr_equal (r := 0) (s := 1) hW (by omega) (by omega) (br_f tr_10 (tr_equal (r := 1) (s := 2) hW (by omega) (by omega) (br_f tr_10 (tr_equal (r := 0) (s := 2) hW (by omega) (by omega) (br_f tr_10
    (tr_ordered (r := 0) (s := 1) hW (by omega) (by omega) (br_f tr_10 (tr_ordered (r := 2) (s := 1) hW (by omega) (by omega) (br_f tr_10 (tr_ordered (r := 0) (s := 2) hW (by omega) (by omega) (br_f tr_10 (nm_e hJ))))))))))))
theorem tr_law_175 (hW : tr_W l (f, a1, a2, a3, a4, a5, a6, a7, a8, a9, a10, a11, a12, a13, a14, a15)) (hJ : J12 x2 (x3 + 4) f a1 a2 a3 a4 a5 a6 a7 a8 a9 a10 a11 a12 a13 a14 a15) : wL_law_175 post L xs J12 x2 x3 kc ks f a1 a2 a3 a4 a5 a6 a7 a8 a9 a10 a11 a12 a13 a14 a15 := by
  unfold wL_law_175
  exact tr_law_238 hW hJ
theorem tr_law_138 (hW : tr_W l (f, a1, a2, a3, a4, a5, a6, a7, a8, a9, a10, a11, a12, a13, a14, a15)) (hJ : J12 x2 (x3 + 4) f a1 a2 a3 a4 a5 a6 a7 a8 a9 a10 a11 a12 a13 a14 a15) : wL_law_138 post L xs J12 x2 x3 kc ks f a1 a2 a3 a4 a5 a6 a7 a8 a9 a10 a11 a12 a13 a14 a15 := by
  unfold wL_law_138
  exact tr_law_238 hW hJ
theorem tr_law_85 {k a b n p : Nat} (hW : tr_W l (f, a1, a2, a3, a4, a5, a6, a7, a8, a9, a10, a11, a12, a13, a14, a15)) (hl : l < 99) (ha : a < 3) (hb : b < 3) (hn : a15 a = nI n) (hpn : p ≤ n) (hn48 : n ≤ 48) (hk : k < 16)
    (hJ : ∀ l', l' ≤ l + 1 → ∀ (f : Int32) (a1 a2 a3 a4 a5 a6 a7 a8 a9 a10 a11 a12 a13 a14 a15 : Nat → Int32), tr_W l' (f, a1, a2, a3, a4, a5, a6, a7, a8, a9, a10, a11, a12, a13, a14, a15) → J12 (nI l') (x3 + 4) f a1 a2 a3 a4 a5 a6 a7 a8 a9 a10 a11 a12 a13 a14 a15) :
    wL_law_85 post L xs J12 (nI l) x3 (nI k) (nI a) (nI b) (nI n) (nI p) kc ks f a1 a2 a3 a4 a5 a6 a7 a8 a9 a10 a11 a12 a13 a14 a15 := by
  have hW' := hW
  obtain ⟨m, org, num, anc, stm, tgt, cnt, G, K, hC⟩ := hW
  obtain ⟨V1, V2, V3, V4, V5, V6, V7⟩ := tr_view hC ha
  have hnl : n = (tr_tx a13 (49 * a) (G.filter (tr_kn num org (K a)))).length := (nI_eq (by omega) (by omega)).mp (hn.symm.trans V4)
  unfold wL_law_85
  refine pk_lt 7 k (fun _ => pk_lt 9 k (fun _ => pk_lt 13 k (fun _ => ?_) (fun _ => ?_)) (fun _ => ?_)) (fun _ => ?_)
  · -- sync
    refine tr_sync hC ha hb (fun u1 K1 hC1 J1 J2 => ?_)
    obtain ⟨f, a1, a2, a3, a4, a5, a6, a7, a8, a9, a10, a11, a12, a13, a14, a15⟩ := u1
    refine pk_eq k 15 (fun _ => tr_sync hC1 hb ha (fun u2 K2 hC2 I1 I2 => ?_)) (fun _ => tr_law_238 ⟨_, _, _, _, _, _, _, _, _, hC1⟩ (hJ l (by omega) _ _ _ _ _ _ _ _ _ _ _ _ _ _ _ _ ⟨_, _, _, _, _, _, _, _, _, hC1⟩))
    obtain ⟨f, a1, a2, a3, a4, a5, a6, a7, a8, a9, a10, a11, a12, a13, a14, a15⟩ := u2
    have hK : ∀ o, o < 3 → K2 a o = K2 b o := by
      intro o ho
      by_cases e : a = b
      · rw [e]
      · have h1 := J2 o ho
        have h2 := I2 o ho
        rw [J1 a e] at h2
        rw [I1 b (fun z => e z.symm)]
        omega
    obtain ⟨P1, P2, P3, P4, _, _, _⟩ := tr_view hC2 ha
    obtain ⟨Q1, Q2, Q3, Q4, _, _, _⟩ := tr_view hC2 hb
    refine br_t rfl (tr_alike ha hb P1 Q1 P2 Q2 P3 Q3 P4 Q4 ?_)
    rw [tr_same hC2 ha hb hK, if_pos rfl]
    exact br_t rfl (tr_law_238 ⟨_, _, _, _, _, _, _, _, _, hC2⟩ (hJ l (by omega) _ _ _ _ _ _ _ _ _ _ _ _ _ _ _ _ ⟨_, _, _, _, _, _, _, _, _, hC2⟩))
  · -- deliver
    refine tr_deliver hW' ha hb (fun v u1 hW1 => ?_)
    obtain ⟨f, a1, a2, a3, a4, a5, a6, a7, a8, a9, a10, a11, a12, a13, a14, a15⟩ := u1
    exact tr_law_238 hW1 (hJ l (by omega) _ _ _ _ _ _ _ _ _ _ _ _ _ _ _ _ hW1)
  · -- delete
    refine tr_delete hC ha (by omega) (br_t rfl (tr_law_175 hW' (hJ l (by omega) _ _ _ _ _ _ _ _ _ _ _ _ _ _ _ _ hW'))) (fun u1 hW1 => ?_)
    obtain ⟨f, b1, b2, b3, b4, b5, b6, b7, b8, b9, b10, b11, b12, b13, b14, b15⟩ := u1
    have h175 := hJ l (by omega) _ _ _ _ _ _ _ _ _ _ _ _ _ _ _ _ hW1
    exact br_c (fun _ => tr_law_175 hW1 h175) (fun _ => br_t (by rw [hn]) (tr_law_175 hW1 h175))
  · -- insert
    refine nm_r (nI_1 l) (tr_insert hC (by omega) ha (by omega) (br_t rfl (tr_law_138 (tr_W_mono hW') (hJ (l + 1) (by omega) _ _ _ _ _ _ _ _ _ _ _ _ _ _ _ _ (tr_W_mono hW')))) (fun u1 hW1 hlet => ?_))
    obtain ⟨f, b1, b2, b3, b4, b5, b6, b7, b8, b9, b10, b11, b12, b13, b14, b15⟩ := u1
    have h138 := hJ (l + 1) (by omega) _ _ _ _ _ _ _ _ _ _ _ _ _ _ _ _ hW1
    exact br_c (fun _ => tr_law_138 hW1 h138) (fun _ => br_t (by rw [hn]) (hlet _ (br_t rfl (tr_law_138 hW1 h138))))
end
theorem tr_law_12 {post : Int32 → Prop} {L : Nat} {xs : Nat → Int32} {kc ks : Nat} (hL : L ≤ 260) (hp : post 1) : ∀ (n i l : Nat) (f : Int32) (a1 a2 a3 a4 a5 a6 a7 a8 a9 a10 a11 a12 a13 a14 a15 : Nat → Int32),
    i ≤ L → L < i + n → 4 * l ≤ i → tr_W l (f, a1, a2, a3, a4, a5, a6, a7, a8, a9, a10, a11, a12, a13, a14, a15) → wL_law_12 post L xs kc ks n (nI l) (nI i) f a1 a2 a3 a4 a5 a6 a7 a8 a9 a10 a11 a12 a13 a14 a15 := by
  intro n
  induction n with
  | zero => intro i l f a1 a2 a3 a4 a5 a6 a7 a8 a9 a10 a11 a12 a13 a14 a15 h1 h2; omega
  | succ n ih =>
    intro i l f a1 a2 a3 a4 a5 a6 a7 a8 a9 a10 a11 a12 a13 a14 a15 h1 h2 h3 hW
    have e2 : nI i + 2 = nI (i + 2) := nI_add i 2
    have e3 : nI i + 3 = nI (i + 3) := nI_add i 3
    have e4 : nI i + 4 = nI (i + 4) := nI_add i 4
    refine pk_lt L (i + 4) (fun _ => hp) (fun h => ?_) rfl e4
    obtain ⟨k, hk, ek⟩ := pk_andE (xs i) (m := 15) 4 (by decide)
    obtain ⟨ja, hja, eja⟩ := pk_andE (xs (i + 1)) (m := 255) 8 (by decide)
    obtain ⟨jb, hjb, ejb⟩ := pk_andE (xs (i + 2)) (m := 255) 8 (by decide)
    obtain ⟨jp, hjp, ejp⟩ := pk_andE (xs (i + 3)) (m := 255) 8 (by decide)
    have ha : ja % 3 < 3 := Nat.mod_lt _ (by omega)
    have hb : jb % 3 < 3 := Nat.mod_lt _ (by omega)
    have hW' := hW
    obtain ⟨m, org, num, anc, stm, tgt, cnt, G, K, hC⟩ := hW'
    obtain ⟨V1, V2, V3, V4, V5, V6, V7⟩ := tr_view hC ha
    generalize (tr_tx a13 (49 * (ja % 3)) (G.filter (tr_kn num org (K (ja % 3))))).length = c at V4 V6
    refine ⟨pk_in i L (by omega), nm_r (e' := nI k) (by rw [nI_clamp (by omega)]; exact ek) ⟨pk_in (i + 1) L (by omega) (nI_1 i), by decide,
      nm_r (e' := nI (ja % 3)) (by rw [pk_cl (i + 1) (nI_1 i), eja]; exact pk_rem (d := 3) (by omega) (by omega) (by omega)) ⟨pk_in (i + 2) L (by omega) e2, by decide,
      nm_r (e' := nI (jb % 3)) (by rw [pk_cl (i + 2) e2, ejb]; exact pk_rem (d := 3) (by omega) (by omega) (by omega)) (tr_length ha ?_)⟩⟩⟩
    have ez : (xs (nI i + 3).toNatClampNeg &&& 255) - (xs (nI i + 3).toNatClampNeg &&& 255) / (nI c + 1) * (nI c + 1) = nI (jp % (c + 1)) := by
      rw [pk_cl (i + 3) e3, ejp, nI_1]
      exact pk_rem (by omega) (by omega) (by omega)
    have hp0 : jp % (c + 1) < c + 1 := Nat.mod_lt _ (by omega)
    rw [V4]
    refine br_t (nI_pos' (by omega)) ⟨pk_in (i + 3) L (by omega) e3, by rw [nI_1]; exact nI_ne0 (by omega) (by omega), ?_⟩
    rw [ez]
    refine tr_law_85 hW (by omega) ha hb V4 (by omega) V6 hk (fun l' hl' f a1 a2 a3 a4 a5 a6 a7 a8 a9 a10 a11 a12 a13 a14 a15 hW1 => ?_)
    rw [e4]
    exact ih (i + 4) l' _ _ _ _ _ _ _ _ _ _ _ _ _ _ _ _ (by omega) (by omega) (by omega) hW1
theorem tr_init {post : St1 → Prop} {mc ms kc ks : Nat} {f : Int32} {a1 a2 a3 a4 a5 a6 a7 a8 a9 a10 a11 a13 a14 a15 : Nat → Int32} (hp : ∀ a12, (∀ i, i < 3 → a12 (49 * i) = -1) → post (f, a1, a2, a3, a4, a5, a6, a7, a8, a9, a10, a11, a12, a13, a14, a15)) :
    ∀ (j r : Nat) (a12 : Nat → Int32), r + j = 3 → (∀ i, i < r → a12 (49 * i) = -1) → wX_init_125 post mc ms kc ks f (j + 1) (nI r) a1 a2 a3 a4 a5 a6 a7 a8 a9 a10 a11 a12 a13 a14 a15 := by
  intro j
  induction j with
  | zero =>
    intro r a12 hr h
    have e : r = 3 := by omega
    subst e
    exact br_t (nI_le (a := 3) (b := 3) (Nat.le_refl _) (by omega)) (hp a12 h)
  | succ j ih =>
    intro r a12 hr h
    refine br_f (nI_ge (b := 3) (by omega) (by omega)) ⟨pk_in (49 * r) 147 (by omega) (tr_49 r), nm_r (e' := upd a12 (49 * r) (-1)) (by rw [pk_cl (49 * r) (tr_49 r)]) (nm_r (nI_1 r) (ih (r + 1) _ (by omega) (fun i hi => ?_)))⟩
    by_cases e : i = r
    · rw [e, pk_us]
    · rw [pk_un (by omega)]
      exact h i (by omega)
theorem tr_W_0 {a12 : Nat → Int32} (h : ∀ i, i < 3 → a12 (49 * i) = -1) : tr_W 0 (0, fun _ => 0, fun _ => 0, fun _ => 0, fun _ => 0, fun _ => 0, fun _ => 0, fun _ => 0, fun _ => 0, fun _ => 0, fun _ => 0, fun _ => 0, a12, fun _ => 0, fun _ => 0, fun _ => 0) := by
  refine ⟨0, fun _ => 0, fun _ => 0, fun _ => 0, fun _ => 0, fun _ => 0, fun _ => 0, [], fun _ _ => 0, ?_, fun s hs => ?_, fun s hs => rfl, fun c hc => absurd hc List.not_mem_nil, fun c d hc => absurd hc List.not_mem_nil⟩
  · exact ⟨by omega, rfl, fun c hc => absurd hc (Nat.not_lt_zero _), fun c hc => absurd hc (Nat.not_lt_zero _), fun c hc => absurd hc (Nat.not_lt_zero _), fun o ho => ⟨rfl, Nat.le_refl _⟩, fun o k ho h1 h2 => absurd (Nat.le_trans h1 h2) (Nat.not_succ_le_zero 0), fun c d h1 h2 => absurd h2 (Nat.not_lt_zero _),
      List.nodup_nil, Nat.le_refl _, fun c => ⟨fun z => absurd z List.not_mem_nil, fun z => absurd z.1 (Nat.not_lt_zero _)⟩, tr_P_nil _ _, fun c d hc => absurd hc List.not_mem_nil⟩
  · exact ⟨fun o ho => ⟨rfl, Nat.le_refl _⟩, h s hs, fun c hc => ⟨fun _ d hd => absurd hd (Nat.not_lt_zero _), fun _ => rfl⟩, rfl, ⟨0, rfl, Nat.le_refl _, fun c hc => absurd hc List.not_mem_nil⟩, fun c hc => absurd hc (Nat.not_lt_zero _), fun c hc => absurd hc (Nat.not_lt_zero _)⟩
theorem i_vc (xs : Nat → Int32) (L : Nat) (hL : L ≤ 260) : wpL_law (fun r => r = 1) L xs := by
  refine ⟨15, 798, by omega, by omega, ?_⟩
  refine ⟨by omega, by omega, by omega, by omega, by omega, by omega, by omega, by omega, by omega, by omega, by omega, by omega, by omega, by omega, by omega, by omega, by omega, by omega, by omega, by omega, by omega, by omega, by omega, by omega, by omega, by omega, by omega, by omega, by omega, by omega, 3 + 1, tr_init (fun a12 h => ?_) 3 0 _ (by omega) (fun i hi => absurd hi (Nat.not_lt_zero _))⟩
  exact ⟨L + 1, tr_law_12 (post := fun r => r = 1) hL rfl (L + 1) 0 0 _ _ _ _ _ _ _ _ _ _ _ _ _ _ _ _ (by omega) (by omega) (by omega) (tr_W_0 h)⟩
end
