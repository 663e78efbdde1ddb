section
/-! LaneLoops, the pure picture: what a statement touches, what it does to the cells, lists of rounds -/
def ll_A (x : Int32) (p : Nat) : Nat := ((x >>> ((2 * nI p) &&& 31)) &&& 3).toNatClampNeg
def ll_B (x : Int32) (p : Nat) : Nat := ((x >>> ((4 * nI p) &&& 31)) &&& 15).toNatClampNeg
theorem ll_Ae (x : Int32) (p : Nat) : (x >>> ((2 * nI p) &&& 31)) &&& 3 = nI (ll_A x p) := by
  obtain ⟨j, hj, e⟩ := pk_andE (x >>> ((2 * nI p) &&& 31)) (m := 3) 2 (by decide)
  unfold ll_A
  rw [e, nI_clamp (by omega)]
theorem ll_Al (x : Int32) (p : Nat) : ll_A x p < 4 := by
  obtain ⟨j, hj, e⟩ := pk_andE (x >>> ((2 * nI p) &&& 31)) (m := 3) 2 (by decide)
  unfold ll_A
  rw [e, nI_clamp (by omega)]
  exact hj
theorem ll_Be (x : Int32) (p : Nat) : (x >>> ((4 * nI p) &&& 31)) &&& 15 = nI (ll_B x p) := by
  obtain ⟨j, hj, e⟩ := pk_andE (x >>> ((4 * nI p) &&& 31)) (m := 15) 4 (by decide)
  unfold ll_B
  rw [e, nI_clamp (by omega)]
theorem ll_Bl (x : Int32) (p : Nat) : ll_B x p < 16 := by
  obtain ⟨j, hj, e⟩ := pk_andE (x >>> ((4 * nI p) &&& 31)) (m := 15) 4 (by decide)
  unfold ll_B
  rw [e, nI_clamp (by omega)]
  exact hj
/-- every statement's arrays and shifts are in range -/
def ll_ok (n : Nat) (r h : Nat → Int32) : Prop := ∀ s, s < n → ∀ p, p < 3 → ll_A (r s) p < 3 ∧ ll_B (h s) p < 9
/-- the cell that a part of a statement touches in round i -/
def ll_ad (r h : Nat → Int32) (s p i : Nat) : Nat := ll_A (r s) p * 32 + i + ll_B (h s) p - 4
def ll_val (o k x y : Int32) : Int32 := if o = 0 then x + y else if o = 1 then x - y else if o = 2 then x * y else if o = 3 then (if y ≤ x then y else x) else if o = 4 then x + k else if o = 5 then k else x * k
/-- statement q.2 in round q.1 -/
def ll_ex (o r h k : Nat → Int32) (c : Nat → Int32) (q : Nat × Nat) : Nat → Int32 := upd c (ll_ad r h q.2 0 q.1) (ll_val (o q.2) (k q.2) (c (ll_ad r h q.2 1 q.1)) (c (ll_ad r h q.2 2 q.1)))
def ll_rd (o : Nat → Int32) (s p : Nat) : Prop := (p = 1 → ¬ o s = 5) ∧ (¬ p = 1 → ¬ 3 < o s)
def ll_mt (r h : Nat → Int32) (a pa b pb d : Nat) : Prop := ll_A (r a) pa = ll_A (r b) pb ∧ ll_B (h a) pa = ll_B (h b) pb + d
def ll_fd (o r h : Nat → Int32) (a b d : Nat) : Prop := (ll_rd o b 1 ∧ ll_mt r h a 0 b 1 d) ∨ (ll_rd o b 2 ∧ ll_mt r h a 0 b 2 d)
def ll_sp (o r h : Nat → Int32) (a b d : Nat) : Prop := (ll_rd o a 1 ∧ ll_mt r h a 1 b 0 d) ∨ (ll_rd o a 2 ∧ ll_mt r h a 2 b 0 d)
def ll_pr (o r h : Nat → Int32) (a b d : Nat) : Prop := (d = 0 → a < b) ∧ (ll_mt r h a 0 b 0 d ∨ ll_fd o r h a b d ∨ ll_sp o r h a b d)
def ll_D (o r h : Nat → Int32) (a b : Nat) : Prop := ∃ d, d ≤ 8 ∧ ll_pr o r h a b d
theorem ll_valc {o k x y x' y' : Int32} (hx : ¬ o = 5 → x = x') (hy : ¬ 3 < o → y = y') : ll_val o k x y = ll_val o k x' y' := by
  unfold ll_val
  by_cases h0 : o = 0
  · subst h0
    rw [hx (by decide), hy (by decide)]
  by_cases h1 : o = 1
  · subst h1
    rw [hx (by decide), hy (by decide)]
  by_cases h2 : o = 2
  · subst h2
    rw [hx (by decide), hy (by decide)]
  by_cases h3 : o = 3
  · subst h3
    rw [hx (by decide), hy (by decide)]
  by_cases h5 : o = 5
  · subst h5
    rw [if_neg h0, if_neg h1, if_neg h2, if_neg h3, if_neg (show ¬ (5 : Int32) = 4 by decide), if_pos rfl, if_neg h0, if_neg h1, if_neg h2, if_neg h3, if_neg (show ¬ (5 : Int32) = 4 by decide), if_pos rfl]
  · rw [hx h5]
    simp only [if_neg h0, if_neg h1, if_neg h2, if_neg h3]
theorem ll_uc {f : Nat → Int32} {a b : Nat} {x y : Int32} (h : a ≠ b) : upd (upd f a x) b y = upd (upd f b y) a x := by
  funext j
  by_cases h1 : j = b
  · subst h1
    rw [pk_us, pk_un (Ne.symm h), pk_us]
  · rw [pk_un h1]
    by_cases h2 : j = a
    · subst h2
      rw [pk_us, pk_us]
    · rw [pk_un h2, pk_un h2, pk_un h1]
theorem ll_comm (o r h k c : Nat → Int32) {a b i j : Nat} (hw : ll_ad r h a 0 i ≠ ll_ad r h b 0 j)
    (hf : ∀ p, ll_rd o b p → (p = 1 ∨ p = 2) → ll_ad r h a 0 i ≠ ll_ad r h b p j)
    (hs : ∀ p, ll_rd o a p → (p = 1 ∨ p = 2) → ll_ad r h a p i ≠ ll_ad r h b 0 j) :
    ll_ex o r h k (ll_ex o r h k c (i, a)) (j, b) = ll_ex o r h k (ll_ex o r h k c (j, b)) (i, a) := by
  have e1 : ll_val (o b) (k b) (ll_ex o r h k c (i, a) (ll_ad r h b 1 j)) (ll_ex o r h k c (i, a) (ll_ad r h b 2 j)) = ll_val (o b) (k b) (c (ll_ad r h b 1 j)) (c (ll_ad r h b 2 j)) :=
    ll_valc (fun z => pk_un (Ne.symm (hf 1 ⟨fun _ => z, fun q => absurd rfl q⟩ (Or.inl rfl)))) (fun z => pk_un (Ne.symm (hf 2 ⟨fun q => absurd q (by decide), fun _ => z⟩ (Or.inr rfl))))
  have e2 : ll_val (o a) (k a) (ll_ex o r h k c (j, b) (ll_ad r h a 1 i)) (ll_ex o r h k c (j, b) (ll_ad r h a 2 i)) = ll_val (o a) (k a) (c (ll_ad r h a 1 i)) (c (ll_ad r h a 2 i)) :=
    ll_valc (fun z => pk_un (hs 1 ⟨fun _ => z, fun q => absurd rfl q⟩ (Or.inl rfl))) (fun z => pk_un (hs 2 ⟨fun q => absurd q (by decide), fun _ => z⟩ (Or.inr rfl)))
  show upd (ll_ex o r h k c (i, a)) (ll_ad r h b 0 j) (ll_val (o b) (k b) (ll_ex o r h k c (i, a) (ll_ad r h b 1 j)) (ll_ex o r h k c (i, a) (ll_ad r h b 2 j))) = upd (ll_ex o r h k c (j, b)) (ll_ad r h a 0 i) (ll_val (o a) (k a) (ll_ex o r h k c (j, b) (ll_ad r h a 1 i)) (ll_ex o r h k c (j, b) (ll_ad r h a 2 i)))
  rw [e1, e2]
  exact ll_uc hw
theorem ll_adq {n : Nat} {r h : Nat → Int32} (hok : ll_ok n r h) {a b pa pb i j : Nat} (ha : a < n) (hb : b < n) (hpa : pa < 3) (hpb : pb < 3)
    (hi : 4 ≤ i ∧ i ≤ 27) (hj : 4 ≤ j ∧ j ≤ 27) (hij : i ≤ j) (e : ll_ad r h a pa i = ll_ad r h b pb j) : ll_mt r h a pa b pb (j - i) ∧ j - i ≤ 8 := by
  obtain ⟨x1, x2⟩ := hok a ha pa hpa
  obtain ⟨y1, y2⟩ := hok b hb pb hpb
  unfold ll_ad at e
  unfold ll_mt
  generalize ll_A (r a) pa = A1 at *
  generalize ll_A (r b) pb = A2 at *
  generalize ll_B (h a) pa = B1 at *
  generalize ll_B (h b) pb = B2 at *
  omega
theorem ll_adlt {n : Nat} {r h : Nat → Int32} (hok : ll_ok n r h) {a p i : Nat} (ha : a < n) (hp : p < 3) (hi : 4 ≤ i ∧ i ≤ 27) : ll_ad r h a p i < 96 := by
  obtain ⟨x1, x2⟩ := hok a ha p hp
  unfold ll_ad
  omega
theorem ll_apart {n : Nat} {o r h : Nat → Int32} (hok : ll_ok n r h) {a b i j : Nat} (ha : a < n) (hb : b < n)
    (hi : 4 ≤ i ∧ i ≤ 27) (hj : 4 ≤ j ∧ j ≤ 27) (hlt : i < j ∨ (i = j ∧ a < b)) (hn : ¬ ll_D o r h a b) (k c : Nat → Int32) :
    ll_ex o r h k (ll_ex o r h k c (i, a)) (j, b) = ll_ex o r h k (ll_ex o r h k c (j, b)) (i, a) := by
  have hij : i ≤ j := by omega
  have h0 : j - i = 0 → a < b := by omega
  refine ll_comm o r h k c (fun e => ?_) (fun p hr hp e => ?_) (fun p hr hp e => ?_)
  · obtain ⟨m, l⟩ := ll_adq hok ha hb (by decide) (by decide) hi hj hij e
    exact hn ⟨_, l, h0, Or.inl m⟩
  · rcases hp with rfl | rfl
    · obtain ⟨m, l⟩ := ll_adq hok ha hb (by decide) (by decide) hi hj hij e
      exact hn ⟨_, l, h0, Or.inr (Or.inl (Or.inl ⟨hr, m⟩))⟩
    · obtain ⟨m, l⟩ := ll_adq hok ha hb (by decide) (by decide) hi hj hij e
      exact hn ⟨_, l, h0, Or.inr (Or.inl (Or.inr ⟨hr, m⟩))⟩
  · rcases hp with rfl | rfl
    · obtain ⟨m, l⟩ := ll_adq hok ha hb (by decide) (by decide) hi hj hij e
      exact hn ⟨_, l, h0, Or.inr (Or.inr (Or.inl ⟨hr, m⟩))⟩
    · obtain ⟨m, l⟩ := ll_adq hok ha hb (by decide) (by decide) hi hj hij e
      exact hn ⟨_, l, h0, Or.inr (Or.inr (Or.inr ⟨hr, m⟩))⟩
/-- one round, two statements that don't meet in it -/
theorem ll_apart0 {n : Nat} {o r h : Nat → Int32} (hok : ll_ok n r h) {a b i : Nat} (ha : a < n) (hb : b < n) (hab : a < b)
    (hi : 4 ≤ i ∧ i ≤ 27) (hn : ¬ ll_pr o r h a b 0) (k c : Nat → Int32) :
    ll_ex o r h k (ll_ex o r h k c (i, a)) (i, b) = ll_ex o r h k (ll_ex o r h k c (i, b)) (i, a) := by
  have key : ∀ pa pb, pa < 3 → pb < 3 → ll_ad r h a pa i = ll_ad r h b pb i → ll_mt r h a pa b pb 0 := by
    intro pa pb hpa hpb e
    have := (ll_adq hok ha hb hpa hpb hi hi (Nat.le_refl i) e).1
    rw [Nat.sub_self] at this
    exact this
  refine ll_comm o r h k c (fun e => ?_) (fun p hr hp e => ?_) (fun p hr hp e => ?_)
  · exact hn ⟨fun _ => hab, Or.inl (key _ _ (by decide) (by decide) e)⟩
  · rcases hp with rfl | rfl
    · exact hn ⟨fun _ => hab, Or.inr (Or.inl (Or.inl ⟨hr, key _ _ (by decide) (by decide) e⟩))⟩
    · exact hn ⟨fun _ => hab, Or.inr (Or.inl (Or.inr ⟨hr, key _ _ (by decide) (by decide) e⟩))⟩
  · rcases hp with rfl | rfl
    · exact hn ⟨fun _ => hab, Or.inr (Or.inr (Or.inl ⟨hr, key _ _ (by decide) (by decide) e⟩))⟩
    · exact hn ⟨fun _ => hab, Or.inr (Or.inr (Or.inr ⟨hr, key _ _ (by decide) (by decide) e⟩))⟩
/-! lists of steps: a part of them first -/
theorem ll_push {α β : Type} (f : β → α → β) (x : α) : ∀ (l : List α), (∀ y, y ∈ l → ∀ c, f (f c x) y = f (f c y) x) → ∀ c, l.foldl f (f c x) = f (l.foldl f c) x := by
  intro l
  induction l with
  | nil => intro _ c; rfl
  | cons y l ih =>
    intro h c
    show l.foldl f (f (f c x) y) = f (l.foldl f (f c y)) x
    rw [h y List.mem_cons_self c]
    exact ih (fun z hz => h z (List.mem_cons_of_mem _ hz)) (f c y)
theorem ll_split {α β : Type} (f : β → α → β) (P : α → Bool) : ∀ (l : List α), l.Pairwise (fun x y => P x = false → P y = true → ∀ c, f (f c x) y = f (f c y) x) → ∀ c, l.foldl f c = (l.filter (fun x => !P x)).foldl f ((l.filter P).foldl f c) := by
  intro l
  induction l with
  | nil => intro _ c; rfl
  | cons x l ih =>
    intro hp c
    rw [List.pairwise_cons] at hp
    obtain ⟨h1, h2⟩ := hp
    cases hx : P x with
    | true =>
      rw [List.filter_cons_of_pos hx, List.filter_cons_of_neg (by simp [hx])]
      exact ih h2 (f c x)
    | false =>
      rw [List.filter_cons_of_neg (by simp [hx]), List.filter_cons_of_pos (by simp [hx])]
      show l.foldl f (f c x) = (l.filter (fun x => !P x)).foldl f (f ((l.filter P).foldl f c) x)
      rw [ih h2 (f c x), ll_push f x (l.filter P) (fun y hy c => h1 y (List.mem_filter.mp hy).1 hx (List.mem_filter.mp hy).2 c) c]
/-- all rounds from lo on, m of them, each statement in its order -/
def ll_L (n lo m : Nat) : List (Nat × Nat) := (List.range m).flatMap (fun j => (List.range n).map (fun s => (lo + j, s)))
theorem ll_Ls (n lo m : Nat) : ll_L n lo (m + 1) = ll_L n lo m ++ (List.range n).map (fun s => (lo + m, s)) := by
  unfold ll_L
  rw [List.range_succ, List.flatMap_append, List.flatMap_singleton]
theorem ll_Lm {n lo m : Nat} {q : Nat × Nat} (hq : q ∈ ll_L n lo m) : lo ≤ q.1 ∧ q.1 < lo + m ∧ q.2 < n := by
  obtain ⟨j, hj, hq2⟩ := List.mem_flatMap.mp hq
  obtain ⟨s, hs, rfl⟩ := List.mem_map.mp hq2
  have h1 := List.mem_range.mp hj
  have h2 := List.mem_range.mp hs
  exact ⟨by show lo ≤ lo + j; omega, by show lo + j < lo + m; omega, h2⟩
theorem ll_Lp (n lo m : Nat) : (ll_L n lo m).Pairwise (fun x y => x.1 < y.1 ∨ (x.1 = y.1 ∧ x.2 < y.2)) := by
  induction m with
  | zero => exact List.Pairwise.nil
  | succ m ih =>
    rw [ll_Ls, List.pairwise_append]
    refine ⟨ih, ?_, ?_⟩
    · rw [List.pairwise_map]
      exact List.Pairwise.imp (fun h => Or.inr ⟨rfl, h⟩) List.pairwise_lt_range
    · intro x hx y hy
      have h1 := ll_Lm hx
      obtain ⟨s, _, rfl⟩ := List.mem_map.mp hy
      exact Or.inl (by show x.1 < lo + m; omega)
theorem ll_La (n lo k m : Nat) : ll_L n lo (k + m) = ll_L n lo k ++ ll_L n (lo + k) m := by
  induction m with
  | zero => show ll_L n lo k = ll_L n lo k ++ []; rw [List.append_nil]
  | succ m ih =>
    rw [← Nat.add_assoc, ll_Ls, ll_Ls, ih, List.append_assoc, Nat.add_assoc]
/-- the groups in their order -/
def ll_gx (n : Nat) (o r h k : Nat → Int32) (lo m : Nat) (gl : List Nat) (c : Nat → Int32) : Nat → Int32 := gl.foldl (fun c x => ((ll_L n lo m).filter (fun q => x.testBit q.2)).foldl (ll_ex o r h k) c) c
/-- a list of groups in an order that may be taken: each its own statements, none left over, nothing behind that must come first -/
def ll_gc (D : Nat → Nat → Prop) (n : Nat) : Nat → List Nat → Prop
  | pl, [] => ∀ t, t < n → pl.testBit t = true
  | pl, x :: l => (∀ t, t < n → x.testBit t = true → pl.testBit t = false) ∧ (∀ t u, t < n → u < n → x.testBit t = false → pl.testBit t = false → x.testBit u = true → ¬ D t u) ∧ ll_gc D n (pl ||| x) l
theorem ll_gxe {n lo m : Nat} {o r h k : Nat → Int32} (hok : ll_ok n r h) (hlo : 4 ≤ lo) (hm : lo + m ≤ 28) : ∀ (gl : List Nat) (pl : Nat), ll_gc (ll_D o r h) n pl gl → ∀ c, ((ll_L n lo m).filter (fun q => !pl.testBit q.2)).foldl (ll_ex o r h k) c = ll_gx n o r h k lo m gl c := by
  intro gl
  induction gl with
  | nil =>
    intro pl hg c
    have e : (ll_L n lo m).filter (fun q => !pl.testBit q.2) = [] := List.filter_eq_nil_iff.mpr (fun q hq => by
      have h1 := hg q.2 (ll_Lm hq).2.2
      simp [h1])
    rw [e]
    rfl
  | cons x l ih =>
    intro pl hg c
    obtain ⟨h1, h2, h3⟩ := hg
    have e1 : ((ll_L n lo m).filter (fun q => !pl.testBit q.2)).filter (fun q => x.testBit q.2) = (ll_L n lo m).filter (fun q => x.testBit q.2) := by
      rw [List.filter_filter]
      apply List.filter_congr
      intro q hq
      cases hx : x.testBit q.2 with
      | false => rfl
      | true => rw [h1 q.2 (ll_Lm hq).2.2 hx]; rfl
    have e2 : ((ll_L n lo m).filter (fun q => !pl.testBit q.2)).filter (fun q => !x.testBit q.2) = (ll_L n lo m).filter (fun q => !(pl ||| x).testBit q.2) := by
      rw [List.filter_filter]
      apply List.filter_congr
      intro q hq
      rw [Nat.testBit_or]
      cases x.testBit q.2 <;> cases pl.testBit q.2 <;> rfl
    have hp : ((ll_L n lo m).filter (fun q => !pl.testBit q.2)).Pairwise (fun y z => (fun q : Nat × Nat => x.testBit q.2) y = false → (fun q : Nat × Nat => x.testBit q.2) z = true → ∀ c, ll_ex o r h k (ll_ex o r h k c y) z = ll_ex o r h k (ll_ex o r h k c z) y) := by
      refine List.Pairwise.imp_of_mem ?_ (List.Pairwise.filter _ (ll_Lp n lo m))
      intro y z hy hz hyz f1 f2 c
      obtain ⟨y1, y2⟩ := List.mem_filter.mp hy
      obtain ⟨z1, z2⟩ := List.mem_filter.mp hz
      have y3 := ll_Lm y1
      have z3 := ll_Lm z1
      refine ll_apart hok y3.2.2 z3.2.2 (by omega) (by omega) hyz (h2 y.2 z.2 y3.2.2 z3.2.2 f1 ?_ f2) k c
      revert y2
      cases pl.testBit y.2 <;> simp
    rw [ll_split (ll_ex o r h k) (fun q => x.testBit q.2) _ hp c, e1, e2]
    exact ih (pl ||| x) h3 _
/-- the whole, from nothing placed -/
theorem ll_gxa {n lo m : Nat} {o r h k : Nat → Int32} (hok : ll_ok n r h) (hlo : 4 ≤ lo) (hm : lo + m ≤ 28) {gl : List Nat} (hg : ll_gc (ll_D o r h) n 0 gl) (c : Nat → Int32) : ll_gx n o r h k lo m gl c = (ll_L n lo m).foldl (ll_ex o r h k) c := by
  rw [← ll_gxe hok hlo hm gl 0 hg c]
  have e : (ll_L n lo m).filter (fun q => !(0 : Nat).testBit q.2) = ll_L n lo m := List.filter_eq_self.mpr (fun q _ => by simp)
  rw [e]
end
section
/-! LaneLoops, the theory: lanes, cells that agree, an exchange, one statement alone, what comes behind, the next group -/
def ll_S (s lo m : Nat) : List (Nat × Nat) := (List.range m).map (fun j => (lo + j, s))
theorem ll_Ss (s lo m : Nat) : ll_S s lo (m + 1) = ll_S s lo m ++ [(lo + m, s)] := by
  unfold ll_S
  rw [List.range_succ, List.map_append]
  rfl
theorem ll_Sa (s lo k m : Nat) : ll_S s lo (k + m) = ll_S s lo k ++ ll_S s (lo + k) m := by
  induction m with
  | zero => show ll_S s lo k = ll_S s lo k ++ []; rw [List.append_nil]
  | succ m ih => rw [← Nat.add_assoc, ll_Ss, ll_Ss, ih, List.append_assoc, Nat.add_assoc]
theorem ll_r1 : ∀ n, n < 5 → ∀ s, s < n → (List.range n).filter (fun t => (2 ^ s).testBit t) = [s] := by decide
theorem ll_LS {n s : Nat} (hn : n < 5) (hs : s < n) (lo m : Nat) : (ll_L n lo m).filter (fun q => (2 ^ s).testBit q.2) = ll_S s lo m := by
  induction m with
  | zero => rfl
  | succ m ih =>
    rw [ll_Ls, ll_Ss, List.filter_append, ih, List.filter_map]
    show ll_S s lo m ++ ((List.range n).filter (fun t => (2 ^ s).testBit t)).map (fun s => (lo + m, s)) = _
    rw [ll_r1 n hn s hs]
    rfl
/-- the stores of a block of lanes -/
def ll_T (r h : Nat → Int32) (s i : Nat) (v : Nat → Int32) (c : Nat → Int32) : Nat → Nat → Int32
  | 0 => c
  | m + 1 => upd (ll_T r h s i v c m) (ll_ad r h s 0 (i + m)) (v m)
theorem ll_Tn {r h : Nat → Int32} {s i : Nat} {v c : Nat → Int32} : ∀ (m : Nat) {x : Nat}, (∀ j, j < m → x ≠ ll_ad r h s 0 (i + j)) → ll_T r h s i v c m x = c x := by
  intro m
  induction m with
  | zero => intro x _; rfl
  | succ m ih =>
    intro x hx
    show upd (ll_T r h s i v c m) (ll_ad r h s 0 (i + m)) (v m) x = c x
    rw [pk_un (hx m (by omega))]
    exact ih (fun j hj => hx j (by omega))
def ll_v (o r h k : Nat → Int32) (s i : Nat) (c : Nat → Int32) : Int32 := ll_val (o s) (k s) (c (ll_ad r h s 1 i)) (c (ll_ad r h s 2 i))
theorem ll_lane {n s i : Nat} {o r h k : Nat → Int32} (hok : ll_ok n r h) (hs : s < n) (hi : 4 ≤ i) (hi2 : i + 3 ≤ 27) (hf : ∀ d, 1 ≤ d → d < 4 → ¬ ll_fd o r h s s d) (c : Nat → Int32) :
    ∀ m, m ≤ 4 → (ll_S s i m).foldl (ll_ex o r h k) c = ll_T r h s i (fun j => ll_v o r h k s (i + j) c) c m := by
  intro m
  induction m with
  | zero => intro _; rfl
  | succ m ih =>
    intro hm
    rw [ll_Ss, List.foldl_append, ih (by omega)]
    have key : ∀ p, (p = 1 ∨ p = 2) → ll_rd o s p → ll_T r h s i (fun j => ll_v o r h k s (i + j) c) c m (ll_ad r h s p (i + m)) = c (ll_ad r h s p (i + m)) := by
      intro p hp hr
      refine ll_Tn m (fun j hj e => ?_)
      have hp3 : p < 3 := by omega
      obtain ⟨m1, m2⟩ := ll_adq hok hs hs (by decide) hp3 (show 4 ≤ i + j ∧ i + j ≤ 27 by omega) (show 4 ≤ i + m ∧ i + m ≤ 27 by omega) (by omega) e.symm
      rw [show i + m - (i + j) = m - j by omega] at m1
      refine hf (m - j) (by omega) (by omega) ?_
      rcases hp with rfl | rfl
      · exact Or.inl ⟨hr, m1⟩
      · exact Or.inr ⟨hr, m1⟩
    show upd (ll_T r h s i (fun j => ll_v o r h k s (i + j) c) c m) (ll_ad r h s 0 (i + m)) (ll_val (o s) (k s) (ll_T r h s i (fun j => ll_v o r h k s (i + j) c) c m (ll_ad r h s 1 (i + m))) (ll_T r h s i (fun j => ll_v o r h k s (i + j) c) c m (ll_ad r h s 2 (i + m)))) = upd (ll_T r h s i (fun j => ll_v o r h k s (i + j) c) c m) (ll_ad r h s 0 (i + m)) (ll_v o r h k s (i + m) c)
    exact congrArg _ (ll_valc (fun z => key 1 (Or.inl rfl) ⟨fun _ => z, fun q => absurd rfl q⟩) (fun z => key 2 (Or.inr rfl) ⟨fun q => absurd q (by decide), fun _ => z⟩))
/-! cells that agree -/
theorem ll_agr {n : Nat} {o r h k : Nat → Int32} (hok : ll_ok n r h) : ∀ (l : List (Nat × Nat)), (∀ q, q ∈ l → q.2 < n ∧ 4 ≤ q.1 ∧ q.1 ≤ 27) → ∀ c c' : Nat → Int32, (∀ j, j < 96 → c j = c' j) → ∀ j, j < 96 → l.foldl (ll_ex o r h k) c j = l.foldl (ll_ex o r h k) c' j := by
  intro l
  induction l with
  | nil => intro _ c c' hc; exact hc
  | cons q l ih =>
    intro hq c c' hc
    obtain ⟨q1, q2, q3⟩ := hq q List.mem_cons_self
    refine ih (fun z hz => hq z (List.mem_cons_of_mem _ hz)) (ll_ex o r h k c q) (ll_ex o r h k c' q) (fun j hj => ?_)
    unfold ll_ex
    rw [hc _ (ll_adlt hok q1 (by decide) ⟨q2, q3⟩), hc _ (ll_adlt hok q1 (by decide) ⟨q2, q3⟩)]
    by_cases e : j = ll_ad r h q.2 0 q.1
    · rw [e, pk_us, pk_us]
    · rw [pk_un e, pk_un e]
      exact hc j hj
/-- the whole run, one statement behind the other -/
def ll_run (n : Nat) (o r h k : Nat → Int32) (lo m : Nat) (c : Nat → Int32) : Nat → Int32 := (ll_L n lo m).foldl (ll_ex o r h k) c
theorem ll_runA {n : Nat} {o r h k : Nat → Int32} (lo a b : Nat) (c : Nat → Int32) : ll_run n o r h k lo (a + b) c = ll_run n o r h k (lo + a) b (ll_run n o r h k lo a c) := by
  unfold ll_run
  rw [ll_La, List.foldl_append]
theorem ll_runG {n : Nat} {o r h k : Nat → Int32} (hok : ll_ok n r h) {lo m : Nat} (hlo : 4 ≤ lo) (hm : lo + m ≤ 28) {c c' : Nat → Int32} (hc : ∀ j, j < 96 → c j = c' j) : ∀ j, j < 96 → ll_run n o r h k lo m c j = ll_run n o r h k lo m c' j :=
  ll_agr hok _ (fun q hq => by have := ll_Lm hq; omega) c c' hc
theorem ll_runS {n : Nat} {o r h k : Nat → Int32} (lo m : Nat) (c : Nat → Int32) : ll_run n o r h k lo (m + 1) c = ((List.range n).map (fun s => (lo + m, s))).foldl (ll_ex o r h k) (ll_run n o r h k lo m c) := by
  unfold ll_run
  rw [ll_Ls, List.foldl_append]
/-! an exchange of two statements -/
def ll_sw (f : Nat → Int32) (a : Nat) : Nat → Int32 := upd (upd f a (f (a + 1))) (a + 1) (f a)
theorem ll_sw0 (f : Nat → Int32) (a : Nat) : ll_sw f a a = f (a + 1) := by
  unfold ll_sw
  rw [pk_un (by omega), pk_us]
theorem ll_sw1 (f : Nat → Int32) (a : Nat) : ll_sw f a (a + 1) = f a := by
  unfold ll_sw
  rw [pk_us]
theorem ll_swn (f : Nat → Int32) {a s : Nat} (h0 : s ≠ a) (h1 : s ≠ a + 1) : ll_sw f a s = f s := by
  unfold ll_sw
  rw [pk_un h1, pk_un h0]
theorem ll_exw {o r h k o' r' h' k' : Nat → Int32} {s t : Nat} (i : Nat) (c : Nat → Int32) (e1 : o' s = o t) (e2 : r' s = r t) (e3 : h' s = h t) (e4 : k' s = k t) : ll_ex o' r' h' k' c (i, s) = ll_ex o r h k c (i, t) := by
  unfold ll_ex ll_ad
  dsimp only
  rw [e1, e2, e3, e4]
theorem ll_swok {n a : Nat} {r h : Nat → Int32} (hok : ll_ok n r h) (ha : a + 1 < n) : ll_ok n (ll_sw r a) (ll_sw h a) := by
  intro s hs p hp
  by_cases h0 : s = a
  · subst h0
    rw [ll_sw0, ll_sw0]
    exact hok _ ha p hp
  by_cases h1 : s = a + 1
  · subst h1
    rw [ll_sw1, ll_sw1]
    exact hok _ (by omega) p hp
  rw [ll_swn r h0 h1, ll_swn h h0 h1]
  exact hok s hs p hp
theorem ll_swrow {o r h k : Nat → Int32} {a i : Nat} (hc : ∀ c, ll_ex o r h k (ll_ex o r h k c (i, a)) (i, a + 1) = ll_ex o r h k (ll_ex o r h k c (i, a + 1)) (i, a)) (c : Nat → Int32) (w : Nat) :
    ((List.range (a + 2 + w)).map (fun s => (i, s))).foldl (ll_ex (ll_sw o a) (ll_sw r a) (ll_sw h a) (ll_sw k a)) c = ((List.range (a + 2 + w)).map (fun s => (i, s))).foldl (ll_ex o r h k) c := by
  have low : ∀ b, b ≤ a → ((List.range b).map (fun s => (i, s))).foldl (ll_ex (ll_sw o a) (ll_sw r a) (ll_sw h a) (ll_sw k a)) c = ((List.range b).map (fun s => (i, s))).foldl (ll_ex o r h k) c := by
    intro b
    induction b with
    | zero => intro _; exact Eq.trans (b := c) rfl rfl
    | succ b ih =>
      intro hb
      rw [List.range_succ, List.map_append, List.foldl_append, List.foldl_append, ih (by omega)]
      exact ll_exw i _ (ll_swn o (by omega) (by omega)) (ll_swn r (by omega) (by omega)) (ll_swn h (by omega) (by omega)) (ll_swn k (by omega) (by omega))
  induction w with
  | zero =>
    rw [show a + 2 + 0 = a + 1 + 1 by omega, List.range_succ, List.range_succ, List.map_append, List.map_append, List.foldl_append, List.foldl_append, List.foldl_append, List.foldl_append, low a (Nat.le_refl a)]
    show ll_ex (ll_sw o a) (ll_sw r a) (ll_sw h a) (ll_sw k a) (ll_ex (ll_sw o a) (ll_sw r a) (ll_sw h a) (ll_sw k a) _ (i, a)) (i, a + 1) = ll_ex o r h k (ll_ex o r h k _ (i, a)) (i, a + 1)
    rw [ll_exw i _ (ll_sw0 o a) (ll_sw0 r a) (ll_sw0 h a) (ll_sw0 k a), ll_exw i _ (ll_sw1 o a) (ll_sw1 r a) (ll_sw1 h a) (ll_sw1 k a), hc]
  | succ w ih =>
    rw [← Nat.add_assoc, List.range_succ, List.map_append, List.foldl_append, List.foldl_append, ih]
    exact ll_exw i _ (ll_swn o (by omega) (by omega)) (ll_swn r (by omega) (by omega)) (ll_swn h (by omega) (by omega)) (ll_swn k (by omega) (by omega))
theorem ll_swrun {n a lo m : Nat} {o r h k : Nat → Int32} (hok : ll_ok n r h) (ha : a + 1 < n) (hlo : 4 ≤ lo) (hm : lo + m ≤ 28) (hn : ¬ ll_pr o r h a (a + 1) 0) (c : Nat → Int32) :
    ll_run n (ll_sw o a) (ll_sw r a) (ll_sw h a) (ll_sw k a) lo m c = ll_run n o r h k lo m c := by
  induction m with
  | zero => exact Eq.trans (b := c) rfl rfl
  | succ m ih =>
    rw [ll_runS, ll_runS, ih (by omega)]
    obtain ⟨w, rfl⟩ : ∃ w, n = a + 2 + w := ⟨n - (a + 2), by omega⟩
    exact ll_swrow (fun c => ll_apart0 hok (by omega) (by omega) (by omega) (by omega) hn k c) _ w
/-! one statement alone, its target no source -/
theorem ll_one {o r h k : Nat → Int32} (hok : ll_ok 1 r h) (h1 : ll_A (r 0) 0 ≠ ll_A (r 0) 1) (h2 : ll_A (r 0) 0 ≠ ll_A (r 0) 2) {lo : Nat} (hlo : 4 ≤ lo) (c : Nat → Int32) :
    ∀ m, lo + m ≤ 28 → (∀ i, lo ≤ i → i < lo + m → ll_run 1 o r h k lo m c (ll_ad r h 0 0 i) = ll_v o r h k 0 i c) ∧ (∀ j, (∀ i, lo ≤ i → i < lo + m → j ≠ ll_ad r h 0 0 i) → ll_run 1 o r h k lo m c j = c j) := by
  intro m
  induction m with
  | zero => intro _; exact ⟨fun i h3 h4 => absurd h4 (by omega), fun j _ => rfl⟩
  | succ m ih =>
    intro hm
    obtain ⟨g1, g2⟩ := ih (by omega)
    have b0 := hok 0 (by decide) 0 (by decide)
    have b1 := hok 0 (by decide) 1 (by decide)
    have b2 := hok 0 (by decide) 2 (by decide)
    have e : ll_run 1 o r h k lo (m + 1) c = upd (ll_run 1 o r h k lo m c) (ll_ad r h 0 0 (lo + m)) (ll_v o r h k 0 (lo + m) (ll_run 1 o r h k lo m c)) := by
      rw [ll_runS]
      rfl
    have ev : ll_v o r h k 0 (lo + m) (ll_run 1 o r h k lo m c) = ll_v o r h k 0 (lo + m) c := by
      unfold ll_v
      rw [g2 (ll_ad r h 0 1 (lo + m)) ?_, g2 (ll_ad r h 0 2 (lo + m)) ?_]
      · intro i i1 i2
        unfold ll_ad
        omega
      · intro i i1 i2
        unfold ll_ad
        omega
    rw [e, ev]
    refine ⟨fun i i1 i2 => ?_, fun j hj => ?_⟩
    · by_cases ei : i = lo + m
      · rw [ei, pk_us]
      · rw [pk_un (by unfold ll_ad; omega)]
        exact g1 i i1 (by omega)
    · rw [pk_un (hj (lo + m) (by omega) (by omega))]
      exact g2 j (fun i i1 i2 => hj i i1 (by omega))
/-! what comes behind: one turn of the closure -/
theorem ll_war {R R' : Nat → Nat → Prop} {n k : Nat} (hk : k < n) (hR : ∀ a b, a < n → (R' a b ↔ R a b ∨ (R a k ∧ R k b)))
    (hc : ∀ a j b, a < n → j < k → R a j → R j b → R a b) : ∀ a j b, a < n → j < k + 1 → R' a j → R' j b → R' a b := by
  intro a j b ha hj h1 h2
  have hjn : j < n := by omega
  rw [hR a j ha] at h1
  rw [hR j b hjn] at h2
  rw [hR a b ha]
  by_cases e : j = k
  · subst e
    have q1 : R a j := h1.elim id (fun t => t.1)
    have q2 : R j b := h2.elim id (fun t => t.2)
    exact Or.inr ⟨q1, q2⟩
  · have hjk : j < k := by omega
    rcases h1 with h1 | ⟨h1, h1'⟩
    · rcases h2 with h2 | ⟨h2, h2'⟩
      · exact Or.inl (hc a j b ha hjk h1 h2)
      · exact Or.inr ⟨hc a j k ha hjk h1 h2, h2'⟩
    · rcases h2 with h2 | ⟨h2, h2'⟩
      · exact Or.inr ⟨h1, hc k j b hk hjk h1' h2⟩
      · exact Or.inr ⟨h1, h2'⟩
/-- among what is left there is something that nothing left must come before, but what hangs together with it -/
theorem ll_min {R : Nat → Nat → Prop} (U : Nat → Prop) {n : Nat} (tr : ∀ a j b, a < n → j < n → R a j → R j b → R a b) : ∀ k, k ≤ n → (∃ t, t < k ∧ U t) → ∃ s, s < k ∧ U s ∧ ∀ t, t < k → U t → R t s → R s t := by
  intro k
  induction k with
  | zero => intro _ h; obtain ⟨t, ht, _⟩ := h; exact absurd ht (by omega)
  | succ k ih =>
    intro hk h
    by_cases he : ∃ t, t < k ∧ U t
    · obtain ⟨s, s1, s2, s3⟩ := ih (by omega) he
      by_cases hU : U k
      · by_cases hg : R k s → R s k
        · refine ⟨s, by omega, s2, fun t ht hUt hR => ?_⟩
          by_cases e : t = k
          · subst e; exact hg hR
          · exact s3 t (by omega) hUt hR
        · have hks : R k s := Classical.byContradiction (fun z => hg (fun y => absurd y z))
          have hsk : ¬ R s k := fun z => hg (fun _ => z)
          refine ⟨k, by omega, hU, fun t ht hUt hR => ?_⟩
          by_cases e : t = k
          · subst e; exact hR
          · have q1 : R t s := tr t k s (by omega) (by omega) hR hks
            have q2 : R s t := s3 t (by omega) hUt q1
            exact absurd (tr s t k (by omega) (by omega) q2 hR) hsk
      · refine ⟨s, by omega, s2, fun t ht hUt hR => ?_⟩
        by_cases e : t = k
        · subst e; exact absurd hUt hU
        · exact s3 t (by omega) hUt hR
    · obtain ⟨t, ht, hUt⟩ := h
      have e : t = k := by
        rcases Nat.lt_or_ge t k with z | z
        · exact absurd ⟨t, z, hUt⟩ he
        · omega
      subst e
      refine ⟨t, by omega, hUt, fun u hu hUu hR => ?_⟩
      by_cases e : u = t
      · subst e; exact hR
      · exact absurd ⟨u, by omega, hUu⟩ he
/-! masks of four bits -/
theorem ll_bit : ∀ x, x < 16 → ∀ j, j < 4 → (nI x >>> (nI j &&& 31)) &&& 1 = nI (if x.testBit j then 1 else 0) := by decide +kernel
theorem ll_sh1 : ∀ j, j < 4 → (1 : Int32) <<< (nI j &&& 31) = nI (2 ^ j) := by decide +kernel
theorem ll_or : ∀ x, x < 16 → ∀ y, y < 16 → nI x ||| nI y = nI (x ||| y) := by decide +kernel
theorem ll_and : ∀ x, x < 16 → ∀ y, y < 16 → nI x &&& nI y = nI (x &&& y) := by decide +kernel
theorem ll_orl {x y : Nat} (hx : x < 16) (hy : y < 16) : x ||| y < 16 := Nat.or_lt_two_pow (n := 4) hx hy
theorem ll_p2l : ∀ j, j < 4 → 2 ^ j < 16 := by decide
theorem ll_b1 {x j : Nat} (hx : x < 16) (hj : j < 4) : (nI x >>> (nI j &&& 31)) &&& 1 = 1 ↔ x.testBit j = true := by
  rw [ll_bit x hx j hj]
  cases x.testBit j
  · exact ⟨fun z => absurd z (by decide), fun z => absurd z (by decide)⟩
  · exact ⟨fun _ => rfl, fun _ => rfl⟩
theorem ll_b0 {x j : Nat} (hx : x < 16) (hj : j < 4) : (nI x >>> (nI j &&& 31)) &&& 1 = 0 ↔ x.testBit j = false := by
  rw [ll_bit x hx j hj]
  cases x.testBit j
  · exact ⟨fun _ => rfl, fun _ => rfl⟩
  · exact ⟨fun z => absurd z (by decide), fun z => absurd z (by decide)⟩
/-- how many are placed -/
def ll_pc (n x : Nat) : Nat := ((List.range n).filter (fun t => x.testBit t)).length
theorem ll_pcA : ∀ n, n < 5 → ∀ x, x < 16 → n ≤ ll_pc n x → ∀ t, t < n → x.testBit t = true := by decide +kernel
theorem ll_pcF : ∀ n, n < 5 → ∀ x, x < 16 → (∀ t, t < n → x.testBit t = true) → ll_pc n x = n := by decide +kernel
theorem ll_pcS0 : ∀ n, n < 5 → ∀ x, x < 16 → ∀ y, y < 16 → ((List.range n).all (fun t => x.testBit t || !y.testBit t || decide (ll_pc n x + 1 ≤ ll_pc n (x ||| y)))) = true := by decide +kernel
theorem ll_pcS (n : Nat) (hn : n < 5) (x : Nat) (hx : x < 16) (y : Nat) (hy : y < 16) (t : Nat) (ht : t < n) (h1 : x.testBit t = false) (h2 : y.testBit t = true) : ll_pc n x + 1 ≤ ll_pc n (x ||| y) := by
  have e := List.all_eq_true.mp (ll_pcS0 n hn x hx y hy) t (List.mem_range.mpr ht)
  rw [h1, h2, Bool.not_true, Bool.false_or, Bool.false_or] at e
  exact of_decide_eq_true e
theorem ll_one1 : ∀ x, x < 16 → ¬ x = 0 → nI x &&& (nI x - 1) = 0 → ∃ s, s < 4 ∧ x = 2 ^ s := by decide +kernel
/-- the circle of a statement -/
def ll_ci (m : Nat → Nat) (n s x : Nat) : Prop := x < 16 ∧ ∀ t, x.testBit t = (decide (t < n) && (m s).testBit t && (m t).testBit s)
/-- nothing left outside a group must come before it -/
def ll_fr (m : Nat → Nat) (n x pl : Nat) : Prop := ∀ t, t < n → x.testBit t = false → pl.testBit t = false → m t &&& x = 0
/-- the masks of what comes behind: each its own, closed, and holding what must come behind -/
def ll_M (D : Nat → Nat → Prop) (n : Nat) (m : Nat → Nat) : Prop := (∀ a, a < n → m a < 16 ∧ (m a).testBit a = true) ∧ (∀ a b, a < n → b < n → D a b → (m a).testBit b = true) ∧ (∀ a j b, a < n → j < n → (m a).testBit j = true → (m j).testBit b = true → (m a).testBit b = true)
/-- what is placed: whole circles, the list of groups so far in an order that may be taken -/
def ll_pi (D : Nat → Nat → Prop) (n : Nat) (m : Nat → Nat) (pl : Nat) (gl : List Nat) : Prop := pl < 16 ∧ (∀ s t, s < n → t < n → pl.testBit s = true → (m s).testBit t = true → (m t).testBit s = true → pl.testBit t = true) ∧ (∀ rest, ll_gc D n pl rest → ll_gc D n 0 (gl ++ rest))
theorem ll_pi0 {D : Nat → Nat → Prop} {n : Nat} {m : Nat → Nat} : ll_pi D n m 0 [] :=
  ⟨by decide, fun s t _ _ h => absurd h (by simp), fun rest h => h⟩
theorem ll_pis {D : Nat → Nat → Prop} {n : Nat} {m : Nat → Nat} (hn : n < 5) (hM : ll_M D n m) {pl s x : Nat} {gl : List Nat} (h : ll_pi D n m pl gl) (hs : s < n) (hu : pl.testBit s = false) (hx : ll_ci m n s x) (hf : ll_fr m n x pl) : ll_pi D n m (pl ||| x) (gl ++ [x]) ∧ ll_pc n pl + 1 ≤ ll_pc n (pl ||| x) ∧ x.testBit s = true := by
  obtain ⟨p1, p2, p3⟩ := h
  obtain ⟨m1, m2, m3⟩ := hM
  obtain ⟨x1, x2⟩ := hx
  have xs : x.testBit s = true := by
    rw [x2 s, (m1 s hs).2, decide_eq_true hs]
    rfl
  have xt : ∀ t, x.testBit t = true → t < n ∧ (m s).testBit t = true ∧ (m t).testBit s = true := by
    intro t ht
    rw [x2 t, Bool.and_eq_true, Bool.and_eq_true, decide_eq_true_eq] at ht
    exact ⟨ht.1.1, ht.1.2, ht.2⟩
  have tx : ∀ t, t < n → (m s).testBit t = true → (m t).testBit s = true → x.testBit t = true := by
    intro t h1 h2 h3
    rw [x2 t, h2, h3, decide_eq_true h1]
    rfl
  refine ⟨⟨ll_orl p1 x1, ?_, ?_⟩, ll_pcS n hn pl p1 x x1 s hs hu xs, xs⟩
  · intro a t ha ht h1 h2 h3
    rw [Nat.testBit_or, Bool.or_eq_true] at h1
    rw [Nat.testBit_or, Bool.or_eq_true]
    rcases h1 with h1 | h1
    · exact Or.inl (p2 a t ha ht h1 h2 h3)
    · obtain ⟨_, q2, q3⟩ := xt a h1
      exact Or.inr (tx t ht (m3 s a t hs ha q2 h2) (m3 t a s ht ha h3 q3))
  · intro rest hr
    have hg : ll_gc D n pl (x :: rest) := by
      refine ⟨fun t ht hxt => ?_, fun t u ht huu hxt hpt hxu hD => ?_, hr⟩
      · obtain ⟨_, q2, q3⟩ := xt t hxt
        cases hpt : pl.testBit t with
        | false => rfl
        | true =>
          have := p2 t s ht hs hpt q3 q2
          rw [hu] at this
          exact this.symm
      · have e := hf t ht hxt hpt
        have q : (m t &&& x).testBit u = true := by
          rw [Nat.testBit_and, m2 t u ht huu hD, hxu]
          rfl
        rw [e, Nat.zero_testBit] at q
        exact absurd q (by decide)
    have := p3 (x :: rest) hg
    rw [List.append_assoc]
    exact this
/-- if something is left, some circle is free -/
theorem ll_some {D : Nat → Nat → Prop} {n : Nat} {m : Nat → Nat} (hM : ll_M D n m) {pl : Nat} (h : ¬ ∀ t, t < n → pl.testBit t = true) : ∃ s, s < n ∧ pl.testBit s = false ∧ ∀ x, ll_ci m n s x → ll_fr m n x pl := by
  obtain ⟨m1, m2, m3⟩ := hM
  have he : ∃ t, t < n ∧ pl.testBit t = false := by
    refine Classical.byContradiction (fun z => h (fun t ht => ?_))
    cases e : pl.testBit t with
    | true => rfl
    | false => exact absurd ⟨t, ht, e⟩ z
  obtain ⟨s, s1, s2, s3⟩ := ll_min (R := fun a b => (m a).testBit b = true) (fun t => pl.testBit t = false) (n := n) m3 n (Nat.le_refl n) he
  refine ⟨s, s1, s2, fun x hx t ht hxt hpt => ?_⟩
  obtain ⟨x1, x2⟩ := hx
  refine Nat.eq_of_testBit_eq (fun u => ?_)
  rw [Nat.testBit_and, Nat.zero_testBit]
  cases hu : x.testBit u with
  | false => cases (m t).testBit u <;> rfl
  | true =>
    cases hmu : (m t).testBit u with
    | false => rfl
    | true =>
      exfalso
      rw [x2 u, Bool.and_eq_true, Bool.and_eq_true, decide_eq_true_eq] at hu
      obtain ⟨⟨u1, u2⟩, u3⟩ := hu
      have q1 : (m t).testBit s = true := m3 t u s ht u1 hmu u3
      have q2 : (m s).testBit t = true := s3 t ht hpt q1
      have q3 : x.testBit t = true := by
        rw [x2 t, q1, q2, decide_eq_true ht]
        rfl
      rw [hxt] at q3
      exact absurd q3 (by decide)
end
section
/-! the questions about statements: arrayOf, shiftOf, meets, reads, feeds, spoils, precedes, precedesAtAll -/
theorem ll_sh4 {x y d : Nat} (hx : x < 16) (hy : y < 16) (hd : d < 16) : nI x - 4 = nI y - 4 + nI d ↔ x = y + d := by
  constructor
  · intro e
    have e2 : nI x = nI y + nI d := by grind
    rw [nI_add] at e2
    exact (nI_eq (by omega) (by omega)).mp e2
  · intro e
    subst e
    rw [← nI_add]
    grind
section
variable {f0 f1 f2 : Int32} {a1 a2 a3 a4 a5 a6 a7 a8 a9 : Nat → Int32} {post : Int32 → Prop}
theorem ll_arrayOf {s p : Nat} (hs : s < 4) (H : post (nI (ll_A (a3 s) p))) : wpX_arrayOf post (f0, f1, f2, a1, a2, a3, a4, a5, a6, a7, a8, a9) (nI s) (nI p) := by
  show vp_in (nI s) 4 ∧ post (((a3 (nI s).toNatClampNeg) >>> ((2 * nI p) &&& 31)) &&& 3)
  refine ⟨pk_in s 4 hs, ?_⟩
  rw [nI_clamp (by omega), ll_Ae]
  exact H
theorem ll_shiftOf {s p : Nat} (hs : s < 4) (H : post (nI (ll_B (a4 s) p) - 4)) : wpX_shiftOf post (f0, f1, f2, a1, a2, a3, a4, a5, a6, a7, a8, a9) (nI s) (nI p) := by
  show vp_in (nI s) 4 ∧ post ((((a4 (nI s).toNatClampNeg) >>> ((4 * nI p) &&& 31)) &&& 15) - 4)
  refine ⟨pk_in s 4 hs, ?_⟩
  rw [nI_clamp (by omega), ll_Be]
  exact H
theorem ll_meets {a pa b pb d : Nat} (ha : a < 4) (hb : b < 4) (hd : d < 16) (hT : ll_mt a3 a4 a pa b pb d → post 1) (hF : ¬ ll_mt a3 a4 a pa b pb d → post 0) : wpX_meets post (f0, f1, f2, a1, a2, a3, a4, a5, a6, a7, a8, a9) (nI a) (nI pa) (nI b) (nI pb) (nI d) := by
  have h1 := ll_Al (a3 a) pa
  have h2 := ll_Al (a3 b) pb
  unfold wpX_meets
  dsimp only
  refine ll_arrayOf ha (ll_arrayOf hb ?_)
  refine pk_eq (ll_A (a3 a) pa) (ll_A (a3 b) pb) (fun e => ?_) (fun e => hF (fun q => e q.1))
  refine ll_shiftOf ha (ll_shiftOf hb ?_)
  exact ek_if (ll_sh4 (ll_Bl (a4 a) pa) (ll_Bl (a4 b) pb) hd) (fun z => hT ⟨e, z⟩) (fun z => hF (fun q => z q.2))
theorem ll_reads {s p : Nat} (hs : s < 4) (hp : p = 1 ∨ p = 2) (hT : ll_rd a2 s p → post 1) (hF : ¬ ll_rd a2 s p → post 0) : wpX_reads post (f0, f1, f2, a1, a2, a3, a4, a5, a6, a7, a8, a9) (nI s) (nI p) := by
  unfold wpX_reads
  dsimp only
  rw [nI_clamp (show s < 2 ^ 31 by omega)]
  exact pk_eq p 1 (fun e => ⟨pk_in s 4 hs, br_c (fun z => hF (fun q => q.1 e z)) (fun z => hT ⟨fun _ => z, fun q => absurd e q⟩)⟩) (fun e => ⟨pk_in s 4 hs, br_c (fun z => hF (fun q => q.2 e z)) (fun z => hT ⟨fun q => absurd q e, fun _ => z⟩)⟩)
theorem ll_feeds_s {a b d p n : Nat} (ha : a < 4) (hb : b < 4) (hd : d < 16) (hp : p = 1 ∨ p = 2) (hT : ll_rd a2 b p ∧ ll_mt a3 a4 a 0 b p d → post 1)
    (hF : ¬ (ll_rd a2 b p ∧ ll_mt a3 a4 a 0 b p d) → wX_feeds_3 post (nI a) (nI b) (nI d) f0 f1 f2 a1 a2 a3 a4 a5 a6 a7 a8 a9 n (nI (p + 1))) :
    wX_feeds_3 post (nI a) (nI b) (nI d) f0 f1 f2 a1 a2 a3 a4 a5 a6 a7 a8 a9 (n + 1) (nI p) := by
  refine pk_le 3 p (fun z => absurd z (by omega)) (fun _ => ?_)
  refine ll_reads hb hp (fun hr => ?_) (fun hr => ?_)
  · refine br_f (by decide) ?_
    refine ll_meets (pa := 0) ha hb hd (fun hm => ?_) (fun hm => ?_)
    · exact br_f (by decide) (br_f (by decide) (hT ⟨hr, hm⟩))
    · exact br_t rfl (br_t rfl (nm_r (nI_1 p) (hF (fun q => hm q.2))))
  · exact br_t rfl (br_t rfl (nm_r (nI_1 p) (hF (fun q => hr q.1))))
theorem ll_feeds {a b d : Nat} (ha : a < 4) (hb : b < 4) (hd : d < 16) (hT : ll_fd a2 a3 a4 a b d → post 1) (hF : ¬ ll_fd a2 a3 a4 a b d → post 0) : wpX_feeds post (f0, f1, f2, a1, a2, a3, a4, a5, a6, a7, a8, a9) (nI a) (nI b) (nI d) := by
  show ∃ n, wX_feeds_3 post (nI a) (nI b) (nI d) f0 f1 f2 a1 a2 a3 a4 a5 a6 a7 a8 a9 n (nI 1)
  exact ⟨3, ll_feeds_s ha hb hd (Or.inl rfl) (fun q => hT (Or.inl q)) (fun q1 => ll_feeds_s ha hb hd (Or.inr rfl) (fun q => hT (Or.inr q)) (fun q2 => pk_le 3 3 (fun _ => hF (fun z => z.elim q1 q2)) (fun z => absurd z (by omega))))⟩
theorem ll_spoils_s {a b d p n : Nat} (ha : a < 4) (hb : b < 4) (hd : d < 16) (hp : p = 1 ∨ p = 2) (hT : ll_rd a2 a p ∧ ll_mt a3 a4 a p b 0 d → post 1)
    (hF : ¬ (ll_rd a2 a p ∧ ll_mt a3 a4 a p b 0 d) → wX_spoils_3 post (nI a) (nI b) (nI d) f0 f1 f2 a1 a2 a3 a4 a5 a6 a7 a8 a9 n (nI (p + 1))) :
    wX_spoils_3 post (nI a) (nI b) (nI d) f0 f1 f2 a1 a2 a3 a4 a5 a6 a7 a8 a9 (n + 1) (nI p) := by
  refine pk_le 3 p (fun z => absurd z (by omega)) (fun _ => ?_)
  refine ll_reads ha hp (fun hr => ?_) (fun hr => ?_)
  · refine br_f (by decide) ?_
    refine ll_meets (pb := 0) ha hb hd (fun hm => ?_) (fun hm => ?_)
    · exact br_f (by decide) (br_f (by decide) (hT ⟨hr, hm⟩))
    · exact br_t rfl (br_t rfl (nm_r (nI_1 p) (hF (fun q => hm q.2))))
  · exact br_t rfl (br_t rfl (nm_r (nI_1 p) (hF (fun q => hr q.1))))
theorem ll_spoils {a b d : Nat} (ha : a < 4) (hb : b < 4) (hd : d < 16) (hT : ll_sp a2 a3 a4 a b d → post 1) (hF : ¬ ll_sp a2 a3 a4 a b d → post 0) : wpX_spoils post (f0, f1, f2, a1, a2, a3, a4, a5, a6, a7, a8, a9) (nI a) (nI b) (nI d) := by
  show ∃ n, wX_spoils_3 post (nI a) (nI b) (nI d) f0 f1 f2 a1 a2 a3 a4 a5 a6 a7 a8 a9 n (nI 1)
  exact ⟨3, ll_spoils_s ha hb hd (Or.inl rfl) (fun q => hT (Or.inl q)) (fun q1 => ll_spoils_s ha hb hd (Or.inr rfl) (fun q => hT (Or.inr q)) (fun q2 => pk_le 3 3 (fun _ => hF (fun z => z.elim q1 q2)) (fun z => absurd z (by omega))))⟩
theorem ll_prec11 {a b d : Nat} (ha : a < 4) (hb : b < 4) (hd : d < 16) (hT : (ll_mt a3 a4 a 0 b 0 d ∨ ll_fd a2 a3 a4 a b d ∨ ll_sp a2 a3 a4 a b d) → post 1) (hF : ¬ (ll_mt a3 a4 a 0 b 0 d ∨ ll_fd a2 a3 a4 a b d ∨ ll_sp a2 a3 a4 a b d) → post 0) :
    wX_precedes_11 post (nI a) (nI b) (nI d) f0 f1 f2 a1 a2 a3 a4 a5 a6 a7 a8 a9 := by
  unfold wX_precedes_11
  refine ll_meets (pa := 0) (pb := 0) ha hb hd (fun z => br_f (by decide) (hT (Or.inl z))) (fun z => br_t rfl ?_)
  refine ll_feeds ha hb hd (fun y => br_f (by decide) (hT (Or.inr (Or.inl y)))) (fun y => br_t rfl ?_)
  exact ll_spoils ha hb hd (fun x => br_f (by decide) (hT (Or.inr (Or.inr x)))) (fun x => br_t rfl (hF (fun q => q.elim z (fun q => q.elim y x))))
theorem ll_precedes {a b d : Nat} (ha : a < 4) (hb : b < 4) (hd : d < 16) (hT : ll_pr a2 a3 a4 a b d → post 1) (hF : ¬ ll_pr a2 a3 a4 a b d → post 0) : wpX_precedes post (f0, f1, f2, a1, a2, a3, a4, a5, a6, a7, a8, a9) (nI a) (nI b) (nI d) := by
  unfold wpX_precedes
  dsimp only
  refine pk_eq d 0 (fun e => pk_lt a b (fun l => ?_) (fun l => hF (fun q => absurd (q.1 e) (by omega)))) (fun e => ?_)
  · exact ll_prec11 ha hb hd (fun z => hT ⟨fun _ => l, z⟩) (fun z => hF (fun q => z q.2))
  · exact ll_prec11 ha hb hd (fun z => hT ⟨fun q => absurd q e, z⟩) (fun z => hF (fun q => z q.2))
theorem ll_pall {a b : Nat} (ha : a < 4) (hb : b < 4) (hT : ll_D a2 a3 a4 a b → post 1) (hF : ¬ ll_D a2 a3 a4 a b → post 0) : wpX_precedesAtAll post (f0, f1, f2, a1, a2, a3, a4, a5, a6, a7, a8, a9) (nI a) (nI b) := by
  show ∃ n, wX_precedesAtAll_2 post (nI a) (nI b) f0 f1 f2 a1 a2 a3 a4 a5 a6 a7 a8 a9 n (nI 0)
  exact pk_loop (σ := Unit) (fun n i _ => wX_precedesAtAll_2 post (nI a) (nI b) f0 f1 f2 a1 a2 a3 a4 a5 a6 a7 a8 a9 n (nI i)) (fun i _ => ∀ d, d < i → ¬ ll_pr a2 a3 a4 a b d) 9 0 () (by omega) (fun d hd => absurd hd (by omega))
    (fun n _ h => pk_lt 8 9 (fun _ => hF (fun q => q.elim (fun d hd => h d (by omega) hd.2))) (fun z => absurd z (by omega)))
    (fun n i _ hi h hw => pk_lt 8 i (fun z => absurd z (by omega)) (fun _ => ll_precedes ha hb (by omega) (fun z => br_f (by decide) (hT ⟨i, by omega, z⟩)) (fun z => br_t rfl (nm_r (nI_1 i) (hw () (lt_s h z))))))
end
end
section
/-! the plan: findBehind, circleOf, free, nextGroup, oneStatement, lowest, fitsLanes, plan -/
section
variable {f0 f1 f2 : Int32} {a1 a2 a3 a4 a5 a6 a7 a8 a9 : Nat → Int32}
/-- a mask of statement j: itself, and what must come behind it among those below b -/
def ll_q (D : Nat → Nat → Prop) (j b : Nat) (v : Int32) : Prop := ∃ x, x < 16 ∧ v = nI x ∧ x.testBit j = true ∧ ∀ t, t < b → D j t → x.testBit t = true
theorem ll_fb21 {post : St2 → Prop} {J : Int32 → (Nat → Int32) → (Nat → Int32) → (Nat → Int32) → (Nat → Int32) → (Nat → Int32) → (Nat → Int32) → (Nat → Int32) → (Nat → Int32) → (Nat → Int32) → Prop} {a n : Nat} (hn : n < 5) (ha : a < n) {s0 : Nat → Int32} (h0 : s0 a = nI (2 ^ a))
    (H : ∀ s, (∀ j, j ≠ a → s j = s0 j) → ll_q (ll_D a2 a3 a4) a n (s a) → J (nI (a + 1)) a1 a2 a3 a4 a5 s a7 a8 a9) :
    ∃ f, wX_findBehind_21 post J (nI a) (nI n) f1 f2 f 0 a1 a2 a3 a4 a5 s0 a7 a8 a9 :=
  pk_loop (fun f i s => wX_findBehind_21 post J (nI a) (nI n) f1 f2 f (nI i) a1 a2 a3 a4 a5 s a7 a8 a9) (fun i s => (∀ j, j ≠ a → s j = s0 j) ∧ ll_q (ll_D a2 a3 a4) a i (s a)) n 0 s0 (by omega)
    ⟨fun _ _ => rfl, 2 ^ a, ll_p2l a (by omega), h0, Nat.testBit_two_pow_self, fun t ht => absurd ht (by omega)⟩
    (fun f s h => pk_le n n (fun _ => nm_r (nI_1 a) (H s h.1 h.2)) (fun z => absurd z (by omega)))
    (fun f i s hi h hw => pk_le n i (fun z => absurd z (by omega)) (fun _ => by
      obtain ⟨h1, x, x1, x2, x3, x4⟩ := h
      refine ll_pall (by omega) (by omega) (fun z => br_f (by decide) ⟨pk_in a 4 (by omega), pk_in a 4 (by omega), nm_r (e' := upd s a (nI (x ||| 2 ^ i))) ?_ (nm_r (nI_1 i) (hw _ ⟨fun j hj => ?_, x ||| 2 ^ i, ?_, ?_, ?_, ?_⟩))⟩) (fun z => br_t rfl (nm_r (nI_1 i) (hw s ⟨h1, x, x1, x2, x3, fun t ht hD => ?_⟩)))
      · rw [nI_clamp (by omega), x2, ll_sh1 i (by omega), ll_or x x1 (2 ^ i) (ll_p2l i (by omega))]
      · rw [pk_un hj]
        exact h1 j hj
      · exact ll_orl x1 (ll_p2l i (by omega))
      · exact pk_us
      · rw [Nat.testBit_or, x3]
        rfl
      · intro t ht hD
        rw [Nat.testBit_or, Bool.or_eq_true]
        by_cases e : t = i
        · rw [e]
          exact Or.inr Nat.testBit_two_pow_self
        · exact Or.inl (x4 t (by omega) hD)
      · by_cases e : t = i
        · rw [e] at hD
          exact absurd hD z
        · exact x4 t (by omega) hD))
/-- the masks that a state holds -/
def ll_m (n : Nat) (s : Nat → Int32) (m : Nat → Nat) : Prop := ∀ j, j < n → s j = nI (m j) ∧ m j < 16
theorem ll_fb76 {post : St2 → Prop} {J : Int32 → (Nat → Int32) → (Nat → Int32) → (Nat → Int32) → (Nat → Int32) → (Nat → Int32) → (Nat → Int32) → (Nat → Int32) → (Nat → Int32) → (Nat → Int32) → Prop} {k n : Nat} (hn : n < 5) (hk : k < n) {s0 : Nat → Int32} {m : Nat → Nat} (h0 : ll_m n s0 m)
    (H : ∀ s m', ll_m n s m' → (∀ j b, j < n → ((m' j).testBit b = true ↔ (m j).testBit b = true ∨ ((m j).testBit k = true ∧ (m k).testBit b = true))) → J (nI (k + 1)) a1 a2 a3 a4 a5 s a7 a8 a9) :
    ∃ f, wX_findBehind_76 post J (nI k) (nI n) f1 f2 f 0 a1 a2 a3 a4 a5 s0 a7 a8 a9 :=
  pk_loop (fun f i s => wX_findBehind_76 post J (nI k) (nI n) f1 f2 f (nI i) a1 a2 a3 a4 a5 s a7 a8 a9) (fun i s => ∃ m', ll_m n s m' ∧ (∀ j b, j < n → ((m' j).testBit b = true ↔ (m j).testBit b = true ∨ (j < i ∧ (m j).testBit k = true ∧ (m k).testBit b = true)))) n 0 s0 (by omega)
    ⟨m, h0, fun j b hj => ⟨fun z => Or.inl z, fun z => z.elim id (fun q => absurd q.1 (by omega))⟩⟩
    (fun f s h => pk_le n n (fun _ => nm_r (nI_1 k) (h.elim (fun m' hm => H s m' hm.1 (fun j b hj => (hm.2 j b hj).trans ⟨fun z => z.elim Or.inl (fun q => Or.inr q.2), fun z => z.elim Or.inl (fun q => Or.inr ⟨hj, q⟩)⟩)))) (fun z => absurd z (by omega)))
    (fun f i s hi h hw => pk_le n i (fun z => absurd z (by omega)) (fun _ => by
      obtain ⟨m', h1, h2⟩ := h
      obtain ⟨i1, i2⟩ := h1 i hi
      obtain ⟨k1, k2⟩ := h1 k hk
      have hmi : ∀ b, (m' i).testBit b = true ↔ (m i).testBit b = true := fun b => (h2 i b hi).trans ⟨fun z => z.elim id (fun q => absurd q.1 (by omega)), Or.inl⟩
      have hmk : ∀ b, (m' k).testBit b = true ↔ (m k).testBit b = true := fun b => (h2 k b hk).trans ⟨fun z => z.elim id (fun q => q.2.2), Or.inl⟩
      refine ⟨pk_in i 4 (by omega), ?_⟩
      refine ek_if (d := (m' i).testBit k = true) (by rw [nI_clamp (by omega), i1]; exact ll_b1 i2 (by omega)) (fun z => ⟨pk_in i 4 (by omega), pk_in k 4 (by omega), pk_in i 4 (by omega), nm_r (e' := upd s i (nI (m' i ||| m' k))) ?_ (nm_r (nI_1 i) (hw _ ⟨fun j => if j = i then m' i ||| m' k else m' j, ?_, ?_⟩))⟩) (fun z => nm_r (nI_1 i) (hw s ⟨m', h1, ?_⟩))
      · rw [nI_clamp (by omega), nI_clamp (by omega), i1, k1, ll_or _ i2 _ k2]
      · intro j hj
        by_cases e : j = i
        · subst e
          rw [pk_us]
          dsimp only
          rw [if_pos rfl]
          exact ⟨rfl, ll_orl i2 k2⟩
        · rw [pk_un e]
          dsimp only
          rw [if_neg e]
          exact h1 j hj
      · intro j b hj
        dsimp only
        by_cases e : j = i
        · subst e
          rw [if_pos rfl, Nat.testBit_or, Bool.or_eq_true, hmi b, hmk b]
          exact ⟨fun q => q.elim Or.inl (fun y => Or.inr ⟨by omega, (hmi k).mp z, y⟩), fun q => q.elim Or.inl (fun y => Or.inr y.2.2)⟩
        · rw [if_neg e, h2 j b hj]
          exact ⟨fun q => q.elim Or.inl (fun y => Or.inr ⟨by omega, y.2⟩), fun q => q.elim Or.inl (fun y => Or.inr ⟨by omega, y.2⟩)⟩
      · intro j b hj
        rw [h2 j b hj]
        refine ⟨fun q => q.elim Or.inl (fun y => Or.inr ⟨by omega, y.2⟩), fun q => q.elim Or.inl (fun y => ?_)⟩
        by_cases e : j = i
        · subst e
          exact absurd ((hmi k).mpr y.2.1) z
        · exact Or.inr ⟨by omega, y.2⟩))
theorem ll_fb66 {post : St2 → Prop} {n : Nat} (hn : n < 5) {D : Nat → Nat → Prop} {s0 : Nat → Int32} {m : Nat → Nat} (h0 : ll_m n s0 m) (h1 : ∀ a, a < n → (m a).testBit a = true) (h2 : ∀ a b, a < n → b < n → D a b → (m a).testBit b = true)
    (H : ∀ s m', ll_m n s m' → ll_M D n m' → post (nI n, f1, f2, a1, a2, a3, a4, a5, s, a7, a8, a9)) :
    ∃ f, wX_findBehind_66 post (nI n) f1 f2 f 0 a1 a2 a3 a4 a5 s0 a7 a8 a9 :=
  pk_loop (fun f i s => wX_findBehind_66 post (nI n) f1 f2 f (nI i) a1 a2 a3 a4 a5 s a7 a8 a9) (fun i s => ∃ m', ll_m n s m' ∧ (∀ a, a < n → (m' a).testBit a = true) ∧ (∀ a b, a < n → b < n → D a b → (m' a).testBit b = true) ∧ (∀ a j b, a < n → j < i → (m' a).testBit j = true → (m' j).testBit b = true → (m' a).testBit b = true)) n 0 s0 (by omega)
    ⟨m, h0, h1, h2, fun a j b _ hj => absurd hj (by omega)⟩
    (fun f s h => pk_le n n (fun _ => h.elim (fun m' hm => H s m' hm.1 ⟨fun a ha => ⟨(hm.1 a ha).2, hm.2.1 a ha⟩, hm.2.2.1, hm.2.2.2⟩)) (fun z => absurd z (by omega)))
    (fun f i s hi h hw => pk_le n i (fun z => absurd z (by omega)) (fun _ => by
      obtain ⟨m', g1, g2, g3, g4⟩ := h
      refine ll_fb76 hn hi g1 (fun s' m'' k1 k2 => hw s' ⟨m'', k1, ?_, ?_, ?_⟩)
      · intro a ha
        exact (k2 a a ha).mpr (Or.inl (g2 a ha))
      · intro a b ha hb hD
        exact (k2 a b ha).mpr (Or.inl (g3 a b ha hb hD))
      · exact ll_war (R := fun a b => (m' a).testBit b = true) (R' := fun a b => (m'' a).testBit b = true) hi k2 g4))
theorem ll_findBehind {post : St2 → Prop} {n : Nat} (hn : n < 5)
    (H : ∀ s m, ll_m n s m → ll_M (ll_D a2 a3 a4) n m → post (nI n, f1, f2, a1, a2, a3, a4, a5, s, a7, a8, a9)) :
    wpX_findBehind post (nI n, f1, f2, a1, a2, a3, a4, a5, a6, a7, a8, a9) := by
  show ∃ f, wX_findBehind_2 post (nI n) f1 f2 f (nI 0) a1 a2 a3 a4 a5 a6 a7 a8 a9
  refine pk_loop (fun f i s => wX_findBehind_2 post (nI n) f1 f2 f (nI i) a1 a2 a3 a4 a5 s a7 a8 a9) (fun i s => ∀ j, j < i → ll_q (ll_D a2 a3 a4) j n (s j)) n 0 a6 (by omega) (fun j hj => absurd hj (by omega)) ?_ ?_
  · intro f s h
    refine pk_le n n (fun _ => ?_) (fun z => absurd z (by omega))
    have hx : ∃ m : Nat → Nat, ∀ j, j < n → m j < 16 ∧ s j = nI (m j) ∧ (m j).testBit j = true ∧ ∀ t, t < n → ll_D a2 a3 a4 j t → (m j).testBit t = true := by
      refine ⟨fun j => if hj : j < n then Classical.choose (h j hj) else 0, fun j hj => ?_⟩
      dsimp only
      rw [dif_pos hj]
      exact Classical.choose_spec (h j hj)
    obtain ⟨m, hm⟩ := hx
    exact ll_fb66 hn (D := ll_D a2 a3 a4) (m := m) (fun j hj => ⟨(hm j hj).2.1, (hm j hj).1⟩) (fun a ha => (hm a ha).2.2.1) (fun a b ha hb hD => (hm a ha).2.2.2 b hb hD) H
  · intro f i s hi h hw
    refine pk_le n i (fun z => absurd z (by omega)) (fun _ => ⟨pk_in i 4 (by omega), nm_r (e' := upd s i (nI (2 ^ i))) ?_ ?_⟩)
    · rw [nI_clamp (by omega), ll_sh1 i (by omega)]
    · refine ll_fb21 hn hi pk_us (fun s' g1 g2 => hw s' (fun j hj => ?_))
      by_cases e : j = i
      · rw [e]
        exact g2
      · rw [g1 j e, pk_un e]
        exact h j (by omega)
theorem ll_circleOf {post : Int32 → Prop} {n s : Nat} {m : Nat → Nat} (hn : n < 5) (hm : ll_m n a6 m) (hs : s < n) (H : ∀ x, ll_ci m n s x → post (nI x)) :
    wpX_circleOf post (nI n, f1, f2, a1, a2, a3, a4, a5, a6, a7, a8, a9) (nI s) := by
  show ∃ f, wX_circleOf_4 post (nI s) (nI n) f1 f2 a1 a2 a3 a4 a5 a6 a7 a8 a9 f (nI 0) (nI 0)
  refine pk_loop (fun f i x => wX_circleOf_4 post (nI s) (nI n) f1 f2 a1 a2 a3 a4 a5 a6 a7 a8 a9 f x (nI i)) (fun i v => ∃ x, v = nI x ∧ x < 16 ∧ ∀ t, x.testBit t = (decide (t < i) && (m s).testBit t && (m t).testBit s)) n 0 (nI 0) (by omega) ⟨0, rfl, by decide, fun t => ?_⟩ ?_ ?_
  · rw [Nat.zero_testBit, decide_eq_false (by omega)]
    rfl
  · intro f v h
    obtain ⟨x, rfl, x1, x2⟩ := h
    exact pk_le n n (fun _ => H x ⟨x1, x2⟩) (fun z => absurd z (by omega))
  · intro f i v hi h hw
    obtain ⟨x, rfl, x1, x2⟩ := h
    obtain ⟨s1, s2⟩ := hm s hs
    obtain ⟨i1, i2⟩ := hm i hi
    have keep : ((m s).testBit i && (m i).testBit s) = false → ∀ t, x.testBit t = (decide (t < i + 1) && (m s).testBit t && (m t).testBit s) := by
      intro q t
      rw [x2 t]
      by_cases e : t = i
      · subst e
        rw [Bool.and_assoc, Bool.and_assoc, q, Bool.and_false, Bool.and_false]
      · rw [decide_eq_decide.mpr (show t < i ↔ t < i + 1 by omega)]
    refine pk_le n i (fun z => absurd z (by omega)) (fun _ => ⟨pk_in s 4 (by omega), ?_⟩)
    refine ek_if (d := (m s).testBit i = true) (by rw [nI_clamp (by omega), s1]; exact ll_b1 s2 (by omega)) (fun z => ⟨pk_in i 4 (by omega), ?_⟩) (fun z => nm_r (nI_1 i) (hw _ ⟨x, rfl, x1, keep ?_⟩))
    · refine ek_if (d := (m i).testBit s = true) (by rw [nI_clamp (by omega), i1]; exact ll_b1 i2 (by omega)) (fun y => nm_r (e' := nI (x ||| 2 ^ i)) ?_ (nm_r (nI_1 i) (hw _ ⟨x ||| 2 ^ i, rfl, ll_orl x1 (ll_p2l i (by omega)), fun t => ?_⟩))) (fun y => nm_r (nI_1 i) (hw _ ⟨x, rfl, x1, keep ?_⟩))
      · rw [ll_sh1 i (by omega), ll_or x x1 (2 ^ i) (ll_p2l i (by omega))]
      · rw [Nat.testBit_or, x2 t, Nat.testBit_two_pow]
        by_cases e : t = i
        · subst e
          rw [decide_eq_true (rfl : t = t), decide_eq_true (show t < t + 1 by omega), z, y, Bool.or_true]
          rfl
        · rw [decide_eq_false (show ¬ i = t from fun q => e q.symm), Bool.or_false, decide_eq_decide.mpr (show t < i ↔ t < i + 1 by omega)]
      · cases hq : (m i).testBit s with
        | true => exact absurd hq y
        | false => rw [Bool.and_false]
    · cases hq : (m s).testBit i with
      | true => exact absurd hq z
      | false => rfl
theorem ll_free {post : Int32 → Prop} {n x pl : Nat} {m : Nat → Nat} (hn : n < 5) (hm : ll_m n a6 m) (hx : x < 16) (hp : pl < 16) (hT : ll_fr m n x pl → post 1) (hF : ¬ ll_fr m n x pl → post 0) :
    wpX_free post (nI n, f1, f2, a1, a2, a3, a4, a5, a6, a7, a8, a9) (nI x) (nI pl) := by
  show ∃ f, wX_free_2 post (nI x) (nI pl) (nI n) f1 f2 a1 a2 a3 a4 a5 a6 a7 a8 a9 f (nI 0)
  refine pk_loop (σ := Unit) (fun f i _ => wX_free_2 post (nI x) (nI pl) (nI n) f1 f2 a1 a2 a3 a4 a5 a6 a7 a8 a9 f (nI i)) (fun i _ => ∀ t, t < i → x.testBit t = false → pl.testBit t = false → m t &&& x = 0) n 0 () (by omega) (fun t ht => absurd ht (by omega)) ?_ ?_
  · intro f _ h
    exact pk_le n n (fun _ => hT h) (fun z => absurd z (by omega))
  · intro f i _ hi h hw
    obtain ⟨i1, i2⟩ := hm i hi
    refine pk_le n i (fun z => absurd z (by omega)) (fun _ => ?_)
    refine ek_if (d := (x ||| pl).testBit i = false) (by rw [ll_or x hx pl hp]; exact ll_b0 (ll_orl hx hp) (by omega)) (fun z => ?_) (fun z => ?_)
    · refine br_f (by decide) ⟨pk_in i 4 (by omega), ?_⟩
      rw [Nat.testBit_or, Bool.or_eq_false_iff] at z
      refine ek_if (d := m i &&& x = 0) ?_ (fun y => nm_r (nI_1 i) (hw () (lt_s h (fun _ _ => y)))) (fun y => hF (fun q => y (q i hi z.1 z.2)))
      rw [nI_clamp (by omega), i1, ll_and _ i2 x hx, ← nI_0]
      exact nI_eq (Nat.lt_of_le_of_lt Nat.and_le_left (by omega)) (by omega)
    · refine br_t rfl (nm_r (nI_1 i) (hw () (lt_s h (fun q1 q2 => absurd ?_ z))))
      rw [Nat.testBit_or, q1, q2]
      rfl
theorem ll_nextGroup {post : Int32 → Prop} {n pl : Nat} {m : Nat → Nat} (hn : n < 5) (hm : ll_m n a6 m) (hp : pl < 16)
    (H1 : ∀ s x, s < n → pl.testBit s = false → ll_ci m n s x → ll_fr m n x pl → post (nI x)) (H0 : (∀ s, s < n → pl.testBit s = false → ∃ x, ll_ci m n s x ∧ ¬ ll_fr m n x pl) → post 0) :
    wpX_nextGroup post (nI n, f1, f2, a1, a2, a3, a4, a5, a6, a7, a8, a9) (nI pl) := by
  show ∃ f, wX_nextGroup_2 post (nI pl) (nI n) f1 f2 a1 a2 a3 a4 a5 a6 a7 a8 a9 f (nI 0)
  refine pk_loop (σ := Unit) (fun f i _ => wX_nextGroup_2 post (nI pl) (nI n) f1 f2 a1 a2 a3 a4 a5 a6 a7 a8 a9 f (nI i)) (fun i _ => ∀ s, s < i → pl.testBit s = false → ∃ x, ll_ci m n s x ∧ ¬ ll_fr m n x pl) n 0 () (by omega) (fun t ht => absurd ht (by omega)) ?_ ?_
  · intro f _ h
    exact pk_le n n (fun _ => H0 h) (fun z => absurd z (by omega))
  · intro f i _ hi h hw
    refine pk_le n i (fun z => absurd z (by omega)) (fun _ => ?_)
    refine ek_if (d := pl.testBit i = false) (ll_b0 hp (by omega)) (fun z => ?_) (fun z => nm_r (nI_1 i) (hw () (lt_s h (fun q => absurd q z))))
    refine ll_circleOf hn hm hi (fun x hx => ?_)
    exact ll_free hn hm hx.1 hp (fun y => br_f (by decide) (H1 i x hi z hx y)) (fun y => br_t rfl (nm_r (nI_1 i) (hw () (lt_s h (fun _ => ⟨x, hx, y⟩)))))
theorem ll_lowest {post : Int32 → Prop} {x : Nat} (hx : x < 16) (H : ∀ l, l < 4 → (∀ s, s < 4 → x = 2 ^ s → l = s) → post (nI l)) : wpX_lowest post () (nI x) := by
  show ∃ f, wX_lowest_2 post (nI x) f (nI 0)
  refine pk_loop (σ := Unit) (fun f i _ => wX_lowest_2 post (nI x) f (nI i)) (fun i _ => ∀ t, t < i → x.testBit t = false) 3 0 () (by omega) (fun t ht => absurd ht (by omega)) ?_ ?_
  · intro f _ h
    refine pk_le 3 3 (fun _ => H 3 (by omega) (fun s hs e => ?_)) (fun z => absurd z (by omega))
    rcases Nat.lt_or_ge s 3 with q | q
    · have := h s q
      rw [e, Nat.testBit_two_pow_self] at this
      exact absurd this (by decide)
    · omega
  · intro f i _ hi h hw
    refine pk_le 3 i (fun z => absurd z (by omega)) (fun _ => ?_)
    refine ek_if (d := x.testBit i = false) (ll_b0 hx (by omega)) (fun z => nm_r (nI_1 i) (hw () (lt_s h z))) (fun z => H i (by omega) (fun s hs e => ?_))
    rw [e, Nat.testBit_two_pow, decide_eq_false_iff_not] at z
    exact (Classical.byContradiction z).symm
theorem ll_fitsLanes {post : Int32 → Prop} {s : Nat} (hs : s < 4) (hT : (∀ d, 1 ≤ d → d < 4 → ¬ ll_fd a2 a3 a4 s s d) → post 1) (hF : post 0) : wpX_fitsLanes post (f0, f1, f2, a1, a2, a3, a4, a5, a6, a7, a8, a9) (nI s) := by
  show ∃ f, wX_fitsLanes_2 post (nI s) f0 f1 f2 a1 a2 a3 a4 a5 a6 a7 a8 a9 f (nI 1)
  refine pk_loop (σ := Unit) (fun f i _ => wX_fitsLanes_2 post (nI s) f0 f1 f2 a1 a2 a3 a4 a5 a6 a7 a8 a9 f (nI i)) (fun i _ => ∀ d, 1 ≤ d → d < i → ¬ ll_fd a2 a3 a4 s s d) 4 1 () (by omega) (fun t h1 h2 => absurd h2 (by omega)) ?_ ?_
  · intro f _ h
    exact pk_le 4 4 (fun _ => hT h) (fun z => absurd z (by omega))
  · intro f i _ hi h hw
    refine pk_le 4 i (fun z => absurd z (by omega)) (fun _ => ?_)
    refine ll_feeds hs hs (by omega) (fun z => br_f (by decide) hF) (fun z => br_t rfl (nm_r (nI_1 i) (hw () (fun d h1 h2 => ?_))))
    by_cases e : d = i
    · rw [e]
      exact z
    · exact h d h1 (by omega)
/-- the groups that a state holds -/
def ll_G (n : Nat) (o r h : Nat → Int32) (a7 a8 : Nat → Int32) (gl : List Nat) : Prop := ∀ j x, gl[j]? = some x → x < 16 ∧ a7 j = nI x ∧ (a8 j = 0 ∨ ∃ s, s < n ∧ x = 2 ^ s ∧ ∀ d, 1 ≤ d → d < 4 → ¬ ll_fd o r h s s d)
/-- a plan -/
def ll_P (n : Nat) (o r h : Nat → Int32) (g : Int32) (a7 a8 : Nat → Int32) : Prop := ∃ gl : List Nat, gl.length ≤ 4 ∧ g = nI gl.length ∧ ll_gc (ll_D o r h) n 0 gl ∧ ll_G n o r h a7 a8 gl
theorem ll_Gs {n : Nat} {o r h b7 b8 : Nat → Int32} {gl : List Nat} (hG : ll_G n o r h b7 b8 gl) {x : Nat} {v : Int32} (hx : x < 16) (hv : v = 0 ∨ ∃ s, s < n ∧ x = 2 ^ s ∧ ∀ d, 1 ≤ d → d < 4 → ¬ ll_fd o r h s s d) : ll_G n o r h (upd b7 gl.length (nI x)) (upd b8 gl.length v) (gl ++ [x]) := by
  intro j y hy
  rcases Nat.lt_trichotomy j gl.length with q | q | q
  · rw [List.getElem?_append_left q] at hy
    rw [pk_un (by omega), pk_un (by omega)]
    exact hG j y hy
  · subst q
    rw [List.getElem?_append_right (Nat.le_refl _), Nat.sub_self] at hy
    have e : x = y := Option.some.inj hy
    subst e
    rw [pk_us, pk_us]
    exact ⟨hx, rfl, hv⟩
  · rw [List.getElem?_eq_none (by rw [List.length_append]; show gl.length + 1 ≤ j; omega)] at hy
    exact absurd hy (by simp)
theorem ll_plan {post : St2 → Prop} {n : Nat} (hn : n < 5) (hR : f1 = 0 ∨ ll_P n a2 a3 a4 f2 a7 a8)
    (H : ∀ g b6 b7 b8, ll_P n a2 a3 a4 g b7 b8 → ∀ f, post (nI n, f, g, a1, a2, a3, a4, a5, b6, b7, b8, a9)) :
    wpX_plan post (nI n, f1, f2, a1, a2, a3, a4, a5, a6, a7, a8, a9) := by
  unfold wpX_plan
  dsimp only
  refine br_c (fun _ => ?_) (fun z => hR.elim (fun q => absurd q z) (fun q => H _ _ _ _ q _))
  refine ll_findBehind hn (fun s m hm hM => ?_)
  dsimp only
  refine Exists.imp ?_ (pk_loop (σ := Nat × List Nat × (Nat → Int32) × (Nat → Int32)) (fun f i v => wX_plan_26 post (nI n) 1 f (nI v.1) (nI i) (nI v.2.1.length) a1 a2 a3 a4 a5 s v.2.2.1 v.2.2.2 a9) (fun i v => ll_pi (ll_D a2 a3 a4) n m v.1 v.2.1 ∧ i ≤ ll_pc n v.1 ∧ v.2.1.length ≤ i ∧ ll_G n a2 a3 a4 v.2.2.1 v.2.2.2 v.2.1) n 0 (0, [], a7, a8) (by omega) ⟨ll_pi0, by omega, Nat.le_refl _, fun j x hx => absurd hx (by simp)⟩ ?_ ?_)
  · intro f hf
    exact hf
  · intro f v h
    obtain ⟨pl, gl, b7, b8⟩ := v
    obtain ⟨p1, p2, p3, p4⟩ := h
    dsimp only at p1 p2 p3 p4
    refine pk_le n n (fun _ => H _ _ _ _ ⟨gl, by omega, rfl, ?_, p4⟩ _) (fun z => absurd z (by omega))
    have := p1.2.2 [] (ll_pcA n hn pl p1.1 p2)
    rw [List.append_nil] at this
    exact this
  · intro f i v hi h hw
    obtain ⟨pl, gl, b7, b8⟩ := v
    obtain ⟨p1, p2, p3, p4⟩ := h
    dsimp only at p1 p2 p3 p4
    refine pk_le n i (fun z => absurd z (by omega)) (fun _ => ?_)
    dsimp only
    refine ll_nextGroup hn hm p1.1 (fun a x ha hu hx hf => ?_) (fun h0 => br_t rfl (nm_r (nI_1 i) ?_))
    · obtain ⟨q1, q2, q3⟩ := ll_pis hn hM p1 ha hu hx hf
      have x0 : ¬ x = 0 := by
        intro e
        rw [e, Nat.zero_testBit] at q3
        exact absurd q3 (by decide)
      have step : ∀ v : Int32, (v = 0 ∨ ∃ s, s < n ∧ x = 2 ^ s ∧ ∀ d, 1 ≤ d → d < 4 → ¬ ll_fd a2 a3 a4 s s d) → wX_plan_26 post (nI n) 1 f (nI (pl ||| x)) (nI (i + 1)) (nI (gl.length + 1)) a1 a2 a3 a4 a5 s (upd b7 gl.length (nI x)) (upd b8 gl.length v) a9 := by
        intro v hv
        have := hw (pl ||| x, gl ++ [x], upd b7 gl.length (nI x), upd b8 gl.length v) ⟨q1, by dsimp only; omega, by dsimp only; rw [List.length_append]; show gl.length + 1 ≤ i + 1; omega, ll_Gs p4 hx.1 hv⟩
        dsimp only at this
        rw [List.length_append] at this
        exact this
      have last : ∀ v z : Int32, vp_nar .boolean z = v → (v = 0 ∨ ∃ s, s < n ∧ x = 2 ^ s ∧ ∀ d, 1 ≤ d → d < 4 → ¬ ll_fd a2 a3 a4 s s d) → wX_plan_94 post (wX_plan_26 post (nI n) 1 f) (nI pl) (nI i) (nI x) z (nI gl.length) (nI n) 1 (nI gl.length) a1 a2 a3 a4 a5 s (upd b7 gl.length (nI x)) b8 a9 := by
        intro v z hz hv
        exact ⟨pk_in gl.length 4 (by omega), nm_r (e' := upd b8 gl.length v) (by rw [nI_clamp (by omega), hz]) (nm_r (nI_1 gl.length) (nm_r (ll_or pl p1.1 x hx.1) (nm_r (nI_1 i) (step v hv))))⟩
      refine br_f (fun e => x0 ((nI_eq (by have := hx.1; omega) (by omega)).mp (e.trans nI_0.symm))) ⟨pk_in gl.length 4 (by omega), nm_r (e' := upd b7 gl.length (nI x)) (by rw [nI_clamp (by omega)]) ?_⟩
      refine br_c (fun e1 => ?_) (fun e1 => ?_)
      · obtain ⟨s', s1, s2⟩ := ll_one1 x hx.1 x0 e1
        refine ll_lowest hx.1 (fun l hl hl2 => br_f (by decide) ?_)
        have es : l = s' := hl2 s' s1 s2
        subst es
        have hln : l < n := by
          have e := hx.2 l
          rw [s2, Nat.testBit_two_pow_self] at e
          rcases Nat.lt_or_ge l n with q | q
          · exact q
          · rw [decide_eq_false (by omega)] at e
            exact absurd e (by simp)
        exact ll_fitsLanes (by omega) (fun z => br_f (by decide) (last 1 1 rfl (Or.inr ⟨l, hln, s2, z⟩))) (br_t rfl (last 0 0 rfl (Or.inl rfl)))
      · exact ll_lowest hx.1 (fun l hl hl2 => br_t rfl (last 0 0 rfl (Or.inl rfl)))
    · refine hw (pl, gl, b7, b8) ⟨p1, ?_, by dsimp only; omega, p4⟩
      dsimp only
      have all : ∀ t, t < n → pl.testBit t = true := by
        refine Classical.byContradiction (fun z => ?_)
        obtain ⟨s', s1, s2, s3⟩ := ll_some hM z
        obtain ⟨x, x1, x2⟩ := h0 s' s1 s2
        exact x2 (s3 x x1)
      rw [ll_pcF n hn pl p1.1 all]
      omega
end
end
section
/-! running: source, result, store, runPlain, runInLanes, outside, run -/
theorem ll_ai {A i B : Nat} (h : 4 ≤ A * 32 + i + B) : nI A * 32 + nI i + (nI B - 4) = nI (A * 32 + i + B - 4) := by
  have e : nI A * 32 = nI (A * 32) := pk_mul A 32
  have e4 : nI 4 = 4 := rfl
  have e2 : nI (A * 32 + i) + (nI B - 4) = nI (A * 32 + i + B) - nI 4 := by
    rw [← nI_add (A * 32 + i) B, e4]
    grind
  rw [e, nI_add, e2, pk_sub h]
theorem ll_val0 (k x y : Int32) : ll_val 0 k x y = x + y := by
  unfold ll_val
  rw [if_pos rfl]
theorem ll_val1 (k x y : Int32) : ll_val 1 k x y = x - y := by
  unfold ll_val
  rw [if_neg (by decide), if_pos rfl]
theorem ll_val2 (k x y : Int32) : ll_val 2 k x y = x * y := by
  unfold ll_val
  rw [if_neg (by decide), if_neg (by decide), if_pos rfl]
theorem ll_val3 (k x y : Int32) : ll_val 3 k x y = if y ≤ x then y else x := by
  unfold ll_val
  rw [if_neg (by decide), if_neg (by decide), if_neg (by decide), if_pos rfl]
theorem ll_val4 (k x y : Int32) : ll_val 4 k x y = x + k := by
  unfold ll_val
  rw [if_neg (by decide), if_neg (by decide), if_neg (by decide), if_neg (by decide), if_pos rfl]
theorem ll_val5 (k x y : Int32) : ll_val 5 k x y = k := by
  unfold ll_val
  rw [if_neg (by decide), if_neg (by decide), if_neg (by decide), if_neg (by decide), if_neg (by decide), if_pos rfl]
theorem ll_val6 {o : Int32} (h : o < 0 ∨ 5 < o) (k x y : Int32) : ll_val o k x y = x * k := by
  have h0 : ¬ o = 0 := fun e => absurd h (by rw [e]; decide)
  have h1 : ¬ o = 1 := fun e => absurd h (by rw [e]; decide)
  have h2 : ¬ o = 2 := fun e => absurd h (by rw [e]; decide)
  have h3 : ¬ o = 3 := fun e => absurd h (by rw [e]; decide)
  have h4 : ¬ o = 4 := fun e => absurd h (by rw [e]; decide)
  have h5 : ¬ o = 5 := fun e => absurd h (by rw [e]; decide)
  unfold ll_val
  rw [if_neg h0, if_neg h1, if_neg h2, if_neg h3, if_neg h4, if_neg h5]
section
variable {f0 f1 f2 : Int32} {a1 a2 a3 a4 a5 a6 a7 a8 a9 : Nat → Int32}
theorem ll_source {post : Int32 → Prop} {n s p i : Nat} (hn : n < 5) (hok : ll_ok n a3 a4) (hs : s < n) (hp : p < 3) (hi : 4 ≤ i ∧ i ≤ 27) (H : post (a1 (ll_ad a3 a4 s p i))) :
    wpX_source post (f0, f1, f2, a1, a2, a3, a4, a5, a6, a7, a8, a9) (nI s) (nI p) (nI i) := by
  have h1 := ll_adlt hok hs hp hi
  unfold wpX_source
  dsimp only
  refine ll_arrayOf (by omega) (ll_shiftOf (by omega) ?_)
  rw [ll_ai (by omega)]
  refine ⟨pk_in (ll_ad a3 a4 s p i) 96 h1, ?_⟩
  rw [nI_clamp (by unfold ll_ad at h1; omega)]
  exact H
theorem ll_result {post : Int32 → Prop} {n s i : Nat} (hn : n < 5) (hok : ll_ok n a3 a4) (hs : s < n) (hi : 4 ≤ i ∧ i ≤ 27) (H : post (ll_v a2 a3 a4 a5 s i a1)) :
    wpX_result post (f0, f1, f2, a1, a2, a3, a4, a5, a6, a7, a8, a9) (nI s) (nI i) := by
  have hq : vp_in (nI s) 4 := pk_in s 4 (by omega)
  unfold ll_v at H
  unfold wpX_result
  dsimp only
  refine ll_source (p := 1) hn hok hs (by decide) hi (ll_source (p := 2) hn hok hs (by decide) hi ⟨hq, ?_⟩)
  rw [nI_clamp (show s < 2 ^ 31 by omega)]
  generalize a1 (ll_ad a3 a4 s 1 i) = x at H ⊢
  generalize a1 (ll_ad a3 a4 s 2 i) = y at H ⊢
  generalize a2 s = o at H ⊢
  intro k ek
  subst ek
  refine br_c (fun c => ⟨hq, by rw [ll_val6 (Or.inl c)] at H; exact H⟩) (fun _ => ?_)
  refine br_c (fun c => ⟨hq, by rw [ll_val6 (Or.inr c)] at H; exact H⟩) (fun _ => ?_)
  refine br_c (fun c => by subst c; rw [ll_val0] at H; exact H) (fun _ => ?_)
  refine br_c (fun c => by subst c; rw [ll_val1] at H; exact H) (fun _ => ?_)
  refine br_c (fun c => by subst c; rw [ll_val2] at H; exact H) (fun _ => ?_)
  refine br_c (fun c => ?_) (fun _ => ?_)
  · subst c
    rw [ll_val3] at H
    exact br_c (fun q => by rw [if_pos q] at H; exact H) (fun q => by rw [if_neg q] at H; exact H)
  refine br_c (fun c => ⟨hq, by subst c; rw [ll_val4] at H; exact H⟩) (fun _ => ?_)
  exact br_c (fun c => ⟨hq, by subst c; rw [ll_val5] at H; exact H⟩) (fun _ => trivial)
theorem ll_store {post : St2 → Prop} {n s i : Nat} {v : Int32} (hn : n < 5) (hok : ll_ok n a3 a4) (hs : s < n) (hi : 4 ≤ i ∧ i ≤ 27) (H : post (f0, f1, f2, upd a1 (ll_ad a3 a4 s 0 i) v, a2, a3, a4, a5, a6, a7, a8, a9)) :
    wpX_store post (f0, f1, f2, a1, a2, a3, a4, a5, a6, a7, a8, a9) (nI s) (nI i) v := by
  have h1 := ll_adlt hok hs (show 0 < 3 by decide) hi
  unfold wpX_store
  dsimp only
  refine ll_arrayOf (p := 0) (by omega) (ll_shiftOf (p := 0) (by omega) ?_)
  rw [ll_ai (by omega)]
  refine ⟨pk_in (ll_ad a3 a4 s 0 i) 96 h1, nm_r (e' := upd a1 (ll_ad a3 a4 s 0 i) v) ?_ H⟩
  rw [nI_clamp (by unfold ll_ad at h1; omega)]
  rfl
/-- the statements of a mask in one round, those below s -/
def ll_R (x i s : Nat) : List (Nat × Nat) := ((List.range s).map (fun t => (i, t))).filter (fun q => x.testBit q.2)
theorem ll_Rt {x i s : Nat} (h : x.testBit s = true) : ll_R x i (s + 1) = ll_R x i s ++ [(i, s)] := by
  unfold ll_R
  rw [List.range_succ, List.map_append, List.filter_append]
  show _ ++ List.filter (fun q => x.testBit q.2) [(i, s)] = _
  rw [List.filter_cons_of_pos (p := fun q : Nat × Nat => x.testBit q.2) (a := (i, s)) h]
  rfl
theorem ll_Rf {x i s : Nat} (h : x.testBit s = false) : ll_R x i (s + 1) = ll_R x i s := by
  unfold ll_R
  rw [List.range_succ, List.map_append, List.filter_append]
  show _ ++ List.filter (fun q => x.testBit q.2) [(i, s)] = _
  rw [List.filter_cons_of_neg (by simp [h])]
  exact List.append_nil _
theorem ll_rp12 {post : St2 → Prop} {J : Int32 → Int32 → Int32 → Int32 → (Nat → Int32) → (Nat → Int32) → (Nat → Int32) → (Nat → Int32) → (Nat → Int32) → (Nat → Int32) → (Nat → Int32) → (Nat → Int32) → (Nat → Int32) → Prop} {n x i : Nat} {x3 : Int32} (hn : n < 5) (hok : ll_ok n a3 a4) (hx : x < 16) (hi : 4 ≤ i ∧ i ≤ 27)
    (H : J (nI (i + 1)) (nI n) f1 f2 ((ll_R x i n).foldl (ll_ex a2 a3 a4 a5) a1) a2 a3 a4 a5 a6 a7 a8 a9) :
    ∃ f, wX_runPlain_12 post J (nI x) x3 (nI i) f 0 (nI n) f1 f2 a1 a2 a3 a4 a5 a6 a7 a8 a9 := by
  refine pk_loop (fun f s c => wX_runPlain_12 post J (nI x) x3 (nI i) f (nI s) (nI n) f1 f2 c a2 a3 a4 a5 a6 a7 a8 a9) (fun s c => c = (ll_R x i s).foldl (ll_ex a2 a3 a4 a5) a1) n 0 a1 (by omega) rfl ?_ ?_
  · intro f c hc
    subst hc
    exact pk_le n n (fun _ => nm_r (nI_1 i) H) (fun z => absurd z (by omega))
  · intro f s c hs hc hw
    refine pk_le n s (fun z => absurd z (by omega)) (fun _ => ?_)
    refine ek_if (d := x.testBit s = true) (ll_b1 hx (by omega)) (fun z => ?_) (fun z => nm_r (nI_1 s) (hw c ?_))
    · refine ll_result hn hok hs hi (ll_store hn hok hs hi (nm_r (nI_1 s) (hw _ ?_)))
      rw [ll_Rt z, List.foldl_append, ← hc]
      rfl
    · rw [ll_Rf (by cases q : x.testBit s with | true => exact absurd q z | false => rfl)]
      exact hc
theorem ll_runPlain {post : St2 → Prop} {n x lo hi : Nat} (hn : n < 5) (hok : ll_ok n a3 a4) (hx : x < 16) (hlo : 4 ≤ lo) (hl : lo ≤ hi) (hhi : hi ≤ 27)
    (H : post (nI n, f1, f2, ((ll_L n lo (hi + 1 - lo)).filter (fun q => x.testBit q.2)).foldl (ll_ex a2 a3 a4 a5) a1, a2, a3, a4, a5, a6, a7, a8, a9)) :
    wpX_runPlain post (nI n, f1, f2, a1, a2, a3, a4, a5, a6, a7, a8, a9) (nI x) (nI lo) (nI hi) := by
  show ∃ f, wX_runPlain_3 post (nI x) (nI hi) f (nI lo) (nI n) f1 f2 a1 a2 a3 a4 a5 a6 a7 a8 a9
  refine pk_loop (fun f i c => wX_runPlain_3 post (nI x) (nI hi) f (nI i) (nI n) f1 f2 c a2 a3 a4 a5 a6 a7 a8 a9) (fun i c => lo ≤ i ∧ c = ((ll_L n lo (i - lo)).filter (fun q => x.testBit q.2)).foldl (ll_ex a2 a3 a4 a5) a1) (hi + 1) lo a1 (by omega) ⟨Nat.le_refl lo, by rw [Nat.sub_self]; rfl⟩ ?_ ?_
  · intro f c hc
    obtain ⟨_, hc⟩ := hc
    subst hc
    exact pk_lt hi (hi + 1) (fun _ => H) (fun z => absurd z (by omega))
  · intro f i c hi' hc hw
    obtain ⟨h1, hc⟩ := hc
    refine pk_lt hi i (fun z => absurd z (by omega)) (fun _ => ?_)
    refine ll_rp12 hn hok hx (by omega) (hw _ ⟨by omega, ?_⟩)
    rw [show i + 1 - lo = (i - lo) + 1 by omega, ll_Ls, List.filter_append, List.foldl_append, ← hc, show lo + (i - lo) = i by omega]
    rfl
theorem ll_rl48 {post : St2 → Prop} {J : Int32 → Int32 → Int32 → Int32 → (Nat → Int32) → (Nat → Int32) → (Nat → Int32) → (Nat → Int32) → (Nat → Int32) → (Nat → Int32) → (Nat → Int32) → (Nat → Int32) → (Nat → Int32) → Prop} {n s i : Nat} {x3 : Int32} {v : Nat → Int32} (hn : n < 5) (hok : ll_ok n a3 a4) (hs : s < n) (hi : 4 ≤ i) (hi2 : i + 3 ≤ 27) (hv : ∀ j, j < 4 → a9 j = v j)
    (H : J (nI (i + 4)) f0 f1 f2 (ll_T a3 a4 s i v a1 4) a2 a3 a4 a5 a6 a7 a8 a9) :
    ∃ f, wX_runInLanes_48 post J (nI s) x3 (nI i) f 0 f0 f1 f2 a1 a2 a3 a4 a5 a6 a7 a8 a9 := by
  refine pk_loop (fun f k c => wX_runInLanes_48 post J (nI s) x3 (nI i) f (nI k) f0 f1 f2 c a2 a3 a4 a5 a6 a7 a8 a9) (fun k c => c = ll_T a3 a4 s i v a1 k) 4 0 a1 (by omega) rfl ?_ ?_
  · intro f c hc
    subst hc
    exact pk_le 4 4 (fun _ => nm_r (e' := nI (i + 4)) (nI_add i 4) H) (fun z => absurd z (by omega))
  · intro f k c hk hc hw
    refine pk_le 4 k (fun z => absurd z (by omega)) (fun _ => ⟨pk_in k 4 hk, ?_⟩)
    rw [nI_add, nI_clamp (by omega), hv k hk]
    refine ll_store hn hok hs (by omega) (nm_r (nI_1 k) (hw _ ?_))
    rw [hc]
    rfl
theorem ll_rl16 {post : St2 → Prop} {J : Int32 → Int32 → Int32 → Int32 → (Nat → Int32) → (Nat → Int32) → (Nat → Int32) → (Nat → Int32) → (Nat → Int32) → (Nat → Int32) → (Nat → Int32) → (Nat → Int32) → (Nat → Int32) → Prop} {n s i : Nat} {x3 : Int32} (hn : n < 5) (hok : ll_ok n a3 a4) (hs : s < n) (hi : 4 ≤ i) (hi2 : i + 3 ≤ 27)
    (H : ∀ b9, J (nI (i + 4)) f0 f1 f2 (ll_T a3 a4 s i (fun j => ll_v a2 a3 a4 a5 s (i + j) a1) a1 4) a2 a3 a4 a5 a6 a7 a8 b9) :
    ∃ f, wX_runInLanes_16 post J (nI s) x3 (nI i) f0 f1 f2 f 0 a1 a2 a3 a4 a5 a6 a7 a8 a9 := by
  refine pk_loop (fun f k b => wX_runInLanes_16 post J (nI s) x3 (nI i) f0 f1 f2 f (nI k) a1 a2 a3 a4 a5 a6 a7 a8 b) (fun k b => ∀ j, j < k → b j = ll_v a2 a3 a4 a5 s (i + j) a1) 4 0 a9 (by omega) (fun j hj => absurd hj (by omega)) ?_ ?_
  · intro f b hb
    exact pk_le 4 4 (fun _ => ll_rl48 (v := fun j => ll_v a2 a3 a4 a5 s (i + j) a1) hn hok hs hi hi2 hb (H b)) (fun z => absurd z (by omega))
  · intro f k b hk hb hw
    refine pk_le 4 k (fun z => absurd z (by omega)) (fun _ => ?_)
    rw [nI_add]
    refine ll_result hn hok hs (by omega) ⟨pk_in k 4 hk, nm_r (e' := upd b k (ll_v a2 a3 a4 a5 s (i + k) a1)) (by rw [nI_clamp (by omega)]) (nm_r (nI_1 k) (hw _ (fun j hj => ?_)))⟩
    by_cases e : j = k
    · rw [e, pk_us]
    · rw [pk_un e]
      exact hb j (by omega)
theorem ll_rl83 {post : St2 → Prop} {n s lo hi : Nat} (hn : n < 5) (hok : ll_ok n a3 a4) (hs : s < n) (hlo : 4 ≤ lo) (hl : lo ≤ hi + 1) (hhi : hi ≤ 27)
    (H : post (f0, f1, f2, (ll_S s lo (hi + 1 - lo)).foldl (ll_ex a2 a3 a4 a5) a1, a2, a3, a4, a5, a6, a7, a8, a9)) :
    ∃ f, wX_runInLanes_83 post (nI s) (nI hi) f (nI lo) f0 f1 f2 a1 a2 a3 a4 a5 a6 a7 a8 a9 := by
  refine pk_loop (fun f i c => wX_runInLanes_83 post (nI s) (nI hi) f (nI i) f0 f1 f2 c a2 a3 a4 a5 a6 a7 a8 a9) (fun i c => lo ≤ i ∧ c = (ll_S s lo (i - lo)).foldl (ll_ex a2 a3 a4 a5) a1) (hi + 1) lo a1 hl ⟨Nat.le_refl lo, by rw [Nat.sub_self]; rfl⟩ ?_ ?_
  · intro f c hc
    obtain ⟨_, hc⟩ := hc
    subst hc
    exact pk_lt hi (hi + 1) (fun _ => H) (fun z => absurd z (by omega))
  · intro f i c hi' hc hw
    obtain ⟨h1, hc⟩ := hc
    refine pk_lt hi i (fun z => absurd z (by omega)) (fun _ => ?_)
    refine ll_result hn hok hs (by omega) (ll_store hn hok hs (by omega) (nm_r (nI_1 i) (hw _ ⟨by omega, ?_⟩)))
    rw [show i + 1 - lo = (i - lo) + 1 by omega, ll_Ss, List.foldl_append, ← hc, show lo + (i - lo) = i by omega]
    rfl
theorem ll_runInLanes {post : St2 → Prop} {n s lo hi : Nat} (hn : n < 5) (hok : ll_ok n a3 a4) (hs : s < n) (hf : ∀ d, 1 ≤ d → d < 4 → ¬ ll_fd a2 a3 a4 s s d) (hlo : 4 ≤ lo) (hl : lo ≤ hi) (hhi : hi ≤ 27)
    (H : ∀ b9, post (f0, f1, f2, (ll_S s lo (hi + 1 - lo)).foldl (ll_ex a2 a3 a4 a5) a1, a2, a3, a4, a5, a6, a7, a8, b9)) :
    wpX_runInLanes post (f0, f1, f2, a1, a2, a3, a4, a5, a6, a7, a8, a9) (nI s) (nI lo) (nI hi) := by
  show ∃ f, wX_runInLanes_3 post (nI s) (nI hi) f (nI lo) f0 f1 f2 a1 a2 a3 a4 a5 a6 a7 a8 a9
  refine loop_m (σ := Nat × (Nat → Int32) × (Nat → Int32)) (fun f v => wX_runInLanes_3 post (nI s) (nI hi) f (nI v.1) f0 f1 f2 v.2.1 a2 a3 a4 a5 a6 a7 a8 v.2.2) (fun v => lo ≤ v.1 ∧ v.1 ≤ hi + 1 ∧ v.2.1 = (ll_S s lo (v.1 - lo)).foldl (ll_ex a2 a3 a4 a5) a1) (fun v => hi + 1 - v.1) ?_ (lo, a1, a9) ⟨Nat.le_refl lo, by show lo ≤ hi + 1; omega, by show a1 = (ll_S s lo (lo - lo)).foldl _ a1; rw [Nat.sub_self]; rfl⟩
  intro f v h hw
  obtain ⟨i, c, b⟩ := v
  obtain ⟨h1, h2, h3⟩ := h
  dsimp only at h1 h2 h3 hw
  have e3 : nI i + 4 - 1 = nI (i + 3) := by
    have e : nI i + 4 = nI (i + 3 + 1) := nI_add i 4
    rw [e, nI_pred]
  refine pk_lt hi (i + 3) (fun z => ?_) (fun z => ?_) rfl e3
  · refine ll_rl83 hn hok hs (by omega) h2 hhi ?_
    have := H b
    rw [show hi + 1 - lo = (i - lo) + (hi + 1 - i) by omega, ll_Sa, List.foldl_append, ← h3, show lo + (i - lo) = i by omega] at this
    exact this
  · refine ll_rl16 hn hok hs (by omega) (by omega) (fun b9 => hw (i + 4, _, b9) ⟨by dsimp only; omega, by dsimp only; omega, ?_⟩ (by dsimp only; omega))
    dsimp only
    rw [show i + 4 - lo = (i - lo) + 4 by omega, ll_Sa, List.foldl_append, ← h3, show lo + (i - lo) = i by omega]
    exact (ll_lane hok hs (by omega) (by omega) hf c 4 (Nat.le_refl 4)).symm
theorem ll_outside {post : Int32 → Prop} {n s i : Nat} (hn : n < 5) (hok : ll_ok n a3 a4) (hs : s < n) (hi : 4 ≤ i ∧ i ≤ 27) (H : post 0) :
    wpX_outside post (f0, f1, f2, a1, a2, a3, a4, a5, a6, a7, a8, a9) (nI s) (nI i) := by
  show ∃ f, wX_outside_2 post (nI s) (nI i) f0 f1 f2 a1 a2 a3 a4 a5 a6 a7 a8 a9 f (nI 0)
  refine pk_loop (σ := Unit) (fun f p _ => wX_outside_2 post (nI s) (nI i) f0 f1 f2 a1 a2 a3 a4 a5 a6 a7 a8 a9 f (nI p)) (fun _ _ => True) 3 0 () (by omega) trivial ?_ ?_
  · intro f _ _
    exact pk_le 3 3 (fun _ => H) (fun z => absurd z (by omega))
  · intro f p _ hp _ hw
    obtain ⟨b1, b2⟩ := hok s hs p hp
    have e : nI i + (nI (ll_B (a4 s) p) - 4) = nI (i + ll_B (a4 s) p - 4) := by
      have := ll_ai (A := 0) (i := i) (B := ll_B (a4 s) p) (by omega)
      rw [nI_0, Int32.zero_mul, Int32.zero_add, Nat.zero_mul, Nat.zero_add] at this
      exact this
    refine pk_le 3 p (fun z => absurd z (by omega)) (fun _ => ll_shiftOf (by omega) (nm_r e ?_))
    refine pk_lt (i + ll_B (a4 s) p - 4) 0 (fun z => absurd z (by omega)) (fun _ => ?_)
    exact pk_lt (i + ll_B (a4 s) p - 4) 32 (fun _ => nm_r (nI_1 p) (hw () trivial)) (fun z => absurd z (by omega))
theorem ll_run73 {post : Int32 → St2 → Prop} {n lo hi : Nat} (hn : n < 5) (hok : ll_ok n a3 a4) (hlo : 4 ≤ lo) (hl : lo ≤ hi) (hhi : hi ≤ 27) (hP : ll_P n a2 a3 a4 f2 a7 a8)
    (H : ∀ b9, post (nI (n * (hi - lo + 1))) (nI n, f1, f2, ll_run n a2 a3 a4 a5 lo (hi + 1 - lo) a1, a2, a3, a4, a5, a6, a7, a8, b9)) :
    ∃ f, wX_run_73 post (nI lo) (nI hi) f 0 (nI n) f1 f2 a1 a2 a3 a4 a5 a6 a7 a8 a9 := by
  obtain ⟨gl, g1, g2, g3, g4⟩ := hP
  subst g2
  refine pk_loop (σ := (Nat → Int32) × (Nat → Int32)) (fun f j v => wX_run_73 post (nI lo) (nI hi) f (nI j) (nI n) f1 (nI gl.length) v.1 a2 a3 a4 a5 a6 a7 a8 v.2) (fun j v => v.1 = ll_gx n a2 a3 a4 a5 lo (hi + 1 - lo) (gl.take j) a1) gl.length 0 (a1, a9) (by omega) rfl ?_ ?_
  · intro f v hv
    obtain ⟨c, b⟩ := v
    dsimp only at hv ⊢
    rw [List.take_length, ll_gxa hok hlo (by omega) g3] at hv
    refine pk_le gl.length gl.length (fun _ => ?_) (fun z => absurd z (by omega))
    have e : nI n * (nI hi - nI lo + 1) = nI (n * (hi - lo + 1)) := by
      rw [pk_sub hl, nI_1, pk_mul]
    rw [e, hv]
    exact H b
  · intro f j v hj hv hw
    obtain ⟨c, b⟩ := v
    dsimp only at hv hw ⊢
    have hx : gl[j]? = some gl[j] := List.getElem?_eq_getElem hj
    obtain ⟨x1, x2, x3⟩ := g4 j _ hx
    have hgx : ∀ c', c' = ((ll_L n lo (hi + 1 - lo)).filter (fun q => (gl[j]).testBit q.2)).foldl (ll_ex a2 a3 a4 a5) c → c' = ll_gx n a2 a3 a4 a5 lo (hi + 1 - lo) (gl.take (j + 1)) a1 := by
      intro c' hc'
      unfold ll_gx
      rw [List.take_add_one, hx, List.foldl_append]
      unfold ll_gx at hv
      rw [← hv]
      exact hc'
    generalize gl[j] = x at x1 x2 x3 hgx
    have q4 : vp_in (nI j) 4 := pk_in j 4 (by omega)
    refine pk_le gl.length j (fun z => absurd z (by omega)) (fun _ => ⟨q4, ?_⟩)
    rw [nI_clamp (show j < 2 ^ 31 by omega), x2]
    refine ll_lowest x1 (fun l hl4 hl2 => ⟨q4, br_c (fun z => ⟨q4, ?_⟩) (fun z => ?_)⟩)
    · exact ll_runPlain hn hok x1 hlo hl hhi (nm_r (nI_1 j) (hw (_, b) (hgx _ rfl)))
    · rcases x3 with x3 | ⟨s, s1, s2, s3⟩
      · exact absurd x3 z
      · have es : l = s := hl2 s (by omega) s2
        subst es
        refine ll_runInLanes hn hok s1 s3 hlo hl hhi (fun b9 => nm_r (nI_1 j) (hw (_, b9) (hgx _ ?_)))
        rw [s2, ll_LS hn s1]
theorem ll_runT {post : Int32 → St2 → Prop} {n lo hi : Nat} (hn : n < 5) (hok : ll_ok n a3 a4) (hlo : 4 ≤ lo) (hl : lo ≤ hi) (hhi : hi ≤ 27) (hR : f1 = 0 ∨ ll_P n a2 a3 a4 f2 a7 a8)
    (H : ∀ f g b6 b7 b8 b9, ll_P n a2 a3 a4 g b7 b8 → post (nI (n * (hi - lo + 1))) (nI n, f, g, ll_run n a2 a3 a4 a5 lo (hi + 1 - lo) a1, a2, a3, a4, a5, b6, b7, b8, b9)) :
    wpX_run post (nI n, f1, f2, a1, a2, a3, a4, a5, a6, a7, a8, a9) (nI lo) (nI hi) := by
  unfold wpX_run
  dsimp only
  refine pk_lt lo 0 (fun z => absurd z (by omega)) (fun _ => pk_le 32 lo (fun z => absurd z (by omega)) (fun _ => pk_lt hi 0 (fun z => absurd z (by omega)) (fun _ => pk_lt hi 32 (fun _ => ?_) (fun z => absurd z (by omega)))))
  refine pk_loop (σ := Unit) (fun f s _ => wX_run_25 post (nI lo) (nI hi) (nI n) f1 f2 a1 a2 a3 a4 a5 a6 a7 a8 a9 f (nI s)) (fun _ _ => True) n 0 () (by omega) trivial ?_ ?_
  · intro f _ _
    refine pk_le n n (fun _ => pk_le lo hi (fun _ => ?_) (fun z => absurd z (by omega))) (fun z => absurd z (by omega))
    exact ll_plan hn hR (fun g b6 b7 b8 hP f => ll_run73 hn hok hlo hl hhi hP (fun b9 => H f g b6 b7 b8 b9 hP))
  · intro f s _ hs _ hw
    exact pk_le n s (fun z => absurd z (by omega)) (fun _ => ll_outside hn hok hs (by omega) (br_t rfl (ll_outside hn hok hs (by omega) (br_t rfl (nm_r (nI_1 s) (hw () trivial))))))
theorem ll_runN {post : Int32 → St2 → Prop} {n lo hi : Nat} (hn : n < 5) (hok : ll_ok n a3 a4) (hhi : 4 ≤ hi) (hl : hi < lo) (hlo : lo ≤ 27)
    (H : post 0 (nI n, f1, f2, a1, a2, a3, a4, a5, a6, a7, a8, a9)) :
    wpX_run post (nI n, f1, f2, a1, a2, a3, a4, a5, a6, a7, a8, a9) (nI lo) (nI hi) := by
  unfold wpX_run
  dsimp only
  refine pk_lt lo 0 (fun z => absurd z (by omega)) (fun _ => pk_le 32 lo (fun z => absurd z (by omega)) (fun _ => pk_lt hi 0 (fun z => absurd z (by omega)) (fun _ => pk_lt hi 32 (fun _ => ?_) (fun z => absurd z (by omega)))))
  refine pk_loop (σ := Unit) (fun f s _ => wX_run_25 post (nI lo) (nI hi) (nI n) f1 f2 a1 a2 a3 a4 a5 a6 a7 a8 a9 f (nI s)) (fun _ _ => True) n 0 () (by omega) trivial ?_ ?_
  · intro f _ _
    exact pk_le n n (fun _ => pk_le lo hi (fun z => absurd z (by omega)) (fun _ => H)) (fun z => absurd z (by omega))
  · intro f s _ hs _ hw
    exact pk_le n s (fun z => absurd z (by omega)) (fun _ => ll_outside hn hok hs (by omega) (br_t rfl (ll_outside hn hok hs (by omega) (br_t rfl (nm_r (nI_1 s) (hw () trivial))))))
end
end
section
/-! the rest of the methods: cell, set, ramp, fill, get, same, statement, exchange, mustPrecede, worth -/
def ll_c (L : Nat) (xs : Nat → Int32) (k : Nat) : Int32 := if k < L then xs k else 0
theorem ll_cell {post : Int32 → Prop} {L : Nat} {xs : Nat → Int32} {k : Nat} (hL : L ≤ 260) (hk : k < 1000) (H : post (ll_c L xs k)) : wpL_cell post L xs () (nI k) := by
  unfold ll_c at H
  refine pk_le L k (fun z => ?_) (fun z => ⟨pk_in k L z, ?_⟩)
  · rw [if_neg (by omega)] at H
    exact H
  · rw [if_pos z] at H
    rw [nI_clamp (by omega)]
    exact H
theorem ll_badArray {post : Int32 → Prop} {A : Nat} (hA : A < 3) (H : post 0) : wpX_badArray post () (nI A) :=
  pk_lt A 0 (fun z => absurd z (by omega)) (fun _ => pk_le A 2 (fun _ => H) (fun z => absurd z (by omega)))
theorem ll_ix (A j : Nat) : nI A * 32 + nI j = nI (A * 32 + j) := by
  have e : nI A * 32 = nI (A * 32) := pk_mul A 32
  rw [e, nI_add]
section
variable {f0 f1 f2 : Int32} {a1 a2 a3 a4 a5 a6 a7 a8 a9 : Nat → Int32}
theorem ll_set {post : Int32 → St2 → Prop} {A j : Nat} {v : Int32} (hA : A < 3) (hj : j < 32) (H : post (a1 (A * 32 + j)) (f0, f1, f2, upd a1 (A * 32 + j) v, a2, a3, a4, a5, a6, a7, a8, a9)) :
    wpX_set post (f0, f1, f2, a1, a2, a3, a4, a5, a6, a7, a8, a9) (nI A) (nI j) v := by
  unfold wpX_set
  dsimp only
  refine ll_badArray hA (br_t rfl (pk_lt j 0 (fun z => absurd z (by omega)) (fun _ => pk_lt j 32 (fun _ => ?_) (fun z => absurd z (by omega)))))
  rw [ll_ix, nI_clamp (show A * 32 + j < 2 ^ 31 by omega)]
  exact ⟨pk_in (A * 32 + j) 96 (by omega), nm_e ⟨pk_in (A * 32 + j) 96 (by omega), nm_e H⟩⟩
theorem ll_ramp {post : Int32 → St2 → Prop} {A : Nat} {x y : Int32} (hA : A < 3) (H : ∀ c, (∀ t, t < 32 → c (A * 32 + t) = x + nI t * y) → (∀ j, (j < A * 32 ∨ A * 32 + 32 ≤ j) → c j = a1 j) → post 0 (f0, f1, f2, c, a2, a3, a4, a5, a6, a7, a8, a9)) :
    wpX_ramp post (f0, f1, f2, a1, a2, a3, a4, a5, a6, a7, a8, a9) (nI A) x y := by
  unfold wpX_ramp
  dsimp only
  refine ll_badArray hA (br_t rfl ?_)
  refine pk_loop (fun f i c => wX_ramp_12 post (nI A) x y f0 f1 f2 f (nI i) c a2 a3 a4 a5 a6 a7 a8 a9) (fun i c => (∀ t, t < i → c (A * 32 + t) = x + nI t * y) ∧ (∀ j, (j < A * 32 ∨ A * 32 + 32 ≤ j) → c j = a1 j)) 32 0 a1 (by omega) ⟨fun t ht => absurd ht (by omega), fun j _ => rfl⟩ ?_ ?_
  · intro f c h
    exact pk_le 32 32 (fun _ => H c h.1 h.2) (fun z => absurd z (by omega))
  · intro f i c hi h hw
    refine pk_le 32 i (fun z => absurd z (by omega)) (fun _ => ?_)
    rw [ll_ix, nI_clamp (show A * 32 + i < 2 ^ 31 by omega)]
    refine ⟨pk_in (A * 32 + i) 96 (by omega), nm_e (nm_r (nI_1 i) (hw _ ⟨fun t ht => ?_, fun j hj => ?_⟩))⟩
    · by_cases e : t = i
      · rw [e, pk_us]
      · rw [pk_un (by omega)]
        exact h.1 t (by omega)
    · rw [pk_un (by omega)]
      exact h.2 j hj
end
/-! what fill lays -/
def ll_F0 (L : Nat) (xs : Nat → Int32) (j : Nat) : Int32 := ll_c L xs (j / 32) + nI (j % 32) * ll_c L xs (j / 32 + 3)
def ll_Fa (x : Int32) : Nat := ((((x >>> ((8 : Int32) &&& 31)) &&& 255) - ((x >>> ((8 : Int32) &&& 31)) &&& 255) / 3 * 3)).toNatClampNeg
def ll_Fj (x : Int32) : Nat := (x &&& 31).toNatClampNeg
theorem ll_Fae (x : Int32) : (((x >>> ((8 : Int32) &&& 31)) &&& 255) - ((x >>> ((8 : Int32) &&& 31)) &&& 255) / 3 * 3) = nI (ll_Fa x) ∧ ll_Fa x < 3 := by
  obtain ⟨j, hj, e⟩ := pk_andE (x >>> ((8 : Int32) &&& 31)) (m := 255) 8 (by decide)
  have e2 : nI j - nI j / 3 * 3 = nI (j % 3) := pk_rem (d := 3) (by omega) (by omega) (by omega)
  unfold ll_Fa
  rw [e, e2, nI_clamp (by omega)]
  exact ⟨rfl, by omega⟩
theorem ll_Fje (x : Int32) : x &&& 31 = nI (ll_Fj x) ∧ ll_Fj x < 32 := by
  obtain ⟨j, hj, e⟩ := pk_andE x (m := 31) 5 (by decide)
  unfold ll_Fj
  rw [e, nI_clamp (by omega)]
  exact ⟨rfl, by omega⟩
def ll_F (L : Nat) (xs : Nat → Int32) : Nat → Nat → Int32
  | 0 => ll_F0 L xs
  | d + 1 => upd (ll_F L xs d) (ll_Fa (xs (8 + d)) * 32 + ll_Fj (xs (8 + d))) (xs (8 + d) >>> ((16 : Int32) &&& 31))
def ll_Z (L : Nat) (xs : Nat → Int32) : Nat → Int32 := ll_F L xs (max 8 (min L 20) - 8)
section
variable {f0 f1 f2 : Int32} {a1 a2 a3 a4 a5 a6 a7 a8 a9 : Nat → Int32}
theorem ll_fill40 {post : St2 → Prop} {L : Nat} {xs : Nat → Int32} (hL : L ≤ 260) (h0 : ∀ j, j < 96 → a1 j = ll_F0 L xs j) (H : ∀ c, (∀ j, j < 96 → c j = ll_Z L xs j) → post (f0, f1, f2, c, a2, a3, a4, a5, a6, a7, a8, a9)) :
    ∃ f, wL_fill_40 post L xs f 8 f0 f1 f2 a1 a2 a3 a4 a5 a6 a7 a8 a9 := by
  refine pk_loop (fun f k c => wL_fill_40 post L xs f (nI k) f0 f1 f2 c a2 a3 a4 a5 a6 a7 a8 a9) (fun k c => 8 ≤ k ∧ ∀ j, j < 96 → c j = ll_F L xs (k - 8) j) (max 8 (min L 20)) 8 a1 (by omega) ⟨by omega, h0⟩ ?_ ?_
  · intro f c h
    exact pk_le L (max 8 (min L 20)) (fun _ => H c h.2) (fun z => pk_le 20 (max 8 (min L 20)) (fun _ => H c h.2) (fun z2 => absurd z (by omega)))
  · intro f k c hk h hw
    obtain ⟨h1, h2⟩ := h
    refine pk_le L k (fun z => absurd z (by omega)) (fun z => pk_le 20 k (fun z => absurd z (by omega)) (fun _ => ?_))
    have q : vp_in (nI k) L := pk_in k L z
    refine ⟨q, by decide, q, q, ?_⟩
    rw [nI_clamp (show k < 2 ^ 31 by omega)]
    obtain ⟨A1, A2⟩ := ll_Fae (xs k)
    obtain ⟨J1, J2⟩ := ll_Fje (xs k)
    rw [A1, J1]
    refine ll_set A2 J2 (nm_r (nI_1 k) (hw _ ⟨by omega, fun j hj => ?_⟩))
    rw [show k + 1 - 8 = (k - 8) + 1 by omega]
    unfold ll_F
    rw [show 8 + (k - 8) = k by omega]
    by_cases e : j = ll_Fa (xs k) * 32 + ll_Fj (xs k)
    · rw [e, pk_us, pk_us]
    · rw [pk_un e, pk_un e]
      exact h2 j hj
theorem ll_fill {post : St2 → Prop} {L : Nat} {xs : Nat → Int32} (hL : L ≤ 260) (H : ∀ c, (∀ j, j < 96 → c j = ll_Z L xs j) → post (f0, f1, f2, c, a2, a3, a4, a5, a6, a7, a8, a9)) :
    wpL_fill post L xs (f0, f1, f2, a1, a2, a3, a4, a5, a6, a7, a8, a9) := by
  show ∃ f, wL_fill_2 post L xs f (nI 0) f0 f1 f2 a1 a2 a3 a4 a5 a6 a7 a8 a9
  refine pk_loop (fun f i c => wL_fill_2 post L xs f (nI i) f0 f1 f2 c a2 a3 a4 a5 a6 a7 a8 a9) (fun i c => ∀ j, j < i * 32 → c j = ll_F0 L xs j) 3 0 a1 (by omega) (fun j hj => absurd hj (by omega)) ?_ ?_
  · intro f c h
    exact pk_le 3 3 (fun _ => ll_fill40 hL h H) (fun z => absurd z (by omega))
  · intro f i c hi h hw
    refine pk_le 3 i (fun z => absurd z (by omega)) (fun _ => ll_cell hL (by omega) ?_)
    have e3 : nI i + 3 = nI (i + 3) := nI_add i 3
    rw [e3]
    refine ll_cell hL (by omega) (ll_ramp hi (fun c' h1 h2 => nm_r (nI_1 i) (hw c' (fun j hj => ?_))))
    rcases Nat.lt_or_ge j (i * 32) with q | q
    · rw [h2 j (Or.inl q)]
      exact h j q
    · have e := h1 (j - i * 32) (by omega)
      rw [show i * 32 + (j - i * 32) = j by omega] at e
      rw [e]
      unfold ll_F0
      rw [show j / 32 = i by omega, show j % 32 = j - i * 32 by omega]
/-- what get answers -/
def ll_gv (c : Nat → Int32) (A : Nat) (p : Int32) : Int32 := if p < 0 then 0 else if p < 32 then c (A * 32 + p.toNatClampNeg) else 0
theorem ll_gvN (c : Nat → Int32) (A : Nat) {j : Nat} (hj : j < 32) : ll_gv c A (nI j) = c (A * 32 + j) := by
  unfold ll_gv
  rw [if_neg (nI_pos (by omega)), if_pos (show nI j < 32 from nI_lt (b := 32) hj (by decide)), nI_clamp (by omega)]
theorem ll_get {post : Int32 → Prop} {A : Nat} {p : Int32} (hA : A < 3) (H : post (ll_gv a1 A p)) : wpX_get post (f0, f1, f2, a1, a2, a3, a4, a5, a6, a7, a8, a9) (nI A) p := by
  unfold ll_gv at H
  unfold wpX_get
  dsimp only
  refine ll_badArray hA (br_t rfl (br_c (fun z => ?_) (fun z => br_c (fun z2 => ?_) (fun z2 => ?_))))
  · rw [if_pos z] at H
    exact H
  · rw [if_neg z, if_pos z2] at H
    obtain ⟨j, hj, e⟩ := nI_of z
    subst e
    have hj2 : j < 32 := (nI_ltI hj (by decide)).mp z2
    rw [nI_clamp hj] at H
    rw [ll_ix, nI_clamp (show A * 32 + j < 2 ^ 31 by omega)]
    exact ⟨pk_in (A * 32 + j) 96 (by omega), H⟩
  · rw [if_neg z, if_neg z2] at H
    exact H
theorem ll_getN {post : Int32 → Prop} {A j : Nat} (hA : A < 3) (hj : j < 32) (H : post (a1 (A * 32 + j))) : wpX_get post (f0, f1, f2, a1, a2, a3, a4, a5, a6, a7, a8, a9) (nI A) (nI j) :=
  ll_get hA (by rw [ll_gvN a1 A hj]; exact H)
theorem ll_same {post : Int32 → Prop} {g0 g1 g2 : Int32} {b1 b2 b3 b4 b5 b6 b7 b8 b9 : Nat → Int32} (h : ∀ j, j < 96 → a1 j = b1 j) (H : post 1) :
    wpL_same post (f0, f1, f2, a1, a2, a3, a4, a5, a6, a7, a8, a9, g0, g1, g2, b1, b2, b3, b4, b5, b6, b7, b8, b9) := by
  show ∃ f, wL_same_2 post f0 f1 f2 a1 a2 a3 a4 a5 a6 a7 a8 a9 g0 g1 g2 b1 b2 b3 b4 b5 b6 b7 b8 b9 f (nI 0)
  refine pk_loop (σ := Unit) (fun f i _ => wL_same_2 post f0 f1 f2 a1 a2 a3 a4 a5 a6 a7 a8 a9 g0 g1 g2 b1 b2 b3 b4 b5 b6 b7 b8 b9 f (nI i)) (fun _ _ => True) 96 0 () (by omega) trivial ?_ ?_
  · intro f _ _
    exact pk_le 96 96 (fun _ => H) (fun z => absurd z (by omega))
  · intro f i _ hi _ hw
    have e1 : nI i / 32 = nI (i / 32) := pk_div (d := 32) (by omega) (by omega) (by omega)
    have e2 : nI i - nI (i / 32) * 32 = nI (i % 32) := by
      rw [← e1]
      exact pk_rem (d := 32) (by omega) (by omega) (by omega)
    refine pk_le 96 i (fun z => absurd z (by omega)) (fun _ => ⟨by decide, by decide, ?_⟩)
    rw [e1, e2]
    refine ll_getN (by omega) (by omega) ⟨by decide, by decide, ll_getN (by omega) (by omega) (br_t ?_ (nm_r (nI_1 i) (hw () trivial)))⟩
    exact h _ (by omega)
theorem ll_bs : ∀ B, B < 9 → ¬ nI B - 4 < -4 ∧ nI B - 4 ≤ 4 := by decide +kernel
theorem ll_stmt {post : Int32 → St2 → Prop} {n o : Nat} {r h k : Int32} (hn : n < 4) (ho : o < 7) (hA : ∀ p, p < 3 → ll_A r p < 3 ∧ ll_B h p < 9) (H : post (nI n) (nI (n + 1), 0, f2, a1, upd a2 n (nI o), upd a3 n r, upd a4 n h, upd a5 n k, a6, a7, a8, a9)) :
    wpX_statement post (nI n, f1, f2, a1, a2, a3, a4, a5, a6, a7, a8, a9) (nI o) r h k := by
  show ∃ f, wX_statement_3 post (nI o) r h k (nI n) f1 f2 a1 a2 a3 a4 a5 a6 a7 a8 a9 f (nI 0)
  refine pk_loop (σ := Unit) (fun f i _ => wX_statement_3 post (nI o) r h k (nI n) f1 f2 a1 a2 a3 a4 a5 a6 a7 a8 a9 f (nI i)) (fun _ _ => True) 3 0 () (by omega) trivial ?_ ?_
  · intro f _ _
    refine pk_le 3 3 (fun _ => ?_) (fun z => absurd z (by omega))
    refine pk_loop (σ := Unit) (fun f i _ => wX_statement_34 post (nI o) r h k (nI n) f1 f2 a1 a2 a3 a4 a5 a6 a7 a8 a9 f (nI i)) (fun _ _ => True) 3 0 () (by omega) trivial ?_ ?_
    · intro f _ _
      have q : vp_in (nI n) 4 := pk_in n 4 hn
      refine pk_le 3 3 (fun _ => pk_lt o 0 (fun z => absurd z (by omega)) (fun _ => pk_le o 6 (fun _ => pk_lt n 4 (fun _ => ?_) (fun z => absurd z (by omega))) (fun z => absurd z (by omega)))) (fun z => absurd z (by omega))
      rw [nI_clamp (show n < 2 ^ 31 by omega)]
      exact ⟨q, nm_e ⟨q, nm_e ⟨q, nm_e ⟨q, nm_e (nm_r (nI_1 n) (by rw [nI_pred]; exact H))⟩⟩⟩⟩
    · intro f i _ hi _ hw
      refine pk_le 3 i (fun z => absurd z (by omega)) (fun _ => ?_)
      obtain ⟨q1, q2⟩ := ll_bs (ll_B h i) (hA i hi).2
      rw [ll_Be]
      exact br_f q1 (br_t q2 (br_t rfl (nm_r (nI_1 i) (hw () trivial))))
  · intro f i _ hi _ hw
    refine pk_le 3 i (fun z => absurd z (by omega)) (fun _ => ?_)
    rw [ll_Ae]
    exact ll_badArray (hA i hi).1 (br_t rfl (nm_r (nI_1 i) (hw () trivial)))
theorem ll_noStmt {post : Int32 → Prop} {n a : Nat} (hn : n < 5) (ha : a < n) (H : post 0) : wpX_noStatement post (nI n, f1, f2, a1, a2, a3, a4, a5, a6, a7, a8, a9) (nI a) := by
  unfold wpX_noStatement
  dsimp only
  exact pk_lt a 0 (fun z => absurd z (by omega)) (fun _ => pk_lt a n (fun _ => H) (fun z => absurd z (by omega)))
theorem ll_exchange {post : Int32 → St2 → Prop} {n a : Nat} (hn : n < 5) (ha : a + 1 < n) (H : post 0 (nI n, 0, f2, a1, ll_sw a2 a, ll_sw a3 a, ll_sw a4 a, ll_sw a5 a, a6, a7, a8, a9)) :
    wpX_exchange post (nI n, f1, f2, a1, a2, a3, a4, a5, a6, a7, a8, a9) (nI a) (nI (a + 1)) := by
  have q0 : vp_in (nI a) 4 := pk_in a 4 (by omega)
  have q1 : vp_in (nI (a + 1)) 4 := pk_in (a + 1) 4 (by omega)
  unfold wpX_exchange
  dsimp only
  refine ll_noStmt hn (by omega) (br_t rfl (ll_noStmt hn ha (br_t rfl ?_)))
  rw [nI_clamp (show a < 2 ^ 31 by omega), nI_clamp (show a + 1 < 2 ^ 31 by omega)]
  exact ⟨q0, nm_e ⟨q1, q0, nm_e ⟨q1, nm_e ⟨q0, nm_e ⟨q1, q0, nm_e ⟨q1, nm_e ⟨q0, nm_e ⟨q1, q0, nm_e ⟨q1, nm_e ⟨q0, nm_e ⟨q1, q0, nm_e ⟨q1, nm_e H⟩⟩⟩⟩⟩⟩⟩⟩⟩⟩⟩⟩
theorem ll_mustPrecede {post : Int32 → Prop} {n a b d : Nat} (hn : n < 5) (ha : a < n) (hb : b < n) (hd : d < 9) (hT : ll_pr a2 a3 a4 a b d → post 1) (hF : ¬ ll_pr a2 a3 a4 a b d → post 0) :
    wpX_mustPrecede post (nI n, f1, f2, a1, a2, a3, a4, a5, a6, a7, a8, a9) (nI a) (nI b) (nI d) := by
  unfold wpX_mustPrecede
  dsimp only
  refine pk_lt d 0 (fun z => absurd z (by omega)) (fun _ => pk_lt 8 d (fun z => absurd z (by omega)) (fun _ => ?_))
  refine ll_noStmt hn ha (br_t rfl (ll_noStmt hn hb (br_t rfl ?_)))
  exact ll_precedes (by omega) (by omega) (by omega) (fun z => ⟨rfl, hT z⟩) (fun z => ⟨rfl, hF z⟩)
end
theorem ll_worth {post : Int32 → Prop} {o : Nat} {x y k : Int32} (ho : o < 7) (H : post (ll_val (nI o) k x y)) : wpL_worth post () (nI o) x y k := by
  unfold wpL_worth
  rcases (show o = 0 ∨ o = 1 ∨ o = 2 ∨ o = 3 ∨ o = 4 ∨ o = 5 ∨ o = 6 by omega) with e | e | e | e | e | e | e <;> subst e
  · have H2 : post (x + y) := by rw [← ll_val0 k x y]; exact H
    exact br_f (by decide) (br_t rfl H2)
  · have H2 : post (x - y) := by rw [← ll_val1 k x y]; exact H
    exact br_f (by decide) (br_f (by decide) (br_t rfl H2))
  · have H2 : post (x * y) := by rw [← ll_val2 k x y]; exact H
    exact br_f (by decide) (br_f (by decide) (br_f (by decide) H2))
  · have H2 : post (if y ≤ x then y else x) := by rw [← ll_val3 k x y]; exact H
    exact br_t (by decide) (br_t rfl (br_c (fun q => by rw [if_pos q] at H2; exact H2) (fun q => by rw [if_neg q] at H2; exact H2)))
  · have H2 : post (x + k) := by rw [← ll_val4 k x y]; exact H
    exact br_t (by decide) (br_f (by decide) (br_t rfl H2))
  · have H2 : post k := by rw [← ll_val5 k x y]; exact H
    exact br_t (by decide) (br_f (by decide) (br_f (by decide) (br_t rfl H2)))
  · have H2 : post (x * k) := by rw [← ll_val6 (o := 6) (by decide) k x y]; exact H
    exact br_t (by decide) (br_f (by decide) (br_f (by decide) (br_f (by decide) H2)))
/-! the packed words -/
theorem ll_Aw : ∀ x, x < 3 → ∀ y, y < 3 → ∀ z, z < 3 → ll_A (nI (x + 4 * y + 16 * z)) 0 = x ∧ ll_A (nI (x + 4 * y + 16 * z)) 1 = y ∧ ll_A (nI (x + 4 * y + 16 * z)) 2 = z := by decide +kernel
theorem ll_Bw : ∀ x, x < 9 → ∀ y, y < 9 → ∀ z, z < 9 → ll_B (nI (x + 16 * y + 256 * z)) 0 = x ∧ ll_B (nI (x + 16 * y + 256 * z)) 1 = y ∧ ll_B (nI (x + 16 * y + 256 * z)) 2 = z := by decide +kernel
theorem ll_w4 (x y z : Nat) : nI x + 4 * nI y + 16 * nI z = nI (x + 4 * y + 16 * z) := by
  have e1 : (4 : Int32) * nI y = nI (4 * y) := pk_mul 4 y
  have e2 : (16 : Int32) * nI z = nI (16 * z) := pk_mul 16 z
  rw [e1, e2, nI_add, nI_add]
theorem ll_w16 (x y z : Nat) : nI x + 16 * nI y + 256 * nI z = nI (x + 16 * y + 256 * z) := by
  have e1 : (16 : Int32) * nI y = nI (16 * y) := pk_mul 16 y
  have e2 : (256 : Int32) * nI z = nI (256 * z) := pk_mul 256 z
  rw [e1, e2, nI_add, nI_add]
theorem ll_p3 {P : Nat → Prop} (h0 : P 0) (h1 : P 1) (h2 : P 2) : ∀ p, p < 3 → P p := by
  intro p hp
  rcases (show p = 0 ∨ p = 1 ∨ p = 2 by omega) with e | e | e <;> subst e
  · exact h0
  · exact h1
  · exact h2
theorem ll_wok {x y z t u v : Nat} (hx : x < 3) (hy : y < 3) (hz : z < 3) (ht : t < 9) (hu : u < 9) (hv : v < 9) : ∀ p, p < 3 → ll_A (nI (x + 4 * y + 16 * z)) p < 3 ∧ ll_B (nI (t + 16 * u + 256 * v)) p < 9 := by
  obtain ⟨A0, A1, A2⟩ := ll_Aw x hx y hy z hz
  obtain ⟨B0, B1, B2⟩ := ll_Bw t ht u hu v hv
  refine ll_p3 ?_ ?_ ?_
  · rw [A0, B0]; exact ⟨hx, ht⟩
  · rw [A1, B1]; exact ⟨hy, hu⟩
  · rw [A2, B2]; exact ⟨hz, hv⟩
end
section
/-! the law's last part: one statement alone -/
def ll_fl (x s m : Int32) : Nat := ((x >>> (s &&& 31)) &&& m).toNatClampNeg
theorem ll_fle (x s : Int32) {m : Int32} (k : Nat) (hm : m.toBitVec.toNat = 2 ^ k - 1) (hk : 2 ^ k ≤ 2 ^ 20) : (x >>> (s &&& 31)) &&& m = nI (ll_fl x s m) ∧ ll_fl x s m < 2 ^ k := by
  obtain ⟨j, hj, e⟩ := pk_andE (x >>> (s &&& 31)) (m := m) k hm
  unfold ll_fl
  rw [e, nI_clamp (by omega)]
  exact ⟨rfl, hj⟩
def ll_f0 (x m : Int32) : Nat := (x &&& m).toNatClampNeg
theorem ll_f0e (x : Int32) {m : Int32} (k : Nat) (hm : m.toBitVec.toNat = 2 ^ k - 1) (hk : 2 ^ k ≤ 2 ^ 20) : x &&& m = nI (ll_f0 x m) ∧ ll_f0 x m < 2 ^ k := by
  obtain ⟨j, hj, e⟩ := pk_andE x (m := m) k hm
  unfold ll_f0
  rw [e, nI_clamp (by omega)]
  exact ⟨rfl, hj⟩
theorem ll_rem {j d : Nat} {y : Int32} (hj : j < 2 ^ 20) (hd : 0 < d) (hd2 : d < 2 ^ 20) (hy : y = nI d) : nI j - nI j / y * y = nI (j % d) := by
  subst hy
  exact pk_rem (by omega) hd (by omega)
theorem ll_atneg : ∀ i, i < 4 → ∀ st, st < 9 → i + 4 < st → ∀ lo, lo < 28 → nI i - nI st + 4 < nI lo := by decide +kernel
theorem ll_at {i st : Nat} (h : st ≤ i + 4) : nI i - nI st + 4 = nI (i + 4 - st) := by
  have e4 : nI 4 = 4 := rfl
  have e : nI i - nI st + 4 = nI (i + 4) - nI st := by
    rw [← nI_add i 4, e4]
    grind
  rw [e, pk_sub h]
theorem ll_at4 {i s : Nat} (h : 4 ≤ i + s) : nI i + nI s - 4 = nI (i + s - 4) := by
  rw [nI_add]
  exact pk_sub (b := 4) h
section
variable {f0 f1 f2 g0 g1 g2 : Int32} {a1 a2 a3 a4 a5 a6 a7 a8 a9 b1 b2 b3 b4 b5 b6 b7 b8 b9 : Nat → Int32} {post : Int32 → Prop} {L : Nat} {xs : Nat → Int32} {kc ks : Nat}
theorem ll_law662 {J : Int32 → Prop} {x2 x3 x16 x17 x18 x19 x20 z : Int32} {t fr ot i : Nat} (ht : t < 3) (hf : fr < 3) (ho : ot < 3) (hi : i < 32) (h1 : a1 (t * 32 + i) = z) (h3 : a1 (fr * 32 + i) = b1 (fr * 32 + i)) (h4 : a1 (ot * 32 + i) = b1 (ot * 32 + i)) (hJ : J (nI (i + 1))) :
    wL_law_662 post L xs J x2 x3 (nI t) (nI fr) (nI ot) x16 x17 x18 x19 x20 (nI i) z kc ks f0 f1 f2 a1 a2 a3 a4 a5 a6 a7 a8 a9 g0 g1 g2 b1 b2 b3 b4 b5 b6 b7 b8 b9 := by
  unfold wL_law_662
  exact ll_getN ht hi (br_t h1 (ll_getN hf hi (ll_getN hf hi (br_t h3 (ll_getN ho hi (ll_getN ho hi (br_t h4 (nm_r (nI_1 i) hJ))))))))
theorem ll_law579 {lo hi t fr ot st sx sy op : Nat} {k : Int32} (hlo : 4 ≤ lo) (hl : lo ≤ hi) (hhi : hi ≤ 27) (ht : t < 3) (hf : fr < 3) (ho : ot < 3) (hst : st < 9) (hsx : sx < 9) (hsy : sy < 9) (hop : op < 7)
    (h1 : ∀ i, i < 32 → st ≤ i + 4 → lo ≤ i + 4 - st → i + 4 - st ≤ hi → a1 (t * 32 + i) = ll_val (nI op) k (b1 (fr * 32 + (i + 4 - st + sx - 4))) (b1 (ot * 32 + (i + 4 - st + sy - 4))))
    (h2 : ∀ i, i < 32 → ¬ (st ≤ i + 4 ∧ lo ≤ i + 4 - st ∧ i + 4 - st ≤ hi) → a1 (t * 32 + i) = b1 (t * 32 + i))
    (h3 : ∀ i, i < 32 → a1 (fr * 32 + i) = b1 (fr * 32 + i)) (h4 : ∀ i, i < 32 → a1 (ot * 32 + i) = b1 (ot * 32 + i)) (H : post 1) :
    ∃ f, wL_law_579 post L xs (nI lo) (nI hi) (nI t) (nI fr) (nI ot) (nI st) (nI sx) (nI sy) (nI op) k kc ks f0 f1 f2 a1 a2 a3 a4 a5 a6 a7 a8 a9 g0 g1 g2 b1 b2 b3 b4 b5 b6 b7 b8 b9 f 0 := by
  refine pk_loop (σ := Unit) (fun f i _ => wL_law_579 post L xs (nI lo) (nI hi) (nI t) (nI fr) (nI ot) (nI st) (nI sx) (nI sy) (nI op) k kc ks f0 f1 f2 a1 a2 a3 a4 a5 a6 a7 a8 a9 g0 g1 g2 b1 b2 b3 b4 b5 b6 b7 b8 b9 f (nI i)) (fun _ _ => True) 32 0 () (by omega) trivial ?_ ?_
  · intro f _ _
    exact pk_le 32 32 (fun _ => H) (fun z => absurd z (by omega))
  · intro f i _ hi' _ hw
    have hJ := hw () trivial
    have same : a1 (t * 32 + i) = b1 (t * 32 + i) → wL_law_653 post L xs (wL_law_579 post L xs (nI lo) (nI hi) (nI t) (nI fr) (nI ot) (nI st) (nI sx) (nI sy) (nI op) k kc ks f0 f1 f2 a1 a2 a3 a4 a5 a6 a7 a8 a9 g0 g1 g2 b1 b2 b3 b4 b5 b6 b7 b8 b9 f) (nI lo) (nI hi) (nI t) (nI fr) (nI ot) (nI st) (nI sx) (nI sy) (nI op) k (nI i) kc ks f0 f1 f2 a1 a2 a3 a4 a5 a6 a7 a8 a9 g0 g1 g2 b1 b2 b3 b4 b5 b6 b7 b8 b9 := by
      intro e
      unfold wL_law_653
      exact ll_getN ht hi' (ll_law662 ht hf ho hi' e (h3 i hi') (h4 i hi') hJ)
    refine pk_le 32 i (fun z => absurd z (by omega)) (fun _ => ?_)
    by_cases hs : st ≤ i + 4
    · refine nm_r (ll_at hs) (ll_get hf (ll_get ho ?_))
      refine pk_lt (i + 4 - st) lo (fun z => same (h2 i hi' (by omega))) (fun z => pk_lt hi (i + 4 - st) (fun z2 => same (h2 i hi' (by omega))) (fun z2 => ll_worth hop (ll_law662 ht hf ho hi' ?_ (h3 i hi') (h4 i hi') hJ)))
      rw [ll_at4 (by omega), ll_at4 (by omega), ll_gvN b1 fr (by omega), ll_gvN b1 ot (by omega)]
      exact h1 i hi' hs z z2
    · refine nm_e (ll_get hf (ll_get ho (br_t (ll_atneg i (by omega) st hst (by omega) lo (by omega)) (same (h2 i hi' (by omega))))))
theorem ll_clear {pq : St2 → Prop} (H : pq (nI 0, 0, f2, a1, a2, a3, a4, a5, a6, a7, a8, a9)) : wpX_clear pq (f0, f1, f2, a1, a2, a3, a4, a5, a6, a7, a8, a9) := H
theorem ll_law402 {lo hi : Nat} (hL : L ≤ 260) (hlo : 4 ≤ lo) (hl : lo ≤ hi) (hhi : hi ≤ 27) (H : post 1) :
    wL_law_402 post L xs (nI lo) (nI hi) kc ks f0 f1 f2 a1 a2 a3 a4 a5 a6 a7 a8 a9 g0 g1 g2 b1 b2 b3 b4 b5 b6 b7 b8 b9 := by
  unfold wL_law_402
  refine ll_fill hL (fun c hc => ll_fill hL (fun d hd => ll_clear ?_))
  refine ll_cell (k := 20) hL (by omega) ?_
  generalize ll_c L xs 20 = x
  obtain ⟨e0, l0⟩ := ll_f0e x (m := 3) 2 (by decide) (by decide)
  obtain ⟨e1, l1⟩ := ll_fle x 2 (m := 1) 1 (by decide) (by decide)
  obtain ⟨e2, l2⟩ := ll_fle x 3 (m := 1) 1 (by decide) (by decide)
  obtain ⟨e3, l3⟩ := ll_fle x 6 (m := 15) 4 (by decide) (by decide)
  obtain ⟨e4, l4⟩ := ll_fle x 10 (m := 15) 4 (by decide) (by decide)
  obtain ⟨e5, l5⟩ := ll_fle x 14 (m := 15) 4 (by decide) (by decide)
  obtain ⟨e6, l6⟩ := ll_fle x 18 (m := 15) 4 (by decide) (by decide)
  rw [e0, e1, e2, e3, e4, e5, e6]
  generalize ll_f0 x 3 = y0 at *
  generalize ll_fl x 2 1 = y1 at *
  generalize ll_fl x 3 1 = y2 at *
  generalize ll_fl x 6 15 = y3 at *
  generalize ll_fl x 10 15 = y4 at *
  generalize ll_fl x 14 15 = y5 at *
  generalize ll_fl x 18 15 = y6 at *
  generalize ((x >>> ((22 : Int32) &&& 31)) &&& 31) - 12 = kk
  clear e0 e1 e2 e3 e4 e5 e6
  have q3 : ¬ (3 : Int32) = 0 := by decide
  have q9 : ¬ (9 : Int32) = 0 := by decide
  have q7 : ¬ (7 : Int32) = 0 := by decide
  refine ⟨q3, nm_r (ll_rem (d := 3) (by omega) (by omega) (by omega) rfl) ⟨q3, nm_r (e' := nI ((y0 % 3 + 1 + y1) % 3)) ?_ ⟨q3, nm_r (e' := nI ((y0 % 3 + 1 + y2) % 3)) ?_ ⟨q9, nm_r (ll_rem (d := 9) (by omega) (by omega) (by omega) rfl) ⟨q9, nm_r (ll_rem (d := 9) (by omega) (by omega) (by omega) rfl) ⟨q9, nm_r (ll_rem (d := 9) (by omega) (by omega) (by omega) rfl) ⟨q7, nm_r (ll_rem (d := 7) (by omega) (by omega) (by omega) rfl) (nm_e ?_)⟩⟩⟩⟩⟩⟩⟩
  · rw [nI_1, nI_add]
    exact ll_rem (d := 3) (by omega) (by omega) (by omega) rfl
  · rw [nI_1, nI_add]
    exact ll_rem (d := 3) (by omega) (by omega) (by omega) rfl
  have t3 : y0 % 3 < 3 := by omega
  have f3 : (y0 % 3 + 1 + y1) % 3 < 3 := by omega
  have o3 : (y0 % 3 + 1 + y2) % 3 < 3 := by omega
  have tf : y0 % 3 ≠ (y0 % 3 + 1 + y1) % 3 := by omega
  have to : y0 % 3 ≠ (y0 % 3 + 1 + y2) % 3 := by omega
  have s3 : y3 % 9 < 9 := by omega
  have s4 : y4 % 9 < 9 := by omega
  have s5 : y5 % 9 < 9 := by omega
  have s6 : y6 % 7 < 7 := by omega
  generalize (y0 % 3 + 1 + y1) % 3 = fr at *
  generalize (y0 % 3 + 1 + y2) % 3 = ot at *
  generalize y0 % 3 = t at *
  generalize y3 % 9 = st at *
  generalize y4 % 9 = sx at *
  generalize y5 % 9 = sy at *
  generalize y6 % 7 = op at *
  rw [ll_w4, ll_w16]
  refine ll_stmt (n := 0) (by omega) s6 (ll_wok t3 f3 o3 s3 s4 s5) ?_
  obtain ⟨A0, A1, A2⟩ := ll_Aw t t3 fr f3 ot o3
  obtain ⟨B0, B1, B2⟩ := ll_Bw st s3 sx s4 sy s5
  have okk := ll_wok t3 f3 o3 s3 s4 s5
  generalize nI (t + 4 * fr + 16 * ot) = R at *
  generalize nI (st + 16 * sx + 256 * sy) = S at *
  have hok : ll_ok 1 (upd a3 0 R) (upd a4 0 S) := by
    intro s hs p hp
    rw [show s = 0 by omega, pk_us, pk_us]
    exact okk p hp
  refine ll_runT (n := 1) (by omega) hok hlo hl hhi (Or.inl rfl) (fun f g c6 c7 c8 c9 _ => ?_)
  obtain ⟨r1, r2⟩ := ll_one (o := upd a2 0 (nI op)) (k := upd a5 0 kk) hok (by rw [pk_us, A0, A1]; exact tf) (by rw [pk_us, A0, A2]; exact to) hlo c (hi + 1 - lo) (by omega)
  have ad : ∀ i, ll_ad (upd a3 0 R) (upd a4 0 S) 0 0 i = t * 32 + i + st - 4 := by
    intro i
    unfold ll_ad
    rw [pk_us, pk_us, A0, B0]
  have adf : ∀ i, ll_ad (upd a3 0 R) (upd a4 0 S) 0 1 i = fr * 32 + i + sx - 4 := by
    intro i
    unfold ll_ad
    rw [pk_us, pk_us, A1, B1]
  have ado : ∀ i, ll_ad (upd a3 0 R) (upd a4 0 S) 0 2 i = ot * 32 + i + sy - 4 := by
    intro i
    unfold ll_ad
    rw [pk_us, pk_us, A2, B2]
  generalize ll_run 1 (upd a2 0 (nI op)) (upd a3 0 R) (upd a4 0 S) (upd a5 0 kk) lo (hi + 1 - lo) c = c' at *
  have cd : ∀ j, j < 96 → c j = d j := fun j hj => (hc j hj).trans (hd j hj).symm
  refine ll_law579 hlo hl hhi t3 f3 o3 s3 s4 s5 s6 ?_ ?_ ?_ ?_ H
  · intro i hi' h1 h2 h3
    have e := r1 (i + 4 - st) h2 (by omega)
    unfold ll_v at e
    rw [ad, adf, ado, pk_us, pk_us, show t * 32 + (i + 4 - st) + st - 4 = t * 32 + i by omega, cd _ (by omega), cd _ (by omega)] at e
    rw [e, show fr * 32 + (i + 4 - st) + sx - 4 = fr * 32 + (i + 4 - st + sx - 4) by omega, show ot * 32 + (i + 4 - st) + sy - 4 = ot * 32 + (i + 4 - st + sy - 4) by omega]
  · intro i hi' hn
    rw [r2 (t * 32 + i) (fun i' h1 h2 => by rw [ad]; omega), cd _ (by omega)]
  · intro i hi'
    rw [r2 (fr * 32 + i) (fun i' h1 h2 => by rw [ad]; omega), cd _ (by omega)]
  · intro i hi'
    rw [r2 (ot * 32 + i) (fun i' h1 h2 => by rw [ad]; omega), cd _ (by omega)]
end
end
section
/-! the law: statements of both, the two runs, the exchange -/
def ll_so (x : Int32) : Nat := ll_fl x 18 15 % 7
def ll_sr (x : Int32) : Int32 := nI (ll_f0 x 3 % 3 + 4 * (ll_fl x 2 3 % 3) + 16 * (ll_fl x 4 3 % 3))
def ll_ss (x : Int32) (w : Nat) : Int32 := nI (ll_fl x 6 15 % (2 * w + 1) + 4 - w + 16 * (ll_fl x 10 15 % (2 * w + 1) + 4 - w) + 256 * (ll_fl x 14 15 % (2 * w + 1) + 4 - w))
def ll_sk (x : Int32) : Int32 := ((x >>> ((22 : Int32) &&& 31)) &&& 31) - 12
theorem ll_sok (x : Int32) {w : Nat} (hw : w = 1 ∨ w = 4) : ∀ p, p < 3 → ll_A (ll_sr x) p < 3 ∧ ll_B (ll_ss x w) p < 9 := by
  have b6 := (ll_fle x 6 (m := 15) 4 (by decide) (by decide)).2
  have b10 := (ll_fle x 10 (m := 15) 4 (by decide) (by decide)).2
  have b14 := (ll_fle x 14 (m := 15) 4 (by decide) (by decide)).2
  unfold ll_sr ll_ss
  rcases hw with e | e <;> subst e
  · exact ll_wok (by omega) (by omega) (by omega) (by omega) (by omega) (by omega)
  · exact ll_wok (by omega) (by omega) (by omega) (by omega) (by omega) (by omega)
theorem ll_rw {j w : Nat} {y : Int32} (hj : j < 16) (hw : w = 1 ∨ w = 4) (hy : y = nI (2 * w + 1)) : nI j - nI j / y * y + 4 - nI w = nI (j % (2 * w + 1) + 4 - w) := by
  rw [ll_rem (d := 2 * w + 1) (by omega) (by omega) (by omega) hy]
  have e : nI (j % (2 * w + 1)) + 4 = nI (j % (2 * w + 1) + 4) := nI_add _ 4
  rw [e, pk_sub (by omega)]
section
variable {f0 f1 f2 g0 g1 g2 : Int32} {a1 a2 a3 a4 a5 a6 a7 a8 a9 b1 b2 b3 b4 b5 b6 b7 b8 b9 : Nat → Int32}
theorem ll_lstmt {post : Int32 → St2 → Prop} {n w : Nat} {x : Int32} (hn : n < 4) (hw : w = 1 ∨ w = 4) (H : post (nI n) (nI (n + 1), 0, f2, a1, upd a2 n (nI (ll_so x)), upd a3 n (ll_sr x), upd a4 n (ll_ss x w), upd a5 n (ll_sk x), a6, a7, a8, a9)) :
    wpL_statement post (nI n, f1, f2, a1, a2, a3, a4, a5, a6, a7, a8, a9) x (nI w) := by
  obtain ⟨e0, l0⟩ := ll_f0e x (m := 3) 2 (by decide) (by decide)
  obtain ⟨e1, l1⟩ := ll_fle x 2 (m := 3) 2 (by decide) (by decide)
  obtain ⟨e2, l2⟩ := ll_fle x 4 (m := 3) 2 (by decide) (by decide)
  obtain ⟨e3, l3⟩ := ll_fle x 6 (m := 15) 4 (by decide) (by decide)
  obtain ⟨e4, l4⟩ := ll_fle x 10 (m := 15) 4 (by decide) (by decide)
  obtain ⟨e5, l5⟩ := ll_fle x 14 (m := 15) 4 (by decide) (by decide)
  obtain ⟨e6, l6⟩ := ll_fle x 18 (m := 15) 4 (by decide) (by decide)
  unfold wpL_statement
  dsimp only
  rw [e0, e1, e2, e3, e4, e5, e6]
  have q3 : ¬ (3 : Int32) = 0 := by decide
  have q7 : ¬ (7 : Int32) = 0 := by decide
  have qw : ¬ nI (2 * w + 1) = 0 := nI_ne0 (by omega) (by omega)
  have ew : 2 * nI w + 1 = nI (2 * w + 1) := by
    have e : (2 : Int32) * nI w = nI (2 * w) := pk_mul 2 w
    rw [e, nI_1]
  refine ⟨q3, q3, q3, nm_r (e' := ll_sr x) ?_ (nm_r ew ⟨qw, nm_r (ll_rw (by omega) hw rfl) ⟨qw, nm_r (ll_rw (by omega) hw rfl) ⟨qw, nm_r (ll_rw (by omega) hw rfl) ⟨q7, ?_⟩⟩⟩⟩)⟩
  · have r0 : nI (ll_f0 x 3) - nI (ll_f0 x 3) / 3 * 3 = nI (ll_f0 x 3 % 3) := ll_rem (d := 3) (by omega) (by omega) (by omega) rfl
    have r1 : nI (ll_fl x 2 3) - nI (ll_fl x 2 3) / 3 * 3 = nI (ll_fl x 2 3 % 3) := ll_rem (d := 3) (by omega) (by omega) (by omega) rfl
    have r2 : nI (ll_fl x 4 3) - nI (ll_fl x 4 3) / 3 * 3 = nI (ll_fl x 4 3 % 3) := ll_rem (d := 3) (by omega) (by omega) (by omega) rfl
    rw [r0, r1, r2, ll_w4]
    rfl
  · have r6 : nI (ll_fl x 18 15) - nI (ll_fl x 18 15) / 7 * 7 = nI (ll_fl x 18 15 % 7) := ll_rem (d := 7) (by omega) (by omega) (by omega) rfl
    rw [ll_w16, r6]
    exact ll_stmt hn (by omega) (ll_sok x hw) H
end
section
variable {f0 f1 f2 g0 g1 g2 : Int32} {a1 o r h k a6 a7 a8 a9 b1 b6 b7 b8 b9 : Nat → Int32} {post : Int32 → Prop} {L : Nat} {xs : Nat → Int32} {kc ks : Nat}
theorem ll_law297 {n a lo hi : Nat} (hL : L ≤ 260) (hlo : 4 ≤ lo) (hl : lo ≤ hi) (hhi : hi ≤ 27) (hn : n < 5) (ha : a + 1 < n) (hok : ll_ok n r h) (hd : g1 = 0 ∨ ll_P n o r h g2 b7 b8) (hab : ∀ j, j < 96 → a1 j = b1 j) (H : post 1) :
    ∃ f, wL_law_297 post L xs (nI lo) (nI hi) (nI a) kc ks (nI n) f1 f2 a1 o r h k a6 a7 a8 a9 (nI n) g1 g2 b1 o r h k b6 b7 b8 b9 f 1 0 := by
  refine pk_loop (fun f i v => wL_law_297 post L xs (nI lo) (nI hi) (nI a) kc ks (nI n) f1 f2 a1 o r h k a6 a7 a8 a9 (nI n) g1 g2 b1 o r h k b6 b7 b8 b9 f v (nI i)) (fun i v => v = 0 ∨ (v = 1 ∧ (0 < i → ¬ ll_pr o r h a (a + 1) 0))) 9 0 1 (by omega) (Or.inr ⟨rfl, fun z => absurd z (by omega)⟩) ?_ ?_
  · intro f v hv
    refine pk_le 9 9 (fun _ => ?_) (fun z => absurd z (by omega))
    rw [nI_1 a]
    refine ll_exchange hn ha (br_t rfl ?_)
    refine ll_runT hn (ll_swok hok ha) hlo hl hhi (Or.inl rfl) (fun f g c6 c7 c8 c9 _ => ?_)
    refine ll_runT hn hok hlo hl hhi hd (fun f' g' d6 d7 d8 d9 _ => br_t rfl ?_)
    refine br_c (fun _ => ll_law402 hL hlo hl hhi H) (fun z => ?_)
    refine ll_same (fun j hj => ?_) (br_f (by decide) (ll_law402 hL hlo hl hhi H))
    rcases hv with hv | ⟨_, hv⟩
    · exact absurd hv z
    · rw [ll_swrun hok ha hlo (by omega) (hv (by omega))]
      exact ll_runG hok hlo (by omega) hab j hj
  · intro f i v hi' hv hw
    refine pk_le 9 i (fun z => absurd z (by omega)) (fun _ => ?_)
    have next0 := hw 0 (Or.inl rfl)
    rcases hv with hv | ⟨hv, hv2⟩
    · subst hv
      exact br_t rfl (nm_r (nI_1 i) next0)
    · subst hv
      rw [nI_1 a]
      refine br_f (by decide) (ll_mustPrecede hn (by omega) ha hi' (fun z => br_f (by decide) (nm_r (nI_1 i) next0)) (fun z => br_t rfl ?_))
      refine ll_mustPrecede hn ha (by omega) hi' (fun z2 => br_f (by decide) (nm_r (nI_1 i) next0)) (fun z2 => br_t rfl (nm_r (nI_1 i) (hw 1 (Or.inr ⟨rfl, fun _ => ?_⟩))))
      rcases Nat.eq_zero_or_pos i with q | q
      · subst q
        exact z
      · exact hv2 q
theorem ll_law254 {n lo hi : Nat} {x z : Int32} (hL : L ≤ 260) (hlo : 4 ≤ lo) (hl : lo ≤ hi) (hhi : hi ≤ 27) (hn : n < 5) (hn0 : 0 < n) (hok : ll_ok n r h) (hd : g1 = 0 ∨ ll_P n o r h g2 b7 b8) (H : post 1) :
    wL_law_254 post L xs x (nI lo) (nI hi) (nI n) z z kc ks (nI n) f1 f2 a1 o r h k a6 a7 a8 a9 (nI n) g1 g2 b1 o r h k b6 b7 b8 b9 := by
  unfold wL_law_254
  refine br_t rfl (ll_fill hL (fun c hc => ll_fill hL (fun d hd2 => ?_)))
  obtain ⟨e, l⟩ := ll_fle x 15 (m := 3) 2 (by decide) (by decide)
  dsimp only
  rw [e]
  refine ⟨nI_ne0 hn0 (by omega), nm_r (ll_rem (d := n) (by omega) hn0 (by omega) rfl) ?_⟩
  have hm := Nat.mod_lt (ll_fl x 15 3) hn0
  refine pk_le n (ll_fl x 15 3 % n + 1) (fun _ => ll_law402 hL hlo hl hhi H) (fun z => ?_) rfl (nI_1 _)
  exact ll_law297 hL hlo hl hhi hn z hok hd (fun j hj => (hc j hj).trans (hd2 j hj).symm) H
theorem ll_law201 {n lo hi : Nat} {x u v : Int32} (hL : L ≤ 260) (hlo : 4 ≤ lo) (hl : lo ≤ hi) (hhi : hi ≤ 27) (hn : n < 5) (hn0 : 0 < n) (hok : ll_ok n r h) (hc : f1 = 0 ∨ ll_P n o r h f2 a7 a8) (hd : g1 = 0 ∨ ll_P n o r h g2 b7 b8) (huv : u + v = nI (n * (hi - lo + 1))) (hab : ∀ j, j < 96 → a1 j = b1 j) (H : post 1) :
    wL_law_201 post L xs x (nI lo) (nI hi) (nI n) (nI (n * (hi - lo + 1))) u v kc ks (nI n) f1 f2 a1 o r h k a6 a7 a8 a9 (nI n) g1 g2 b1 o r h k b6 b7 b8 b9 := by
  unfold wL_law_201
  have e : nI (n * (hi - lo + 1)) = (nI hi - nI lo + 1) * nI n := by
    rw [pk_sub hl, nI_1, pk_mul, Nat.mul_comm]
  refine br_t e (br_t huv (ll_same hab (br_f (by decide) ?_)))
  rcases Nat.lt_or_ge lo hi with q | q
  · refine ll_runN hn hok hlo q hhi (pk_le hi lo (fun z => absurd z (by omega)) (fun _ => ?_))
    exact ll_law254 hL hlo hl hhi hn hn0 hok hd H
  · have e2 : hi = lo := by omega
    subst e2
    refine ll_runT hn hok hlo hl hhi hc (fun f g c6 c7 c8 c9 _ => pk_le hi hi (fun _ => ?_) (fun z => absurd z (by omega)))
    rw [show n * (hi - hi + 1) = n by rw [Nat.sub_self, Nat.zero_add, Nat.mul_one]]
    exact ll_law254 hL hlo hl hhi hn hn0 hok hd H
end
section
variable {a1 b1 : Nat → Int32} {z : Nat → Int32} {post : Int32 → Prop} {L : Nat} {xs : Nat → Int32} {kc ks : Nat}
theorem ll_updok {n : Nat} {r h : Nat → Int32} {R S : Int32} (hok : ll_ok n r h) (hR : ∀ p, p < 3 → ll_A R p < 3 ∧ ll_B S p < 9) : ll_ok (n + 1) (upd r n R) (upd h n S) := by
  intro s hs p hp
  by_cases e : s = n
  · rw [e, pk_us, pk_us]
    exact hR p hp
  · rw [pk_un e, pk_un e]
    exact hok s (by omega) p hp
theorem ll_law96 {n lo mid hi : Nat} {x : Int32} (hL : L ≤ 260) (hlo : 4 ≤ lo) (hm1 : lo ≤ mid) (hm2 : mid ≤ hi) (hhi : hi ≤ 27) (hn : n < 5) (hn0 : 0 < n) (hab : ∀ j, j < 96 → a1 j = b1 j) (H : post 1) :
    ∃ f, wL_law_96 post L xs x (nI lo) (nI hi) (nI mid) (nI n) kc ks f 0 0 0 0 a1 z z z z z z z z 0 0 0 b1 z z z z z z z z := by
  refine pk_loop (σ := (Nat → Int32) × (Nat → Int32) × (Nat → Int32) × (Nat → Int32)) (fun f i v => wL_law_96 post L xs x (nI lo) (nI hi) (nI mid) (nI n) kc ks f (nI i) (nI i) 0 0 a1 v.1 v.2.1 v.2.2.1 v.2.2.2 z z z z (nI i) 0 0 b1 v.1 v.2.1 v.2.2.1 v.2.2.2 z z z z) (fun i v => ll_ok i v.2.1 v.2.2.1) n 0 (z, z, z, z) (by omega) (fun s hs => absurd hs (by omega)) ?_ ?_
  · intro f v hok
    obtain ⟨o, r, h, k⟩ := v
    dsimp only at hok ⊢
    refine pk_le n n (fun _ => ?_) (fun z => absurd z (by omega))
    refine ll_runT hn hok hlo (by omega) hhi (Or.inl rfl) (fun f g c6 c7 c8 c9 hPc => ?_)
    refine ll_runT hn hok hlo hm1 (by omega) (Or.inl rfl) (fun f' g' d6 d7 d8 d9 hPd => ?_)
    refine pk_le hi mid (fun q => ?_) (fun q => ?_)
    · have e : mid = hi := by omega
      subst e
      exact ll_law201 hL hlo hm1 hhi hn hn0 hok (Or.inr hPc) (Or.inr hPd) (by rw [← nI_0, nI_add, Nat.add_zero]) (ll_runG hok hlo (by omega) hab) H
    · rw [nI_1 mid]
      refine ll_runT hn hok (by omega) (by omega) hhi (Or.inr hPd) (fun f'' g'' e6 e7 e8 e9 hPd2 => ?_)
      refine ll_law201 hL hlo (by omega) hhi hn hn0 hok (Or.inr hPc) (Or.inr hPd2) ?_ ?_ H
      · rw [nI_add, ← Nat.mul_add]
        exact congrArg (fun t => nI (n * t)) (by omega)
      · intro j hj
        rw [show hi + 1 - lo = (mid + 1 - lo) + (hi + 1 - (mid + 1)) by omega, ll_runA, show lo + (mid + 1 - lo) = mid + 1 by omega]
        exact ll_runG hok (by omega) (by omega) (ll_runG hok hlo (by omega) hab) j hj
  · intro f i v hi' hok hw
    obtain ⟨o, r, h, k⟩ := v
    dsimp only at hok hw ⊢
    have step : ∀ w, (w = 1 ∨ w = 4) → wL_law_123 post L xs (wL_law_96 post L xs x (nI lo) (nI hi) (nI mid) (nI n) kc ks f) x (nI lo) (nI hi) (nI mid) (nI n) (nI i) (nI w) kc ks (nI i) 0 0 a1 o r h k z z z z (nI i) 0 0 b1 o r h k z z z z := by
      intro w hw2
      unfold wL_law_123
      have e20 : 20 + nI i = nI (20 + i) := nI_add 20 i
      rw [e20]
      refine ll_cell hL (by omega) (ll_lstmt (by omega) hw2 (ll_lstmt (by omega) hw2 (nm_r (nI_1 i) ?_)))
      exact hw (upd o i (nI (ll_so (ll_c L xs (20 + i)))), upd r i (ll_sr (ll_c L xs (20 + i))), upd h i (ll_ss (ll_c L xs (20 + i)) w), upd k i (ll_sk (ll_c L xs (20 + i)))) (ll_updok hok (ll_sok _ hw2))
    refine pk_le n i (fun q => absurd q (by omega)) (fun _ => ll_cell (k := 7) hL (by omega) ?_)
    exact br_c (fun _ => step 4 (Or.inr rfl)) (fun _ => step 1 (Or.inl rfl))
theorem ll_law35 {lo hi : Nat} {x : Int32} (hL : L ≤ 260) (hlo : 4 ≤ lo) (hl : lo ≤ hi) (hhi : hi ≤ 27) (H : post 1) : wL_law_35 post L xs x (nI lo) (nI hi) 0 0 := by
  unfold wL_law_35
  obtain ⟨e1, l1⟩ := ll_fle x 8 (m := 31) 5 (by decide) (by decide)
  obtain ⟨e2, l2⟩ := ll_fle x 13 (m := 3) 2 (by decide) (by decide)
  have ed : nI hi - nI lo + 1 = nI (hi - lo + 1) := by
    rw [pk_sub hl, nI_1]
  have hm := Nat.mod_lt (ll_fl x 8 31) (show 0 < hi - lo + 1 by omega)
  have e3 : (1 : Int32) + nI (ll_fl x 13 3) = nI (1 + ll_fl x 13 3) := nI_add 1 _
  rw [ed, e1, e2, e3]
  refine ⟨nI_ne0 (by omega) (by omega), nm_r (e' := nI (lo + ll_fl x 8 31 % (hi - lo + 1))) ?_ ⟨by decide, by decide, 9, 128, by decide, by decide, ?_⟩⟩
  · rw [ll_rem (d := hi - lo + 1) (by omega) (by omega) (by omega) rfl, nI_add]
  · refine ⟨by decide, by decide, by decide, by decide, by decide, by decide, by decide, by decide, by decide, by decide, by decide, by decide, by decide, by decide, by decide, by decide, by decide, by decide, by decide, by decide, 9, 128, by decide, by decide, ?_⟩
    refine ⟨by decide, by decide, by decide, by decide, by decide, by decide, by decide, by decide, by decide, by decide, by decide, by decide, by decide, by decide, by decide, by decide, by decide, by decide, ?_⟩
    refine ll_fill hL (fun c hc => ll_fill hL (fun d hd => nm_e ?_))
    exact ll_law96 hL hlo (by omega) (by omega) hhi (by omega) (by omega) (fun j hj => (hc j hj).trans (hd j hj).symm) H
end
theorem i_vc (xs : Nat → Int32) (L : Nat) (hL : L ≤ 260) : wpL_law (fun r => r = 1) L xs := by
  unfold wpL_law
  refine ll_cell (k := 6) hL (by omega) ?_
  generalize ll_c L xs 6 = x
  obtain ⟨e0, l0⟩ := ll_f0e x (m := 15) 4 (by decide) (by decide)
  obtain ⟨e1, l1⟩ := ll_fle x 4 (m := 15) 4 (by decide) (by decide)
  have e3 : (4 : Int32) + nI (ll_f0 x 15) = nI (4 + ll_f0 x 15) := nI_add 4 _
  rw [e0, e1]
  refine nm_r e3 (nm_r (nI_add _ _) ?_)
  refine pk_le (4 + ll_f0 x 15 + ll_fl x 4 15) 27 (fun q => ?_) (fun q => ?_)
  · exact ll_law35 hL (by omega) (by omega) q rfl
  · exact ll_law35 (hi := 27) hL (by omega) (by omega) (by omega) rfl
end
