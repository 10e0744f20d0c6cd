section
/-! PURE: items on a belt and gates. An item's state: the gate that comes next, its bin (-1: none yet), the time at which it left; a gate's: open, used, free, holds, count. -/
abbrev gt_IS : Type := Nat × Int32 × Nat
abbrev gt_GS : Type := Int32 × Int32 × Nat × Int32 × Int32
abbrev gt_Dy : Type := (Nat → gt_IS) × (Nat → gt_GS)
/-- what a pass doesn't change: gates, ats, lengths, orders, stuck, heights -/
abbrev gt_SS : Type := Nat × (Nat → Nat) × (Nat → Nat) × (Nat → Int32) × (Nat → Int32) × (Nat → Int32)
def gt_fr (a : Nat → Nat) (i g : Nat) : Nat := a i + 1000 * (g + 1)
def gt_may (S : gt_SS) (g t : Nat) (q : gt_GS) : Bool := decide (S.2.2.2.2.1 g = 0) && (decide (q.2.1 = 0) || decide (q.2.2.1 + 200 ≤ t))
def gt_want (S : gt_SS) (i g : Nat) (q : gt_GS) : Bool := decide (g < S.1) && (decide (S.2.2.2.1 i = nI g) && decide (q.2.2.2.1 < S.2.2.2.2.2 g))
/-- whether item i, at its gate, goes into the bin -/
def gt_go (S : gt_SS) (i : Nat) (p : gt_IS) (q : gt_GS) : Bool :=
  decide (p.1 = S.1) || (if gt_may S p.1 (gt_fr S.2.1 i p.1) q = true then gt_want S i p.1 q else !decide (q.1 = 0))
def gt_aI (S : gt_SS) (i : Nat) (p : gt_IS) (q : gt_GS) : gt_IS :=
  if gt_go S i p q = true then (p.1, nI p.1, gt_fr S.2.1 i p.1) else (p.1 + 1, p.2)
def gt_aG (S : gt_SS) (i : Nat) (p : gt_IS) (q : gt_GS) : gt_GS :=
  if gt_go S i p q = true then (1, 1, gt_fr S.2.1 i p.1 + S.2.2.1 i, q.2.2.2.1 + 1, q.2.2.2.2 + 1) else (0, 1, gt_fr S.2.1 i p.1 + S.2.2.1 i, q.2.2.2)
/-- item i comes to its next gate -/
def gt_act (S : gt_SS) (d : gt_Dy) (i : Nat) : gt_Dy :=
  (va_up d.1 i (gt_aI S i (d.1 i) (d.2 (d.1 i).1)), va_up d.2 (d.1 i).1 (gt_aG S i (d.1 i) (d.2 (d.1 i).1)))
theorem gt_act_eq (S : gt_SS) (d : gt_Dy) (i : Nat) : gt_act S d i = (va_up d.1 i (gt_aI S i (d.1 i) (d.2 (d.1 i).1)), va_up d.2 (d.1 i).1 (gt_aG S i (d.1 i) (d.2 (d.1 i).1))) := rfl
theorem gt_act_i (S : gt_SS) (d : gt_Dy) (i : Nat) : (gt_act S d i).1 i = gt_aI S i (d.1 i) (d.2 (d.1 i).1) := va_up_self _ _ _
theorem gt_act_j (S : gt_SS) (d : gt_Dy) {i j : Nat} (h : j ≠ i) : (gt_act S d i).1 j = d.1 j := va_up_ne _ _ h
theorem gt_act_g (S : gt_SS) (d : gt_Dy) {i g : Nat} (h : g ≠ (d.1 i).1) : (gt_act S d i).2 g = d.2 g := va_up_ne _ _ h
theorem gt_act_h (S : gt_SS) (d : gt_Dy) (i : Nat) : (gt_act S d i).2 (d.1 i).1 = gt_aG S i (d.1 i) (d.2 (d.1 i).1) := va_up_self _ _ _
theorem gt_up_comm {α : Type} (f : Nat → α) {a b : Nat} (x y : α) (h : a ≠ b) : va_up (va_up f a x) b y = va_up (va_up f b y) a x := by
  funext j
  unfold va_up
  by_cases h1 : j = b
  · have h2 : ¬ j = a := fun e => h (by rw [← e, h1])
    rw [if_pos h1, if_neg h2, if_pos h1]
  · rw [if_neg h1, if_neg h1]
theorem gt_aI_ge (S : gt_SS) (i : Nat) (p : gt_IS) (q : gt_GS) : p.1 ≤ (gt_aI S i p q).1 := by
  unfold gt_aI
  split
  · exact Nat.le_refl _
  · exact Nat.le_succ _
/-- the two orders of two items at different gates -/
theorem gt_comm (S : gt_SS) (d : gt_Dy) {i j : Nat} (hij : i ≠ j) (hg : (d.1 i).1 ≠ (d.1 j).1) : gt_act S (gt_act S d i) j = gt_act S (gt_act S d j) i := by
  have h1 := gt_act_j S d (i := i) (j := j) (Ne.symm hij)
  have h2 := gt_act_g S d (i := i) (g := (d.1 j).1) (Ne.symm hg)
  have h3 := gt_act_j S d (i := j) (j := i) hij
  have h4 := gt_act_g S d (i := j) (g := (d.1 i).1) hg
  rw [gt_act_eq S (gt_act S d i) j, h1, h2, gt_act_eq S (gt_act S d j) i, h3, h4]
  exact Prod.ext (gt_up_comm _ _ _ hij) (gt_up_comm _ _ _ hg)
/-- item i may come now: it is due, and all items ahead of it on the belt are farther on -/
def gt_En (n : Nat) (S : gt_SS) (t : Nat) (d : gt_Dy) (i : Nat) : Prop :=
  1 ≤ i ∧ i ≤ n ∧ (d.1 i).2.1 < 0 ∧ gt_fr S.2.1 i (d.1 i).1 ≤ t ∧ ∀ j, 1 ≤ j → j < i → (d.1 j).2.1 < 0 → (d.1 i).1 < (d.1 j).1
def gt_Ok (n : Nat) (S : gt_SS) (t : Nat) : gt_Dy → List Nat → Prop
  | _, [] => True
  | d, i :: l => gt_En n S t d i ∧ gt_Ok n S t (gt_act S d i) l
def gt_rn (S : gt_SS) (d : gt_Dy) (l : List Nat) : gt_Dy := l.foldl (gt_act S) d
theorem gt_en_ne {n : Nat} {S : gt_SS} {t : Nat} {d : gt_Dy} {i j : Nat} (hi : gt_En n S t d i) (hj : gt_En n S t d j) (h : i ≠ j) : (d.1 i).1 ≠ (d.1 j).1 := by
  rcases Nat.lt_or_gt_of_ne h with q | q
  · have := hj.2.2.2.2 i hi.1 q hi.2.2.1
    omega
  · have := hi.2.2.2.2 j hj.1 q hj.2.2.1
    omega
theorem gt_en_keep {n : Nat} {S : gt_SS} {t : Nat} {d : gt_Dy} {i j : Nat} (hi : gt_En n S t d i) (hj : gt_En n S t d j) (h : i ≠ j) : gt_En n S t (gt_act S d j) i := by
  have e := gt_act_j S d (i := j) (j := i) h
  refine ⟨hi.1, hi.2.1, by rw [e]; exact hi.2.2.1, by rw [e]; exact hi.2.2.2.1, fun k hk hki hb => ?_⟩
  rw [e]
  by_cases hkj : k = j
  · subst hkj
    rw [gt_act_i]
    exact Nat.lt_of_lt_of_le (hi.2.2.2.2 k hk hki hj.2.2.1) (gt_aI_ge _ _ _ _)
  · rw [gt_act_j S d hkj] at hb ⊢
    exact hi.2.2.2.2 k hk hki hb
theorem gt_swap {n : Nat} {S : gt_SS} {t : Nat} : ∀ (l : List Nat) (d : gt_Dy) (i : Nat), gt_Ok n S t d l → (∀ k, ¬ gt_En n S t (gt_rn S d l) k) → gt_En n S t d i →
    ∃ l', gt_Ok n S t (gt_act S d i) l' ∧ gt_rn S (gt_act S d i) l' = gt_rn S d l
  | [], d, i, _, hT, hi => absurd hi (hT i)
  | j :: l, d, i, hO, hT, hi => by
    by_cases h : i = j
    · subst h
      exact ⟨l, hO.2, rfl⟩
    · obtain ⟨l', h1, h2⟩ := gt_swap l (gt_act S d j) i hO.2 hT (gt_en_keep hi hO.1 h)
      have hc := gt_comm S d h (gt_en_ne hi hO.1 h)
      refine ⟨j :: l', ⟨gt_en_keep hO.1 hi (Ne.symm h), ?_⟩, ?_⟩
      · rw [hc]; exact h1
      · show gt_rn S (gt_act S (gt_act S d i) j) l' = gt_rn S (gt_act S d j) l
        rw [hc]; exact h2
/-- all ways to let the items come end alike -/
theorem gt_conf {n : Nat} {S : gt_SS} {t : Nat} : ∀ (l1 l2 : List Nat) (d : gt_Dy), gt_Ok n S t d l1 → gt_Ok n S t d l2 → (∀ k, ¬ gt_En n S t (gt_rn S d l1) k) → (∀ k, ¬ gt_En n S t (gt_rn S d l2) k) → gt_rn S d l1 = gt_rn S d l2
  | [], [], _, _, _, _, _ => rfl
  | [], j :: _, d, _, h2, t1, _ => absurd h2.1 (t1 j)
  | i :: l1, l2, d, h1, h2, t1, t2 => by
    obtain ⟨l', a, b⟩ := gt_swap l2 d i h2 t2 h1.1
    rw [← b]
    exact gt_conf l1 l' (gt_act S d i) h1.2 a t1 (by rw [b]; exact t2)
theorem gt_Ok_snoc {n : Nat} {S : gt_SS} {t : Nat} : ∀ (l : List Nat) (d : gt_Dy) (i : Nat), gt_Ok n S t d l → gt_En n S t (gt_rn S d l) i → gt_Ok n S t d (l ++ [i])
  | [], _, _, _, h => ⟨h, trivial⟩
  | j :: l, d, i, h1, h2 => ⟨h1.1, gt_Ok_snoc l (gt_act S d j) i h1.2 h2⟩
theorem gt_rn_snoc (S : gt_SS) (d : gt_Dy) (l : List Nat) (i : Nat) : gt_rn S d (l ++ [i]) = gt_act S (gt_rn S d l) i := by
  unfold gt_rn
  rw [List.foldl_append]
  rfl
/-- what holds of what a pass doesn't change -/
def gt_Hs (n : Nat) (S : gt_SS) : Prop := 1 ≤ S.1 ∧ S.1 ≤ 12 ∧ n ≤ 400 ∧ (∀ i, 1 ≤ i → i ≤ n → S.2.1 i ≤ 1000000000 ∧ 1 ≤ S.2.2.1 i ∧ S.2.2.1 i ≤ 900) ∧ ∀ i j, 1 ≤ i → i < j → j ≤ n → S.2.1 i < S.2.1 j
/-- what holds of items and gates at all times -/
def gt_HI (S : gt_SS) (i : Nat) (p : gt_IS) : Prop := p.1 ≤ S.1 ∧ (p.2.1 = -1 ∨ (p.2.1 = nI p.1 ∧ p.2.2 = gt_fr S.2.1 i p.1))
def gt_HG (q : gt_GS) : Prop := (q.1 = 0 ∨ q.1 = 1) ∧ (q.2.1 = 0 ∨ q.2.1 = 1) ∧ q.2.2.1 ≤ 1000000900
def gt_Hd (n : Nat) (S : gt_SS) (d : gt_Dy) : Prop := (∀ i, 1 ≤ i → i ≤ n → gt_HI S i (d.1 i)) ∧ ∀ g, g ≤ S.1 → gt_HG (d.2 g)
theorem gt_nI_nneg {k : Nat} (h : k < 2 ^ 31) : ¬ nI k < 0 := nI_pos h
theorem gt_m1_neg : (-1 : Int32) < 0 := by decide
theorem gt_HI_belt {S : gt_SS} {i : Nat} {p : gt_IS} (h : gt_HI S i p) (hG : S.1 ≤ 12) : p.2.1 < 0 ↔ p.2.1 = -1 := by
  refine ⟨fun hb => ?_, fun e => by rw [e]; exact gt_m1_neg⟩
  rcases h.2 with e | ⟨e, -⟩
  · exact e
  · rw [e] at hb
    exact absurd hb (gt_nI_nneg (by have := h.1; omega))
theorem gt_go_last {S : gt_SS} {i : Nat} {p : gt_IS} {q : gt_GS} (h : ¬ gt_go S i p q = true) : p.1 ≠ S.1 := by
  intro e
  apply h
  unfold gt_go
  simp [e]
theorem gt_Hd_act {n : Nat} {S : gt_SS} {t : Nat} {d : gt_Dy} {i : Nat} (hs : gt_Hs n S) (ht : t ≤ 1000000000) (h : gt_Hd n S d) (he : gt_En n S t d i) : gt_Hd n S (gt_act S d i) := by
  have hp := h.1 i he.1 he.2.1
  have hl := hs.2.2.2.1 i he.1 he.2.1
  have hf := he.2.2.2.1
  refine ⟨fun j h1 h2 => ?_, fun g hg => ?_⟩
  · by_cases hj : j = i
    · subst hj
      rw [gt_act_i]
      unfold gt_aI
      split
      · exact ⟨hp.1, Or.inr ⟨rfl, rfl⟩⟩
      · rename_i hn
        have := gt_go_last hn
        have hp1 := hp.1
        refine ⟨by show (d.1 j).1 + 1 ≤ S.1; omega, Or.inl ?_⟩
        exact (gt_HI_belt hp hs.2.1).mp he.2.2.1
    · rw [gt_act_j S d hj]
      exact h.1 j h1 h2
  · by_cases hgi : g = (d.1 i).1
    · subst hgi
      rw [gt_act_h]
      unfold gt_aG
      split
      · exact ⟨Or.inr rfl, Or.inr rfl, by show gt_fr S.2.1 i (d.1 i).1 + S.2.2.1 i ≤ 1000000900; omega⟩
      · exact ⟨Or.inl rfl, Or.inr rfl, by show gt_fr S.2.1 i (d.1 i).1 + S.2.2.1 i ≤ 1000000900; omega⟩
    · rw [gt_act_g S d hgi]
      exact h.2 g hg
theorem gt_Hd_rn {n : Nat} {S : gt_SS} {t : Nat} (hs : gt_Hs n S) (ht : t ≤ 1000000000) : ∀ (l : List Nat) (d : gt_Dy), gt_Hd n S d → gt_Ok n S t d l → gt_Hd n S (gt_rn S d l)
  | [], _, h, _ => h
  | i :: l, d, h, hO => gt_Hd_rn hs ht l (gt_act S d i) (gt_Hd_act hs ht h hO.1) hO.2
/-! the order of those that are out: by time, then by number -/
def gt_lx (d : gt_Dy) (a b : Nat) : Prop := (d.1 a).2.2 < (d.1 b).2.2 ∨ ((d.1 a).2.2 = (d.1 b).2.2 ∧ a < b)
theorem gt_lx_asymm {d : gt_Dy} {a b : Nat} (h : gt_lx d a b) (k : gt_lx d b a) : False := by
  unfold gt_lx at h k
  omega
theorem gt_lx_trans {d : gt_Dy} {a b c : Nat} (h : gt_lx d a b) (k : gt_lx d b c) : gt_lx d a c := by
  unfold gt_lx at *
  omega
theorem gt_sorted_eq {d : gt_Dy} : ∀ (l1 l2 : List Nat), l1.Pairwise (gt_lx d) → l2.Pairwise (gt_lx d) → (∀ x, x ∈ l1 ↔ x ∈ l2) → l1 = l2
  | [], [], _, _, _ => rfl
  | [], b :: _, _, _, h => absurd ((h b).mpr List.mem_cons_self) List.not_mem_nil
  | a :: _, [], _, _, h => absurd ((h a).mp List.mem_cons_self) List.not_mem_nil
  | a :: l1, b :: l2, h1, h2, h => by
    have p1 := List.pairwise_cons.mp h1
    have p2 := List.pairwise_cons.mp h2
    have hab : a = b := by
      rcases List.mem_cons.mp ((h a).mp List.mem_cons_self) with e | e
      · exact e
      · rcases List.mem_cons.mp ((h b).mpr List.mem_cons_self) with e2 | e2
        · exact e2.symm
        · exact (gt_lx_asymm (p2.1 a e) (p1.1 b e2)).elim
    subst hab
    refine congrArg (List.cons a) (gt_sorted_eq l1 l2 p1.2 p2.2 fun x => ⟨fun hx => ?_, fun hx => ?_⟩)
    · rcases List.mem_cons.mp ((h x).mp (List.mem_cons_of_mem _ hx)) with e | e
      · subst e
        exact (gt_lx_asymm (p1.1 x hx) (p1.1 x hx)).elim
      · exact e
    · rcases List.mem_cons.mp ((h x).mpr (List.mem_cons_of_mem _ hx)) with e | e
      · subst e
        exact (gt_lx_asymm (p2.1 x hx) (p2.1 x hx)).elim
      · exact e
/-- a pass up to time t: items and gates, and the list of those that are out -/
def gt_Pass (n : Nat) (S : gt_SS) (t : Nat) (d d' : gt_Dy) (ol' : List Nat) : Prop :=
  (∃ l, gt_Ok n S t d l ∧ gt_rn S d l = d') ∧ (∀ i, 1 ≤ i → i ≤ n → (d'.1 i).2.1 < 0 → t < gt_fr S.2.1 i (d'.1 i).1) ∧ ol'.Pairwise (gt_lx d') ∧ ∀ i, i ∈ ol' ↔ 1 ≤ i ∧ i ≤ n ∧ ¬ (d'.1 i).2.1 < 0
theorem gt_Pass_one {n : Nat} {S : gt_SS} {t : Nat} {d d1 d2 : gt_Dy} {o1 o2 : List Nat} (h1 : gt_Pass n S t d d1 o1) (h2 : gt_Pass n S t d d2 o2) : d1 = d2 ∧ o1 = o2 := by
  obtain ⟨⟨l1, a1, b1⟩, t1, s1, m1⟩ := h1
  obtain ⟨⟨l2, a2, b2⟩, t2, s2, m2⟩ := h2
  have e : d1 = d2 := by
    rw [← b1, ← b2]
    refine gt_conf l1 l2 d a1 a2 (fun k hk => ?_) (fun k hk => ?_)
    · rw [b1] at hk
      have := t1 k hk.1 hk.2.1 hk.2.2.1
      have := hk.2.2.2.1
      omega
    · rw [b2] at hk
      have := t2 k hk.1 hk.2.1 hk.2.2.1
      have := hk.2.2.2.1
      omega
  subst e
  exact ⟨rfl, gt_sorted_eq o1 o2 s1 s2 fun x => by rw [m1, m2]⟩
/-! a measure for the loop that lets the items come one by one -/
def gt_wt (p : gt_IS) : Nat := if p.2.1 < 0 then 14 - p.1 else 0
def gt_sm (f : Nat → Nat) : Nat → Nat
  | 0 => 0
  | n + 1 => gt_sm f n + f (n + 1)
theorem gt_sm_congr {f g : Nat → Nat} : ∀ (n : Nat), (∀ j, 1 ≤ j → j ≤ n → f j = g j) → gt_sm f n = gt_sm g n
  | 0, _ => rfl
  | n + 1, h => by
    show gt_sm f n + f (n + 1) = gt_sm g n + g (n + 1)
    rw [gt_sm_congr n (fun j h1 h2 => h j h1 (by omega)), h (n + 1) (by omega) (by omega)]
theorem gt_sm_lt {f g : Nat → Nat} {i : Nat} : ∀ (n : Nat), 1 ≤ i → i ≤ n → g i < f i → (∀ j, j ≠ i → g j = f j) → gt_sm g n < gt_sm f n
  | 0, h1, h2, _, _ => absurd h2 (by omega)
  | n + 1, h1, h2, h3, h4 => by
    show gt_sm g n + g (n + 1) < gt_sm f n + f (n + 1)
    by_cases e : i = n + 1
    · subst e
      have := gt_sm_congr (f := g) (g := f) n (fun j _ hj => h4 j (by omega))
      omega
    · have := gt_sm_lt n h1 (by omega) h3 h4
      have := h4 (n + 1) (fun q => e q.symm)
      omega
def gt_ms (n : Nat) (d : gt_Dy) : Nat := gt_sm (fun i => gt_wt (d.1 i)) n
theorem gt_ms_lt {n : Nat} {S : gt_SS} {t : Nat} {d : gt_Dy} {i : Nat} (hs : gt_Hs n S) (h : gt_Hd n S d) (he : gt_En n S t d i) : gt_ms n (gt_act S d i) < gt_ms n d := by
  refine gt_sm_lt n he.1 he.2.1 ?_ (fun j hj => by show gt_wt _ = gt_wt _; rw [gt_act_j S d hj])
  show gt_wt _ < gt_wt _
  rw [gt_act_i]
  have hp := (h.1 i he.1 he.2.1).1
  have hG := hs.2.1
  have hb := he.2.2.1
  unfold gt_wt
  rw [if_pos hb]
  unfold gt_aI
  split
  · rw [if_neg (gt_nI_nneg (k := (d.1 i).1) (by omega))]
    omega
  · show 14 - ((d.1 i).1 + 1) < 14 - (d.1 i).1
    omega
end
section
/-! PURE: the two schedules. A: always the item that comes first of all (the class). B: gate by gate, then the list is put in order (the reference). -/
/-- what holds of the list of those that are out, at the time 'now' -/
def gt_Ho (n : Nat) (S : gt_SS) (now : Nat) (d : gt_Dy) (ol : List Nat) : Prop :=
  ol.Pairwise (gt_lx d) ∧ (∀ i, i ∈ ol ↔ 1 ≤ i ∧ i ≤ n ∧ ¬ (d.1 i).2.1 < 0) ∧ (∀ i, 1 ≤ i → i ≤ n → (d.1 i).2.1 < 0 → now < gt_fr S.2.1 i (d.1 i).1) ∧ ∀ i, i ∈ ol → (d.1 i).2.2 ≤ now
def gt_A (n : Nat) (S : gt_SS) (t : Nat) (d0 d : gt_Dy) (ol : List Nat) : Prop :=
  (∃ l, gt_Ok n S t d0 l ∧ gt_rn S d0 l = d) ∧ gt_Hd n S d ∧ ol.Pairwise (gt_lx d) ∧ (∀ i, i ∈ ol ↔ 1 ≤ i ∧ i ≤ n ∧ ¬ (d.1 i).2.1 < 0) ∧
  (∀ j i, j ∈ ol → 1 ≤ i → i ≤ n → (d.1 i).2.1 < 0 → (d.1 j).2.2 < gt_fr S.2.1 i (d.1 i).1 ∨ ((d.1 j).2.2 = gt_fr S.2.1 i (d.1 i).1 ∧ j < i)) ∧ ∀ j, j ∈ ol → (d.1 j).2.2 ≤ t
theorem gt_A_init {n : Nat} {S : gt_SS} {now t : Nat} {d : gt_Dy} {ol : List Nat} (hd : gt_Hd n S d) (ho : gt_Ho n S now d ol) (ht : now ≤ t) : gt_A n S t d d ol := by
  refine ⟨⟨[], trivial, rfl⟩, hd, ho.1, ho.2.1, fun j i hj h1 h2 hb => Or.inl ?_, fun j hj => Nat.le_trans (ho.2.2.2 j hj) ht⟩
  have := ho.2.2.1 i h1 h2 hb
  have := ho.2.2.2 j hj
  omega
theorem gt_lx_act {S : gt_SS} {d : gt_Dy} {b x y : Nat} (hx : x ≠ b) (hy : y ≠ b) : gt_lx (gt_act S d b) x y ↔ gt_lx d x y := by
  unfold gt_lx
  rw [gt_act_j S d hx, gt_act_j S d hy]
/-- the item that comes first of all -/
def gt_Min (n : Nat) (S : gt_SS) (d : gt_Dy) (b : Nat) : Prop :=
  1 ≤ b ∧ b ≤ n ∧ (d.1 b).2.1 < 0 ∧ ∀ i, 1 ≤ i → i ≤ n → (d.1 i).2.1 < 0 → i ≠ b → gt_fr S.2.1 b (d.1 b).1 < gt_fr S.2.1 i (d.1 i).1 ∨ (gt_fr S.2.1 b (d.1 b).1 = gt_fr S.2.1 i (d.1 i).1 ∧ b < i)
theorem gt_Min_En {n : Nat} {S : gt_SS} {t : Nat} {d : gt_Dy} {b : Nat} (hs : gt_Hs n S) (hm : gt_Min n S d b) (ht : gt_fr S.2.1 b (d.1 b).1 ≤ t) : gt_En n S t d b := by
  refine ⟨hm.1, hm.2.1, hm.2.2.1, ht, fun j h1 h2 hb => ?_⟩
  have h3 := hm.2.2.2 j h1 (by have := hm.2.1; omega) hb (by omega)
  have h4 := hs.2.2.2.2 j b h1 h2 hm.2.1
  unfold gt_fr at h3
  omega
def gt_olS (S : gt_SS) (d : gt_Dy) (b : Nat) (ol : List Nat) : List Nat := if gt_go S b (d.1 b) (d.2 (d.1 b).1) = true then ol ++ [b] else ol
set_option maxRecDepth 20000 in
theorem gt_A_step {n : Nat} {S : gt_SS} {t : Nat} {d0 d : gt_Dy} {ol : List Nat} {b : Nat} (hs : gt_Hs n S) (ht : t ≤ 1000000000) (hA : gt_A n S t d0 d ol) (hm : gt_Min n S d b) (hb : gt_fr S.2.1 b (d.1 b).1 ≤ t) :
    gt_A n S t d0 (gt_act S d b) (gt_olS S d b ol) := by
  have he := gt_Min_En hs hm hb
  obtain ⟨⟨l, h1, h2⟩, hd, hp, hmem, hlex, htm⟩ := hA
  have hbo : b ∉ ol := fun h => ((hmem b).mp h).2.2 hm.2.2.1
  have hnb : ∀ j, j ∈ ol → j ≠ b := fun j hj e => hbo (e ▸ hj)
  have hG := hs.2.1
  have hnx := (hd.1 b hm.1 hm.2.1).1
  refine ⟨⟨l ++ [b], gt_Ok_snoc l d0 b h1 (by rw [h2]; exact he), by rw [gt_rn_snoc, h2]⟩, gt_Hd_act hs ht hd he, ?_⟩
  unfold gt_olS
  by_cases hg : gt_go S b (d.1 b) (d.2 (d.1 b).1) = true
  · rw [if_pos hg]
    have eb : (gt_act S d b).1 b = ((d.1 b).1, nI (d.1 b).1, gt_fr S.2.1 b (d.1 b).1) := by rw [gt_act_i]; unfold gt_aI; rw [if_pos hg]
    have ebo : ¬ ((gt_act S d b).1 b).2.1 < 0 := by rw [eb]; exact gt_nI_nneg (k := (d.1 b).1) (by omega)
    have ebt : ((gt_act S d b).1 b).2.2 = gt_fr S.2.1 b (d.1 b).1 := by rw [eb]
    refine ⟨?_, fun i => ?_, fun j i hj i1 i2 ib => ?_, fun j hj => ?_⟩
    · refine List.pairwise_append.mpr ⟨hp.imp_of_mem (fun {x y} hx hy q => (gt_lx_act (hnb x hx) (hnb y hy)).mpr q), List.pairwise_singleton _ _, fun x hx y hy => ?_⟩
      rw [List.mem_singleton.mp hy]
      have := hlex x b hx hm.1 hm.2.1 hm.2.2.1
      unfold gt_lx
      rw [gt_act_j S d (hnb x hx), ebt]
      exact this
    · by_cases hi : i = b
      · subst hi
        exact ⟨fun _ => ⟨hm.1, hm.2.1, ebo⟩, fun _ => List.mem_append_right _ (List.mem_singleton.mpr rfl)⟩
      · rw [gt_act_j S d hi, ← hmem i, List.mem_append, List.mem_singleton]
        exact ⟨fun h => h.resolve_right hi, Or.inl⟩
    · have hib : i ≠ b := fun e => ebo (e ▸ ib)
      rw [gt_act_j S d hib] at ib ⊢
      rcases List.mem_append.mp hj with q | q
      · rw [gt_act_j S d (hnb j q)]
        exact hlex j i q i1 i2 ib
      · rw [List.mem_singleton.mp q, ebt]
        exact hm.2.2.2 i i1 i2 ib hib
    · rcases List.mem_append.mp hj with q | q
      · rw [gt_act_j S d (hnb j q)]
        exact htm j q
      · rw [List.mem_singleton.mp q, ebt]
        exact hb
  · rw [if_neg hg]
    have eb : (gt_act S d b).1 b = ((d.1 b).1 + 1, (d.1 b).2) := by rw [gt_act_i]; unfold gt_aI; rw [if_neg hg]
    refine ⟨hp.imp_of_mem (fun {x y} hx hy q => (gt_lx_act (hnb x hx) (hnb y hy)).mpr q), fun i => ?_, fun j i hj i1 i2 ib => ?_, fun j hj => ?_⟩
    · by_cases hi : i = b
      · subst hi
        rw [eb]
        exact hmem i
      · rw [gt_act_j S d hi]
        exact hmem i
    · rw [gt_act_j S d (hnb j hj)]
      by_cases hib : i = b
      · subst hib
        rw [eb]
        have h3 := hlex j i hj hm.1 hm.2.1 hm.2.2.1
        unfold gt_fr at h3 ⊢
        omega
      · rw [gt_act_j S d hib] at ib ⊢
        exact hlex j i hj i1 i2 ib
    · rw [gt_act_j S d (hnb j hj)]
      exact htm j hj
theorem gt_A_end {n : Nat} {S : gt_SS} {t : Nat} {d0 d : gt_Dy} {ol : List Nat} (hA : gt_A n S t d0 d ol) (h : ∀ i, 1 ≤ i → i ≤ n → (d.1 i).2.1 < 0 → t < gt_fr S.2.1 i (d.1 i).1) : gt_Pass n S t d0 d ol ∧ gt_Hd n S d ∧ gt_Ho n S t d ol :=
  ⟨⟨hA.1, h, hA.2.2.1, hA.2.2.2.1⟩, hA.2.1, hA.2.2.1, hA.2.2.2.1, h, hA.2.2.2.2.2⟩
theorem gt_nodup {d : gt_Dy} {ol : List Nat} (hp : ol.Pairwise (gt_lx d)) : ol.Nodup := by
  unfold List.Nodup
  refine hp.imp (fun {a b} h => ?_)
  intro e
  subst e
  exact gt_lx_asymm h h
/-- the list is shorter than the items are many, while one is on the belt -/
theorem gt_len {d : gt_Dy} {n : Nat} {ol : List Nat} (hp : ol.Pairwise (gt_lx d)) (hm : ∀ i, i ∈ ol → 1 ≤ i ∧ i ≤ n) : ol.length ≤ n := by
  have hn : ol.Nodup := gt_nodup hp
  have := List.Nodup.length_le_of_subset (l₂ := (List.range n).map (fun k => k + 1)) hn (fun x hx => List.mem_map.mpr ⟨x - 1, List.mem_range.mpr (by have := hm x hx; omega), by have := hm x hx; omega⟩)
  simpa using this
theorem gt_len_lt {d : gt_Dy} {n b : Nat} {ol : List Nat} (hp : ol.Pairwise (gt_lx d)) (hm : ∀ i, i ∈ ol → 1 ≤ i ∧ i ≤ n) (hb : b ∉ ol) (h1 : 1 ≤ b) (h2 : b ≤ n) : ol.length < n := by
  have hn : (b :: ol).Nodup := List.nodup_cons.mpr ⟨hb, gt_nodup hp⟩
  have := List.Nodup.length_le_of_subset (l₂ := (List.range n).map (fun k => k + 1)) hn (fun x hx => by
    have hx' : 1 ≤ x ∧ x ≤ n := by
      rcases List.mem_cons.mp hx with e | e
      · rw [e]; exact ⟨h1, h2⟩
      · exact hm x e
    exact List.mem_map.mpr ⟨x - 1, List.mem_range.mpr (by omega), by omega⟩)
  simp at this
  omega
/-! B: gate by gate -/
def gt_B (n : Nat) (S : gt_SS) (t : Nat) (d0 d : gt_Dy) (g i : Nat) : Prop :=
  (∃ l, gt_Ok n S t d0 l ∧ gt_rn S d0 l = d) ∧ gt_Hd n S d ∧ ∀ j, 1 ≤ j → j ≤ n → (d.1 j).2.1 < 0 → gt_fr S.2.1 j (d.1 j).1 ≤ t → g < (d.1 j).1 ∨ ((d.1 j).1 = g ∧ i ≤ j)
theorem gt_B_init {n : Nat} {S : gt_SS} {t : Nat} {d : gt_Dy} (hd : gt_Hd n S d) : gt_B n S t d d 0 1 :=
  ⟨⟨[], trivial, rfl⟩, hd, fun j h1 _ _ _ => by
    by_cases h : (d.1 j).1 = 0
    · exact Or.inr ⟨h, h1⟩
    · exact Or.inl (by omega)⟩
theorem gt_B_skip {n : Nat} {S : gt_SS} {t : Nat} {d0 d : gt_Dy} {g i : Nat} (hB : gt_B n S t d0 d g i) (h : (d.1 i).2.1 < 0 → (d.1 i).1 = g → ¬ gt_fr S.2.1 i g ≤ t) : gt_B n S t d0 d g (i + 1) := by
  refine ⟨hB.1, hB.2.1, fun j h1 h2 hb hf => ?_⟩
  rcases hB.2.2 j h1 h2 hb hf with q | ⟨q1, q2⟩
  · exact Or.inl q
  · by_cases e : j = i
    · subst e
      exact absurd (q1 ▸ hf) (h hb q1)
    · exact Or.inr ⟨q1, by omega⟩
set_option maxRecDepth 20000 in
theorem gt_B_En {n : Nat} {S : gt_SS} {t : Nat} {d0 d : gt_Dy} {g i : Nat} (hs : gt_Hs n S) (hB : gt_B n S t d0 d g i) (h1 : 1 ≤ i) (h2 : i ≤ n) (hb : (d.1 i).2.1 < 0) (hg : (d.1 i).1 = g) (hf : gt_fr S.2.1 i g ≤ t) : gt_En n S t d i := by
  refine ⟨h1, h2, hb, by rw [hg]; exact hf, fun j j1 j2 jb => ?_⟩
  rw [hg]
  have h4 := hs.2.2.2.2 j i j1 j2 h2
  by_cases q : g < (d.1 j).1
  · exact q
  · have hj : gt_fr S.2.1 j (d.1 j).1 ≤ t := by
      unfold gt_fr at hf ⊢
      omega
    rcases hB.2.2 j j1 (by omega) jb hj with r | ⟨-, r⟩
    · exact r
    · omega
theorem gt_B_step {n : Nat} {S : gt_SS} {t : Nat} {d0 d : gt_Dy} {g i : Nat} (hs : gt_Hs n S) (ht : t ≤ 1000000000) (hB : gt_B n S t d0 d g i) (h1 : 1 ≤ i) (h2 : i ≤ n) (hb : (d.1 i).2.1 < 0) (hg : (d.1 i).1 = g) (hf : gt_fr S.2.1 i g ≤ t) : gt_B n S t d0 (gt_act S d i) g (i + 1) := by
  have he := gt_B_En hs hB h1 h2 hb hg hf
  obtain ⟨⟨l, a1, a2⟩, hd, hh⟩ := hB
  refine ⟨⟨l ++ [i], gt_Ok_snoc l d0 i a1 (by rw [a2]; exact he), by rw [gt_rn_snoc, a2]⟩, gt_Hd_act hs ht hd he, fun j j1 j2 jb jf => ?_⟩
  by_cases e : j = i
  · subst e
    rw [gt_act_i] at jb ⊢
    unfold gt_aI at jb ⊢
    by_cases hgo : gt_go S j (d.1 j) (d.2 (d.1 j).1) = true
    · rw [if_pos hgo] at jb
      have hnx := (hd.1 j h1 h2).1
      have hG := hs.2.1
      exact absurd jb (gt_nI_nneg (k := (d.1 j).1) (by omega))
    · rw [if_neg hgo]
      exact Or.inl (by show g < (d.1 j).1 + 1; omega)
  · rw [gt_act_j S d e] at jb jf ⊢
    rcases hh j j1 j2 jb jf with q | ⟨q1, q2⟩
    · exact Or.inl q
    · exact Or.inr ⟨q1, by omega⟩
theorem gt_B_next {n : Nat} {S : gt_SS} {t : Nat} {d0 d : gt_Dy} {g : Nat} (hB : gt_B n S t d0 d g (n + 1)) : gt_B n S t d0 d (g + 1) 1 := by
  refine ⟨hB.1, hB.2.1, fun j h1 h2 hb hf => ?_⟩
  rcases hB.2.2 j h1 h2 hb hf with q | ⟨q1, q2⟩
  · by_cases e : (d.1 j).1 = g + 1
    · exact Or.inr ⟨e, h1⟩
    · exact Or.inl (by omega)
  · omega
theorem gt_B_end {n : Nat} {S : gt_SS} {t : Nat} {d0 d : gt_Dy} {i : Nat} (hB : gt_B n S t d0 d (S.1 + 1) i) (j : Nat) (h1 : 1 ≤ j) (h2 : j ≤ n) (hb : (d.1 j).2.1 < 0) : t < gt_fr S.2.1 j (d.1 j).1 := by
  have hx := (hB.2.1.1 j h1 h2).1
  by_cases q : gt_fr S.2.1 j (d.1 j).1 ≤ t
  · rcases hB.2.2 j h1 h2 hb q with r | ⟨r, -⟩ <;> omega
  · omega
/-- those that are out stay as they are -/
theorem gt_out_keep {n : Nat} {S : gt_SS} {t : Nat} : ∀ (l : List Nat) (d : gt_Dy) (j : Nat), gt_Ok n S t d l → ¬ (d.1 j).2.1 < 0 → (gt_rn S d l).1 j = d.1 j
  | [], _, _, _, _ => rfl
  | i :: l, d, j, h, hj => by
    have e : j ≠ i := fun q => hj (q ▸ h.1.2.2.1)
    show (gt_rn S (gt_act S d i) l).1 j = d.1 j
    rw [gt_out_keep l (gt_act S d i) j h.2 (by rw [gt_act_j S d e]; exact hj), gt_act_j S d e]
theorem gt_out_time {n : Nat} {S : gt_SS} {t : Nat} : ∀ (l : List Nat) (d : gt_Dy) (j : Nat), gt_Ok n S t d l → (¬ (d.1 j).2.1 < 0 → (d.1 j).2.2 ≤ t) → ¬ ((gt_rn S d l).1 j).2.1 < 0 → ((gt_rn S d l).1 j).2.2 ≤ t
  | [], _, _, _, h, hj => h hj
  | i :: l, d, j, h, h2, hj => by
    refine gt_out_time l (gt_act S d i) j h.2 (fun q => ?_) hj
    by_cases e : j = i
    · subst e
      rw [gt_act_i] at q ⊢
      unfold gt_aI at q ⊢
      by_cases hgo : gt_go S j (d.1 j) (d.2 (d.1 j).1) = true
      · rw [if_pos hgo]
        exact h.1.2.2.2.1
      · rw [if_neg hgo] at q
        exact absurd h.1.2.2.1 q
    · rw [gt_act_j S d e] at q ⊢
      exact h2 q
/-- behind the gates: the new ones come to their places. i: those below it have theirs -/
def gt_C (n : Nat) (d : gt_Dy) (ol0 : List Nat) (i : Nat) (ol : List Nat) : Prop :=
  ol.Pairwise (gt_lx d) ∧ ∀ j, j ∈ ol ↔ 1 ≤ j ∧ j ≤ n ∧ ¬ (d.1 j).2.1 < 0 ∧ (j < i ∨ j ∈ ol0)
theorem gt_C_skip {n : Nat} {d : gt_Dy} {ol0 : List Nat} {i : Nat} {ol : List Nat} (h : gt_C n d ol0 i ol) (hs : (d.1 i).2.1 < 0 ∨ i ∈ ol) : gt_C n d ol0 (i + 1) ol := by
  refine ⟨h.1, fun j => ?_⟩
  rw [h.2 j]
  refine ⟨fun ⟨a, b, c, e⟩ => ⟨a, b, c, e.imp (fun q => by omega) id⟩, fun ⟨a, b, c, e⟩ => ⟨a, b, c, ?_⟩⟩
  rcases e with e | e
  · by_cases q : j = i
    · subst q
      rcases hs with r | r
      · exact absurd r c
      · exact ((h.2 j).mp r).2.2.2
    · exact Or.inl (by omega)
  · exact Or.inr e
theorem gt_ins {d : gt_Dy} {ol : List Nat} {i p : Nat} (h : ol.Pairwise (gt_lx d)) (hi : i ∉ ol) (hp : p ≤ ol.length) (hlo : p = 0 ∨ ¬ gt_lx d i (ol.getD (p - 1) 0)) (hhi : ∀ k, p ≤ k → k < ol.length → gt_lx d i (ol.getD k 0)) : (ol.take p ++ i :: ol.drop p).Pairwise (gt_lx d) := by
  have tot : ∀ a, a ∈ ol → ¬ gt_lx d i a → gt_lx d a i := by
    intro a ha hn
    have hne : a ≠ i := fun e => hi (e ▸ ha)
    unfold gt_lx at hn ⊢
    omega
  have hsp := List.pairwise_append.mp (show (ol.take p ++ ol.drop p).Pairwise (gt_lx d) by rw [List.take_append_drop]; exact h)
  refine List.pairwise_append.mpr ⟨hsp.1, List.pairwise_cons.mpr ⟨fun b hb => ?_, hsp.2.1⟩, fun a ha b hb => ?_⟩
  · obtain ⟨j, hm, e⟩ := List.mem_drop_iff_getElem.mp hb
    have := hhi (p + j) (by omega) (by omega)
    rw [List.getD_eq_getElem?_getD, List.getElem?_eq_getElem (by omega), Option.getD_some, e] at this
    exact this
  · rcases List.mem_cons.mp hb with e | e
    · subst e
      obtain ⟨j, hm, e⟩ := List.mem_take_iff_getElem.mp ha
      have hp0 : p ≠ 0 := by omega
      have hl := hlo.resolve_left hp0
      rw [List.getD_eq_getElem?_getD, List.getElem?_eq_getElem (by omega), Option.getD_some] at hl
      have hl2 := tot _ (List.getElem_mem (by omega)) hl
      by_cases q : j = p - 1
      · subst q
        rw [← e]
        exact hl2
      · have := List.pairwise_iff_getElem.mp h j (p - 1) (by omega) (by omega) (by omega)
        rw [← e]
        exact gt_lx_trans this hl2
    · exact hsp.2.2 a ha b e
theorem gt_C_ins {n : Nat} {d : gt_Dy} {ol0 : List Nat} {i p : Nat} {ol : List Nat} (h : gt_C n d ol0 i ol) (h1 : 1 ≤ i) (h2 : i ≤ n) (hb : ¬ (d.1 i).2.1 < 0) (hi : i ∉ ol) (hp : p ≤ ol.length) (hlo : p = 0 ∨ ¬ gt_lx d i (ol.getD (p - 1) 0)) (hhi : ∀ k, p ≤ k → k < ol.length → gt_lx d i (ol.getD k 0)) : gt_C n d ol0 (i + 1) (ol.take p ++ i :: ol.drop p) := by
  refine ⟨gt_ins h.1 hi hp hlo hhi, fun j => ?_⟩
  have hmem : j ∈ ol.take p ++ i :: ol.drop p ↔ j = i ∨ j ∈ ol := by
    rw [List.mem_append, List.mem_cons]
    have : j ∈ ol ↔ j ∈ ol.take p ∨ j ∈ ol.drop p := by rw [← List.mem_append, List.take_append_drop]
    rw [this]
    constructor
    · rintro (q | q | q)
      · exact Or.inr (Or.inl q)
      · exact Or.inl q
      · exact Or.inr (Or.inr q)
    · rintro (q | q | q)
      · exact Or.inr (Or.inl q)
      · exact Or.inl q
      · exact Or.inr (Or.inr q)
  rw [hmem, h.2 j]
  constructor
  · rintro (q | ⟨a, b, c, e⟩)
    · subst q
      exact ⟨h1, h2, hb, Or.inl (by omega)⟩
    · exact ⟨a, b, c, e.imp (fun q => by omega) id⟩
  · rintro ⟨a, b, c, e⟩
    by_cases q : j = i
    · exact Or.inl q
    · exact Or.inr ⟨a, b, c, e.imp (fun r => by omega) id⟩
theorem gt_C_init {n : Nat} {S : gt_SS} {t now : Nat} {d0 d : gt_Dy} {ol0 : List Nat} (ho : gt_Ho n S now d0 ol0) (hl : ∃ l, gt_Ok n S t d0 l ∧ gt_rn S d0 l = d) : gt_C n d ol0 1 ol0 := by
  obtain ⟨l, h1, h2⟩ := hl
  have keep : ∀ j, j ∈ ol0 → d.1 j = d0.1 j := fun j hj => by
    rw [← h2]
    exact gt_out_keep l d0 j h1 ((ho.2.1 j).mp hj).2.2
  refine ⟨ho.1.imp_of_mem (fun {x y} hx hy q => ?_), fun j => ⟨fun hj => ?_, fun ⟨a, _, _, e⟩ => e.resolve_left (by omega)⟩⟩
  · unfold gt_lx at q ⊢
    rw [keep x hx, keep y hy]
    exact q
  · have := (ho.2.1 j).mp hj
    exact ⟨this.1, this.2.1, by rw [keep j hj]; exact this.2.2, Or.inr hj⟩
theorem gt_C_end {n : Nat} {S : gt_SS} {t now : Nat} {d0 d : gt_Dy} {ol0 ol : List Nat} {i : Nat} (hnow : now ≤ t) (ho : gt_Ho n S now d0 ol0) (hB : gt_B n S t d0 d (S.1 + 1) i) (hC : gt_C n d ol0 (n + 1) ol) : gt_Pass n S t d0 d ol ∧ gt_Hd n S d ∧ gt_Ho n S t d ol := by
  have hm : ∀ j, j ∈ ol ↔ 1 ≤ j ∧ j ≤ n ∧ ¬ (d.1 j).2.1 < 0 := fun j => by
    rw [hC.2 j]
    exact ⟨fun ⟨a, b, c, _⟩ => ⟨a, b, c⟩, fun ⟨a, b, c⟩ => ⟨a, b, c, Or.inl (by omega)⟩⟩
  refine ⟨⟨hB.1, gt_B_end hB, hC.1, hm⟩, hB.2.1, hC.1, hm, gt_B_end hB, fun j hj => ?_⟩
  obtain ⟨l, h1, h2⟩ := hB.1
  have hj' := (hm j).mp hj
  rw [← h2] at hj' ⊢
  exact gt_out_time l d0 j h1 (fun q => Nat.le_trans (ho.2.2.2 j ((ho.2.1 j).mpr ⟨hj'.1, hj'.2.1, q⟩)) hnow) hj'.2.2
end
section
-- ===== PART A: goes FIRST, ahead of the names: the tables' words, and 'selects' of the private methods out of them =====
/-- a private method of a class that the tables say can be made, by its rows of tables_1 -/
def lw_okq (q : MethodName × Nat) : Prop := (q.1.cls ≠ "java/lang/invoke/MethodHandle" ∧ q.1.cls ≠ "java/lang/invoke/VarHandle") ∧ Cond.instantiable q.1.cls q.2 ∈ tables_1 ∧ Cond.privateMethod q.1 ∈ tables_1 ∧ Cond.instanceMethod q.1 ∈ tables_1
theorem lw_p0 : lw_okq (⟨"GateTimes", "isItem", "(I)Z"⟩, 12) := ⟨⟨by decide +kernel, by decide +kernel⟩, List.mem_of_getElem? (i := 7) (by decide +kernel), List.mem_of_getElem? (i := 137) (by decide +kernel), List.mem_of_getElem? (i := 138) (by decide +kernel)⟩
theorem lw_p1 : lw_okq (⟨"GateTimes", "isBin", "(I)Z"⟩, 12) := ⟨⟨by decide +kernel, by decide +kernel⟩, List.mem_of_getElem? (i := 7) (by decide +kernel), List.mem_of_getElem? (i := 141) (by decide +kernel), List.mem_of_getElem? (i := 142) (by decide +kernel)⟩
theorem lw_p2 : lw_okq (⟨"GateTimes", "isNoTime", "(J)Z"⟩, 12) := ⟨⟨by decide +kernel, by decide +kernel⟩, List.mem_of_getElem? (i := 7) (by decide +kernel), List.mem_of_getElem? (i := 145) (by decide +kernel), List.mem_of_getElem? (i := 146) (by decide +kernel)⟩
theorem lw_p3 : lw_okq (⟨"GateTimes", "pass", "(J)V"⟩, 12) := ⟨⟨by decide +kernel, by decide +kernel⟩, List.mem_of_getElem? (i := 7) (by decide +kernel), List.mem_of_getElem? (i := 149) (by decide +kernel), List.mem_of_getElem? (i := 150) (by decide +kernel)⟩
theorem lw_p4 : lw_okq (⟨"GateTimes", "nextItem", "()I"⟩, 12) := ⟨⟨by decide +kernel, by decide +kernel⟩, List.mem_of_getElem? (i := 7) (by decide +kernel), List.mem_of_getElem? (i := 153) (by decide +kernel), List.mem_of_getElem? (i := 154) (by decide +kernel)⟩
theorem lw_p5 : lw_okq (⟨"GateTimes", "come", "(I)V"⟩, 12) := ⟨⟨by decide +kernel, by decide +kernel⟩, List.mem_of_getElem? (i := 7) (by decide +kernel), List.mem_of_getElem? (i := 166) (by decide +kernel), List.mem_of_getElem? (i := 167) (by decide +kernel)⟩
theorem lw_p6 : lw_okq (⟨"GateTimes", "leave", "(II)V"⟩, 12) := ⟨⟨by decide +kernel, by decide +kernel⟩, List.mem_of_getElem? (i := 7) (by decide +kernel), List.mem_of_getElem? (i := 170) (by decide +kernel), List.mem_of_getElem? (i := 171) (by decide +kernel)⟩
theorem lw_p7 : lw_okq (⟨"GateTimes$Gate", "mayTurn", "(J)Z"⟩, 7) := ⟨⟨by decide +kernel, by decide +kernel⟩, List.mem_of_getElem? (i := 24) (by decide +kernel), List.mem_of_getElem? (i := 182) (by decide +kernel), List.mem_of_getElem? (i := 183) (by decide +kernel)⟩
theorem lw_p8 : lw_okq (⟨"GateTimesModel", "isItem", "(I)Z"⟩, 21) := ⟨⟨by decide +kernel, by decide +kernel⟩, List.mem_of_getElem? (i := 233) (by decide +kernel), List.mem_of_getElem? (i := 318) (by decide +kernel), List.mem_of_getElem? (i := 319) (by decide +kernel)⟩
theorem lw_p9 : lw_okq (⟨"GateTimesModel", "isBin", "(I)Z"⟩, 21) := ⟨⟨by decide +kernel, by decide +kernel⟩, List.mem_of_getElem? (i := 233) (by decide +kernel), List.mem_of_getElem? (i := 322) (by decide +kernel), List.mem_of_getElem? (i := 323) (by decide +kernel)⟩
theorem lw_p10 : lw_okq (⟨"GateTimesModel", "pass", "(J)V"⟩, 21) := ⟨⟨by decide +kernel, by decide +kernel⟩, List.mem_of_getElem? (i := 233) (by decide +kernel), List.mem_of_getElem? (i := 326) (by decide +kernel), List.mem_of_getElem? (i := 327) (by decide +kernel)⟩
theorem lw_p11 : lw_okq (⟨"GateTimesModel", "front", "(II)J"⟩, 21) := ⟨⟨by decide +kernel, by decide +kernel⟩, List.mem_of_getElem? (i := 233) (by decide +kernel), List.mem_of_getElem? (i := 330) (by decide +kernel), List.mem_of_getElem? (i := 331) (by decide +kernel)⟩
theorem lw_p12 : lw_okq (⟨"GateTimesModel", "at", "(II)V"⟩, 21) := ⟨⟨by decide +kernel, by decide +kernel⟩, List.mem_of_getElem? (i := 233) (by decide +kernel), List.mem_of_getElem? (i := 335) (by decide +kernel), List.mem_of_getElem? (i := 336) (by decide +kernel)⟩
def lw_privs_1 : List (MethodName × Nat) := [(⟨"GateTimes", "isItem", "(I)Z"⟩, 12), (⟨"GateTimes", "isBin", "(I)Z"⟩, 12), (⟨"GateTimes", "isNoTime", "(J)Z"⟩, 12), (⟨"GateTimes", "pass", "(J)V"⟩, 12), (⟨"GateTimes", "nextItem", "()I"⟩, 12), (⟨"GateTimes", "come", "(I)V"⟩, 12), (⟨"GateTimes", "leave", "(II)V"⟩, 12), (⟨"GateTimes$Gate", "mayTurn", "(J)Z"⟩, 7), (⟨"GateTimesModel", "isItem", "(I)Z"⟩, 21), (⟨"GateTimesModel", "isBin", "(I)Z"⟩, 21), (⟨"GateTimesModel", "pass", "(J)V"⟩, 21), (⟨"GateTimesModel", "front", "(II)J"⟩, 21), (⟨"GateTimesModel", "at", "(II)V"⟩, 21)]
theorem lw_r1 : ∀ q ∈ lw_privs_1, lw_okq q := List.forall_mem_cons.mpr ⟨lw_p0, List.forall_mem_cons.mpr ⟨lw_p1, List.forall_mem_cons.mpr ⟨lw_p2, List.forall_mem_cons.mpr ⟨lw_p3, List.forall_mem_cons.mpr ⟨lw_p4, List.forall_mem_cons.mpr ⟨lw_p5, List.forall_mem_cons.mpr ⟨lw_p6, List.forall_mem_cons.mpr ⟨lw_p7, List.forall_mem_cons.mpr ⟨lw_p8, List.forall_mem_cons.mpr ⟨lw_p9, List.forall_mem_cons.mpr ⟨lw_p10, List.forall_mem_cons.mpr ⟨lw_p11, List.forall_mem_cons.mpr ⟨lw_p12, fun _ h => absurd h List.not_mem_nil⟩⟩⟩⟩⟩⟩⟩⟩⟩⟩⟩⟩⟩
def lw_privs : List (MethodName × Nat) := lw_privs_1
def lw_tbl : List Cond := k2_sels lw_privs ++ tables_1
theorem lw_privs_ok : ∀ q ∈ lw_privs, lw_okq q := lw_r1
/-- the words that stay under warming: every method is given all of them -/
def tb : List Cond := lw_tbl.filter goodWord
def R_X : String := "GateTimes"
def R_M : String := "GateTimesModel"
def R_G : String := "GateTimes$Gate"
def R_I : String := "GateTimes$Item"
def R_law : String := "GateTimesLaw"
def F_X : u_T := fun k => match k with
  | 0 => ("GateTimes", "gates", "I", true)
  | 1 => ("GateTimes", "row", "[LGateTimes$Gate;", true)
  | 2 => ("GateTimes", "items", "[LGateTimes$Item;", true)
  | 3 => ("GateTimes", "itemCount", "I", false)
  | 4 => ("GateTimes", "first", "I", false)
  | 5 => ("GateTimes", "now", "J", false)
  | 6 => ("GateTimes", "outItems", "[I", true)
  | 7 => ("GateTimes", "outBins", "[I", true)
  | 8 => ("GateTimes", "outTimes", "[J", true)
  | 9 => ("GateTimes", "outCount", "I", false)
  | 10 => ("GateTimes", "told", "I", false)
  | _ => ("GateTimes", "rejected", "I", false)
def t_X : Nat → FieldType := fun k => match k with
  | 0 => .int
  | 1 => .array (.object "GateTimes$Gate")
  | 2 => .array (.object "GateTimes$Item")
  | 3 => .int
  | 4 => .int
  | 5 => .long
  | 6 => .array .int
  | 7 => .array .int
  | 8 => .array .long
  | 9 => .int
  | 10 => .int
  | _ => .int
theorem n_X : ∀ a, a < 12 → ∀ b, b < 12 → a ≠ b → (F_X a).2.1 ≠ (F_X b).2.1 := by decide +kernel
theorem t_X_ok : ∀ k, k < 12 → parseFieldDescriptor (F_X k).2.2.1 = some (t_X k) := by decide +kernel
theorem i_X : ∀ w ∈ u_ws R_X F_X 12, w ∈ tb := by decide +kernel
def F_G : u_T := fun k => match k with
  | 0 => ("GateTimes$Gate", "open", "Z", false)
  | 1 => ("GateTimes$Gate", "stuck", "Z", false)
  | 2 => ("GateTimes$Gate", "used", "Z", false)
  | 3 => ("GateTimes$Gate", "free", "J", false)
  | 4 => ("GateTimes$Gate", "height", "I", false)
  | 5 => ("GateTimes$Gate", "holds", "I", false)
  | _ => ("GateTimes$Gate", "count", "I", false)
def t_G : Nat → FieldType := fun k => match k with
  | 0 => .boolean
  | 1 => .boolean
  | 2 => .boolean
  | 3 => .long
  | 4 => .int
  | 5 => .int
  | _ => .int
theorem n_G : ∀ a, a < 7 → ∀ b, b < 7 → a ≠ b → (F_G a).2.1 ≠ (F_G b).2.1 := by decide +kernel
theorem t_G_ok : ∀ k, k < 7 → parseFieldDescriptor (F_G k).2.2.1 = some (t_G k) := by decide +kernel
theorem i_G : ∀ w ∈ u_ws R_G F_G 7, w ∈ tb := by decide +kernel
def F_I : u_T := fun k => match k with
  | 0 => ("GateTimes$Item", "at", "J", true)
  | 1 => ("GateTimes$Item", "length", "J", true)
  | 2 => ("GateTimes$Item", "order", "I", false)
  | 3 => ("GateTimes$Item", "late", "I", false)
  | 4 => ("GateTimes$Item", "next", "I", false)
  | _ => ("GateTimes$Item", "isOut", "Z", false)
def t_I : Nat → FieldType := fun k => match k with
  | 0 => .long
  | 1 => .long
  | 2 => .int
  | 3 => .int
  | 4 => .int
  | _ => .boolean
theorem n_I : ∀ a, a < 6 → ∀ b, b < 6 → a ≠ b → (F_I a).2.1 ≠ (F_I b).2.1 := by decide +kernel
theorem t_I_ok : ∀ k, k < 6 → parseFieldDescriptor (F_I k).2.2.1 = some (t_I k) := by decide +kernel
theorem i_I : ∀ w ∈ u_ws R_I F_I 6, w ∈ tb := by decide +kernel
def F_M : u_T := fun k => match k with
  | 0 => ("GateTimesModel", "thrown", "I", false)
  | 1 => ("GateTimesModel", "gates", "I", true)
  | 2 => ("GateTimesModel", "items", "I", false)
  | 3 => ("GateTimesModel", "ats", "[J", true)
  | 4 => ("GateTimesModel", "lengths", "[J", true)
  | 5 => ("GateTimesModel", "orders", "[I", true)
  | 6 => ("GateTimesModel", "nexts", "[I", true)
  | 7 => ("GateTimesModel", "bins", "[I", true)
  | 8 => ("GateTimesModel", "lates", "[I", true)
  | 9 => ("GateTimesModel", "times", "[J", true)
  | 10 => ("GateTimesModel", "open", "[Z", true)
  | 11 => ("GateTimesModel", "stuck", "[Z", true)
  | 12 => ("GateTimesModel", "used", "[Z", true)
  | 13 => ("GateTimesModel", "ends", "[J", true)
  | 14 => ("GateTimesModel", "heights", "[I", true)
  | 15 => ("GateTimesModel", "holds", "[I", true)
  | 16 => ("GateTimesModel", "counts", "[I", true)
  | 17 => ("GateTimesModel", "now", "J", false)
  | 18 => ("GateTimesModel", "outs", "I", false)
  | 19 => ("GateTimesModel", "out", "[I", true)
  | _ => ("GateTimesModel", "told", "I", false)
def t_M : Nat → FieldType := fun k => match k with
  | 0 => .int
  | 1 => .int
  | 2 => .int
  | 3 => .array .long
  | 4 => .array .long
  | 5 => .array .int
  | 6 => .array .int
  | 7 => .array .int
  | 8 => .array .int
  | 9 => .array .long
  | 10 => .array .boolean
  | 11 => .array .boolean
  | 12 => .array .boolean
  | 13 => .array .long
  | 14 => .array .int
  | 15 => .array .int
  | 16 => .array .int
  | 17 => .long
  | 18 => .int
  | 19 => .array .int
  | _ => .int
theorem n_M : ∀ a, a < 21 → ∀ b, b < 21 → a ≠ b → (F_M a).2.1 ≠ (F_M b).2.1 := by decide +kernel
theorem t_M_ok : ∀ k, k < 21 → parseFieldDescriptor (F_M k).2.2.1 = some (t_M k) := by decide +kernel
theorem i_M : ∀ w ∈ u_ws R_M F_M 21, w ∈ tb := by decide +kernel
abbrev gt_cl : List vw_C := [(R_X, F_X, 12), (R_G, F_G, 7), (R_I, F_I, 6), (R_M, F_M, 21)]
theorem kw_0 : Cond.initialized "GateTimesLaw" ∈ tb := List.mem_filter.mpr ⟨List.mem_append_right _ (List.mem_of_getElem? (i := 0) (by decide +kernel)), by decide +kernel⟩
theorem kw_1 : Cond.initialized "GateTimes" ∈ tb := List.mem_filter.mpr ⟨List.mem_append_right _ (List.mem_of_getElem? (i := 1) (by decide +kernel)), by decide +kernel⟩
theorem kw_2 : Cond.initialized "java/lang/Math" ∈ tb := List.mem_filter.mpr ⟨List.mem_append_right _ (List.mem_of_getElem? (i := 2) (by decide +kernel)), by decide +kernel⟩
theorem kw_3 : Cond.initialized "GateTimes$Gate" ∈ tb := List.mem_filter.mpr ⟨List.mem_append_right _ (List.mem_of_getElem? (i := 3) (by decide +kernel)), by decide +kernel⟩
theorem kw_4 : Cond.initialized "GateTimesModel" ∈ tb := List.mem_filter.mpr ⟨List.mem_append_right _ (List.mem_of_getElem? (i := 4) (by decide +kernel)), by decide +kernel⟩
theorem kw_5 : Cond.initialized "GateTimes$Item" ∈ tb := List.mem_filter.mpr ⟨List.mem_append_right _ (List.mem_of_getElem? (i := 5) (by decide +kernel)), by decide +kernel⟩
theorem kw_6 : Cond.classLink "GateTimesLaw" 7 "GateTimes" ∈ tb := List.mem_filter.mpr ⟨List.mem_append_right _ (List.mem_of_getElem? (i := 6) (by decide +kernel)), by decide +kernel⟩
theorem kw_7 : Cond.instantiable "GateTimes" 12 ∈ tb := List.mem_filter.mpr ⟨List.mem_append_right _ (List.mem_of_getElem? (i := 7) (by decide +kernel)), by decide +kernel⟩
theorem kw_8 : Cond.methodLink "GateTimesLaw" 15 ⟨"GateTimes", "<init>", "(I)V"⟩ ∈ tb := List.mem_filter.mpr ⟨List.mem_append_right _ (List.mem_of_getElem? (i := 8) (by decide +kernel)), by decide +kernel⟩
theorem kw_9 : Cond.instanceMethod ⟨"GateTimes", "<init>", "(I)V"⟩ ∈ tb := List.mem_filter.mpr ⟨List.mem_append_right _ (List.mem_of_getElem? (i := 9) (by decide +kernel)), by decide +kernel⟩
theorem kw_10 : Cond.code ⟨"GateTimes", "<init>", "(I)V"⟩ prog_1_method_2_code 3 (Option.none : Option FieldType) ∈ tb := List.mem_filter.mpr ⟨List.mem_append_right _ (List.mem_of_getElem? (i := 10) (by decide +kernel)), by decide +kernel⟩
theorem kw_11 : Cond.methodLink "GateTimes" 1 ⟨"java/lang/Object", "<init>", "()V"⟩ ∈ tb := List.mem_filter.mpr ⟨List.mem_append_right _ (List.mem_of_getElem? (i := 11) (by decide +kernel)), by decide +kernel⟩
theorem kw_12 : Cond.instanceMethod ⟨"java/lang/Object", "<init>", "()V"⟩ ∈ tb := List.mem_filter.mpr ⟨List.mem_append_right _ (List.mem_of_getElem? (i := 12) (by decide +kernel)), by decide +kernel⟩
theorem kw_13 : Cond.code ⟨"java/lang/Object", "<init>", "()V"⟩ object_method_1_code 1 (Option.none : Option FieldType) ∈ tb := List.mem_filter.mpr ⟨List.mem_append_right _ (List.mem_of_getElem? (i := 13) (by decide +kernel)), by decide +kernel⟩
theorem kw_14 : Cond.classLink "GateTimes" 9 "GateTimes$Item" ∈ tb := List.mem_filter.mpr ⟨List.mem_append_right _ (List.mem_of_getElem? (i := 14) (by decide +kernel)), by decide +kernel⟩
theorem kw_15 : Cond.arrayOver (FieldType.object "GateTimes$Item") ∈ lw_tbl := List.mem_append_right _ (List.mem_of_getElem? (i := 15) (by decide +kernel))
theorem kw_16 : Cond.methodLink "GateTimes" 30 ⟨"java/lang/Math", "min", "(II)I"⟩ ∈ tb := List.mem_filter.mpr ⟨List.mem_append_right _ (List.mem_of_getElem? (i := 16) (by decide +kernel)), by decide +kernel⟩
theorem kw_17 : Cond.static ⟨"java/lang/Math", "min", "(II)I"⟩ ∈ tb := List.mem_filter.mpr ⟨List.mem_append_right _ (List.mem_of_getElem? (i := 17) (by decide +kernel)), by decide +kernel⟩
theorem kw_18 : Cond.code ⟨"java/lang/Math", "min", "(II)I"⟩ prog_6_method_69_code 2 (Option.some FieldType.int) ∈ tb := List.mem_filter.mpr ⟨List.mem_append_right _ (List.mem_of_getElem? (i := 18) (by decide +kernel)), by decide +kernel⟩
theorem kw_19 : Cond.methodLink "GateTimes" 36 ⟨"java/lang/Math", "max", "(II)I"⟩ ∈ tb := List.mem_filter.mpr ⟨List.mem_append_right _ (List.mem_of_getElem? (i := 19) (by decide +kernel)), by decide +kernel⟩
theorem kw_20 : Cond.static ⟨"java/lang/Math", "max", "(II)I"⟩ ∈ tb := List.mem_filter.mpr ⟨List.mem_append_right _ (List.mem_of_getElem? (i := 20) (by decide +kernel)), by decide +kernel⟩
theorem kw_21 : Cond.code ⟨"java/lang/Math", "max", "(II)I"⟩ prog_6_method_65_code 2 (Option.some FieldType.int) ∈ tb := List.mem_filter.mpr ⟨List.mem_append_right _ (List.mem_of_getElem? (i := 21) (by decide +kernel)), by decide +kernel⟩
theorem kw_22 : Cond.classLink "GateTimes" 42 "GateTimes$Gate" ∈ tb := List.mem_filter.mpr ⟨List.mem_append_right _ (List.mem_of_getElem? (i := 22) (by decide +kernel)), by decide +kernel⟩
theorem kw_23 : Cond.arrayOver (FieldType.object "GateTimes$Gate") ∈ lw_tbl := List.mem_append_right _ (List.mem_of_getElem? (i := 23) (by decide +kernel))
theorem kw_24 : Cond.instantiable "GateTimes$Gate" 7 ∈ tb := List.mem_filter.mpr ⟨List.mem_append_right _ (List.mem_of_getElem? (i := 24) (by decide +kernel)), by decide +kernel⟩
theorem kw_25 : Cond.methodLinkNest "GateTimes" 48 ⟨"GateTimes$Gate", "<init>", "()V"⟩ "GateTimes" ∈ lw_tbl := List.mem_append_right _ (List.mem_of_getElem? (i := 25) (by decide +kernel))
theorem kw_26 : Cond.instanceMethod ⟨"GateTimes$Gate", "<init>", "()V"⟩ ∈ tb := List.mem_filter.mpr ⟨List.mem_append_right _ (List.mem_of_getElem? (i := 26) (by decide +kernel)), by decide +kernel⟩
theorem kw_27 : Cond.code ⟨"GateTimes$Gate", "<init>", "()V"⟩ prog_2_method_1_code 1 (Option.none : Option FieldType) ∈ tb := List.mem_filter.mpr ⟨List.mem_append_right _ (List.mem_of_getElem? (i := 27) (by decide +kernel)), by decide +kernel⟩
theorem kw_28 : Cond.methodLink "GateTimes$Gate" 3 ⟨"java/lang/Object", "<init>", "()V"⟩ ∈ tb := List.mem_filter.mpr ⟨List.mem_append_right _ (List.mem_of_getElem? (i := 28) (by decide +kernel)), by decide +kernel⟩
theorem kw_29 : Cond.fieldLink "GateTimes$Gate" 31 "GateTimes$Gate" "open" "Z" ∈ tb := List.mem_filter.mpr ⟨List.mem_append_right _ (List.mem_of_getElem? (i := 29) (by decide +kernel)), by decide +kernel⟩
theorem kw_30 : Cond.fieldLink "GateTimes$Gate" 18 "GateTimes$Gate" "stuck" "Z" ∈ tb := List.mem_filter.mpr ⟨List.mem_append_right _ (List.mem_of_getElem? (i := 30) (by decide +kernel)), by decide +kernel⟩
theorem kw_31 : Cond.fieldLinkNest "GateTimes" 153 "GateTimes$Gate" "stuck" "Z" "GateTimes" ∈ lw_tbl := List.mem_append_right _ (List.mem_of_getElem? (i := 31) (by decide +kernel))
theorem kw_32 : Cond.fieldLink "GateTimes$Gate" 22 "GateTimes$Gate" "used" "Z" ∈ tb := List.mem_filter.mpr ⟨List.mem_append_right _ (List.mem_of_getElem? (i := 32) (by decide +kernel)), by decide +kernel⟩
theorem kw_33 : Cond.fieldLink "GateTimes$Gate" 25 "GateTimes$Gate" "free" "J" ∈ tb := List.mem_filter.mpr ⟨List.mem_append_right _ (List.mem_of_getElem? (i := 33) (by decide +kernel)), by decide +kernel⟩
theorem kw_34 : Cond.fieldLink "GateTimes$Gate" 9 "GateTimes$Gate" "height" "I" ∈ tb := List.mem_filter.mpr ⟨List.mem_append_right _ (List.mem_of_getElem? (i := 34) (by decide +kernel)), by decide +kernel⟩
theorem kw_35 : Cond.fieldLinkNest "GateTimes" 147 "GateTimes$Gate" "height" "I" "GateTimes" ∈ lw_tbl := List.mem_append_right _ (List.mem_of_getElem? (i := 35) (by decide +kernel))
theorem kw_36 : Cond.fieldLink "GateTimes$Gate" 15 "GateTimes$Gate" "holds" "I" ∈ tb := List.mem_filter.mpr ⟨List.mem_append_right _ (List.mem_of_getElem? (i := 36) (by decide +kernel)), by decide +kernel⟩
theorem kw_37 : Cond.fieldLinkNest "GateTimes" 150 "GateTimes$Gate" "holds" "I" "GateTimes" ∈ lw_tbl := List.mem_append_right _ (List.mem_of_getElem? (i := 37) (by decide +kernel))
theorem kw_38 : Cond.fieldLink "GateTimes$Gate" 38 "GateTimes$Gate" "count" "I" ∈ tb := List.mem_filter.mpr ⟨List.mem_append_right _ (List.mem_of_getElem? (i := 38) (by decide +kernel)), by decide +kernel⟩
theorem kw_39 : Cond.fieldLinkNest "GateTimes" 156 "GateTimes$Gate" "count" "I" "GateTimes" ∈ lw_tbl := List.mem_append_right _ (List.mem_of_getElem? (i := 39) (by decide +kernel))
theorem kw_55 : Cond.arrayClass FieldType.int ∈ tb := List.mem_filter.mpr ⟨List.mem_append_right _ (List.mem_of_getElem? (i := 55) (by decide +kernel)), by decide +kernel⟩
theorem kw_56 : Cond.arrayClass FieldType.long ∈ tb := List.mem_filter.mpr ⟨List.mem_append_right _ (List.mem_of_getElem? (i := 56) (by decide +kernel)), by decide +kernel⟩
theorem kw_57 : Cond.fieldLink "GateTimes" 39 "GateTimes" "gates" "I" ∈ tb := List.mem_filter.mpr ⟨List.mem_append_right _ (List.mem_of_getElem? (i := 57) (by decide +kernel)), by decide +kernel⟩
theorem kw_58 : Cond.fieldLink "GateTimes" 44 "GateTimes" "row" "[LGateTimes$Gate;" ∈ tb := List.mem_filter.mpr ⟨List.mem_append_right _ (List.mem_of_getElem? (i := 58) (by decide +kernel)), by decide +kernel⟩
theorem kw_59 : Cond.fieldLink "GateTimes" 11 "GateTimes" "items" "[LGateTimes$Item;" ∈ tb := List.mem_filter.mpr ⟨List.mem_append_right _ (List.mem_of_getElem? (i := 59) (by decide +kernel)), by decide +kernel⟩
theorem kw_60 : Cond.fieldLink "GateTimes" 49 "GateTimes" "itemCount" "I" ∈ tb := List.mem_filter.mpr ⟨List.mem_append_right _ (List.mem_of_getElem? (i := 60) (by decide +kernel)), by decide +kernel⟩
theorem kw_61 : Cond.fieldLink "GateTimes" 15 "GateTimes" "first" "I" ∈ tb := List.mem_filter.mpr ⟨List.mem_append_right _ (List.mem_of_getElem? (i := 61) (by decide +kernel)), by decide +kernel⟩
theorem kw_62 : Cond.fieldLink "GateTimes" 58 "GateTimes" "now" "J" ∈ tb := List.mem_filter.mpr ⟨List.mem_append_right _ (List.mem_of_getElem? (i := 62) (by decide +kernel)), by decide +kernel⟩
theorem kw_63 : Cond.fieldLink "GateTimes" 19 "GateTimes" "outItems" "[I" ∈ tb := List.mem_filter.mpr ⟨List.mem_append_right _ (List.mem_of_getElem? (i := 63) (by decide +kernel)), by decide +kernel⟩
theorem kw_64 : Cond.fieldLink "GateTimes" 23 "GateTimes" "outBins" "[I" ∈ tb := List.mem_filter.mpr ⟨List.mem_append_right _ (List.mem_of_getElem? (i := 64) (by decide +kernel)), by decide +kernel⟩
theorem kw_65 : Cond.fieldLink "GateTimes" 26 "GateTimes" "outTimes" "[J" ∈ tb := List.mem_filter.mpr ⟨List.mem_append_right _ (List.mem_of_getElem? (i := 65) (by decide +kernel)), by decide +kernel⟩
theorem kw_66 : Cond.fieldLink "GateTimes" 83 "GateTimes" "outCount" "I" ∈ tb := List.mem_filter.mpr ⟨List.mem_append_right _ (List.mem_of_getElem? (i := 66) (by decide +kernel)), by decide +kernel⟩
theorem kw_67 : Cond.fieldLink "GateTimes" 142 "GateTimes" "told" "I" ∈ tb := List.mem_filter.mpr ⟨List.mem_append_right _ (List.mem_of_getElem? (i := 67) (by decide +kernel)), by decide +kernel⟩
theorem kw_68 : Cond.fieldLink "GateTimes" 89 "GateTimes" "rejected" "I" ∈ tb := List.mem_filter.mpr ⟨List.mem_append_right _ (List.mem_of_getElem? (i := 68) (by decide +kernel)), by decide +kernel⟩
theorem kw_94 : Cond.methodLink "GateTimesLaw" 23 ⟨"GateTimes", "item", "(JJ)I"⟩ ∈ tb := List.mem_filter.mpr ⟨List.mem_append_right _ (List.mem_of_getElem? (i := 94) (by decide +kernel)), by decide +kernel⟩
theorem kw_95 : Cond.instanceMethod ⟨"GateTimes", "item", "(JJ)I"⟩ ∈ tb := List.mem_filter.mpr ⟨List.mem_append_right _ (List.mem_of_getElem? (i := 95) (by decide +kernel)), by decide +kernel⟩
theorem kw_96 : Cond.selects "GateTimes" ⟨"GateTimes", "item", "(JJ)I"⟩ ⟨"GateTimes", "item", "(JJ)I"⟩ ∈ tb := List.mem_filter.mpr ⟨List.mem_append_right _ (List.mem_of_getElem? (i := 96) (by decide +kernel)), by decide +kernel⟩
theorem kw_97 : Cond.code ⟨"GateTimes", "item", "(JJ)I"⟩ prog_1_method_5_code 5 (Option.some FieldType.int) ∈ tb := List.mem_filter.mpr ⟨List.mem_append_right _ (List.mem_of_getElem? (i := 97) (by decide +kernel)), by decide +kernel⟩
theorem kw_98 : Cond.constantLong "GateTimes" 52 900 ∈ tb := List.mem_filter.mpr ⟨List.mem_append_right _ (List.mem_of_getElem? (i := 98) (by decide +kernel)), by decide +kernel⟩
theorem kw_99 : Cond.methodLink "GateTimes" 54 ⟨"GateTimes", "outside", "(JJJ)Z"⟩ ∈ tb := List.mem_filter.mpr ⟨List.mem_append_right _ (List.mem_of_getElem? (i := 99) (by decide +kernel)), by decide +kernel⟩
theorem kw_100 : Cond.static ⟨"GateTimes", "outside", "(JJJ)Z"⟩ ∈ tb := List.mem_filter.mpr ⟨List.mem_append_right _ (List.mem_of_getElem? (i := 100) (by decide +kernel)), by decide +kernel⟩
theorem kw_101 : Cond.code ⟨"GateTimes", "outside", "(JJJ)Z"⟩ prog_1_method_1_code 6 (Option.some FieldType.boolean) ∈ tb := List.mem_filter.mpr ⟨List.mem_append_right _ (List.mem_of_getElem? (i := 101) (by decide +kernel)), by decide +kernel⟩
theorem kw_102 : Cond.constantLong "GateTimes" 62 1000000000 ∈ tb := List.mem_filter.mpr ⟨List.mem_append_right _ (List.mem_of_getElem? (i := 102) (by decide +kernel)), by decide +kernel⟩
theorem kw_103 : Cond.constantLong "GateTimes" 70 50 ∈ tb := List.mem_filter.mpr ⟨List.mem_append_right _ (List.mem_of_getElem? (i := 103) (by decide +kernel)), by decide +kernel⟩
theorem kw_104 : Cond.instantiable "GateTimes$Item" 6 ∈ tb := List.mem_filter.mpr ⟨List.mem_append_right _ (List.mem_of_getElem? (i := 104) (by decide +kernel)), by decide +kernel⟩
theorem kw_105 : Cond.methodLink "GateTimes" 72 ⟨"GateTimes$Item", "<init>", "(JJ)V"⟩ ∈ tb := List.mem_filter.mpr ⟨List.mem_append_right _ (List.mem_of_getElem? (i := 105) (by decide +kernel)), by decide +kernel⟩
theorem kw_106 : Cond.instanceMethod ⟨"GateTimes$Item", "<init>", "(JJ)V"⟩ ∈ tb := List.mem_filter.mpr ⟨List.mem_append_right _ (List.mem_of_getElem? (i := 106) (by decide +kernel)), by decide +kernel⟩
theorem kw_107 : Cond.code ⟨"GateTimes$Item", "<init>", "(JJ)V"⟩ prog_3_method_1_code 5 (Option.none : Option FieldType) ∈ tb := List.mem_filter.mpr ⟨List.mem_append_right _ (List.mem_of_getElem? (i := 107) (by decide +kernel)), by decide +kernel⟩
theorem kw_108 : Cond.methodLink "GateTimes$Item" 3 ⟨"java/lang/Object", "<init>", "()V"⟩ ∈ tb := List.mem_filter.mpr ⟨List.mem_append_right _ (List.mem_of_getElem? (i := 108) (by decide +kernel)), by decide +kernel⟩
theorem kw_109 : Cond.fieldLink "GateTimes$Item" 15 "GateTimes$Item" "at" "J" ∈ tb := List.mem_filter.mpr ⟨List.mem_append_right _ (List.mem_of_getElem? (i := 109) (by decide +kernel)), by decide +kernel⟩
theorem kw_110 : Cond.fieldLinkNest "GateTimes" 64 "GateTimes$Item" "at" "J" "GateTimes" ∈ lw_tbl := List.mem_append_right _ (List.mem_of_getElem? (i := 110) (by decide +kernel))
theorem kw_111 : Cond.fieldLink "GateTimes$Item" 19 "GateTimes$Item" "length" "J" ∈ tb := List.mem_filter.mpr ⟨List.mem_append_right _ (List.mem_of_getElem? (i := 111) (by decide +kernel)), by decide +kernel⟩
theorem kw_112 : Cond.fieldLinkNest "GateTimes" 67 "GateTimes$Item" "length" "J" "GateTimes" ∈ lw_tbl := List.mem_append_right _ (List.mem_of_getElem? (i := 112) (by decide +kernel))
theorem kw_113 : Cond.fieldLink "GateTimes$Item" 9 "GateTimes$Item" "order" "I" ∈ tb := List.mem_filter.mpr ⟨List.mem_append_right _ (List.mem_of_getElem? (i := 113) (by decide +kernel)), by decide +kernel⟩
theorem kw_114 : Cond.fieldLinkNest "GateTimes" 96 "GateTimes$Item" "order" "I" "GateTimes" ∈ lw_tbl := List.mem_append_right _ (List.mem_of_getElem? (i := 114) (by decide +kernel))
theorem kw_115 : Cond.fieldLinkNest "GateTimes" 139 "GateTimes$Item" "late" "I" "GateTimes" ∈ lw_tbl := List.mem_append_right _ (List.mem_of_getElem? (i := 115) (by decide +kernel))
theorem kw_116 : Cond.fieldLink "GateTimes$Item" 24 "GateTimes$Item" "next" "I" ∈ tb := List.mem_filter.mpr ⟨List.mem_append_right _ (List.mem_of_getElem? (i := 116) (by decide +kernel)), by decide +kernel⟩
theorem kw_117 : Cond.fieldLinkNest "GateTimes" 86 "GateTimes$Item" "next" "I" "GateTimes" ∈ lw_tbl := List.mem_append_right _ (List.mem_of_getElem? (i := 117) (by decide +kernel))
theorem kw_118 : Cond.fieldLinkNest "GateTimes" 75 "GateTimes$Item" "isOut" "Z" "GateTimes" ∈ lw_tbl := List.mem_append_right _ (List.mem_of_getElem? (i := 118) (by decide +kernel))
theorem kw_132 : Cond.methodLink "GateTimesLaw" 28 ⟨"GateTimes", "order", "(IIJ)I"⟩ ∈ tb := List.mem_filter.mpr ⟨List.mem_append_right _ (List.mem_of_getElem? (i := 132) (by decide +kernel)), by decide +kernel⟩
theorem kw_133 : Cond.instanceMethod ⟨"GateTimes", "order", "(IIJ)I"⟩ ∈ tb := List.mem_filter.mpr ⟨List.mem_append_right _ (List.mem_of_getElem? (i := 133) (by decide +kernel)), by decide +kernel⟩
theorem kw_134 : Cond.selects "GateTimes" ⟨"GateTimes", "order", "(IIJ)I"⟩ ⟨"GateTimes", "order", "(IIJ)I"⟩ ∈ tb := List.mem_filter.mpr ⟨List.mem_append_right _ (List.mem_of_getElem? (i := 134) (by decide +kernel)), by decide +kernel⟩
theorem kw_135 : Cond.code ⟨"GateTimes", "order", "(IIJ)I"⟩ prog_1_method_11_code 8 (Option.some FieldType.int) ∈ tb := List.mem_filter.mpr ⟨List.mem_append_right _ (List.mem_of_getElem? (i := 135) (by decide +kernel)), by decide +kernel⟩
theorem kw_136 : Cond.methodLink "GateTimes" 118 ⟨"GateTimes", "isItem", "(I)Z"⟩ ∈ tb := List.mem_filter.mpr ⟨List.mem_append_right _ (List.mem_of_getElem? (i := 136) (by decide +kernel)), by decide +kernel⟩
theorem kw_138 : Cond.instanceMethod ⟨"GateTimes", "isItem", "(I)Z"⟩ ∈ tb := List.mem_filter.mpr ⟨List.mem_append_right _ (List.mem_of_getElem? (i := 138) (by decide +kernel)), by decide +kernel⟩
theorem kw_139 : Cond.code ⟨"GateTimes", "isItem", "(I)Z"⟩ prog_1_method_3_code 2 (Option.some FieldType.boolean) ∈ tb := List.mem_filter.mpr ⟨List.mem_append_right _ (List.mem_of_getElem? (i := 139) (by decide +kernel)), by decide +kernel⟩
theorem kw_140 : Cond.methodLink "GateTimes" 122 ⟨"GateTimes", "isBin", "(I)Z"⟩ ∈ tb := List.mem_filter.mpr ⟨List.mem_append_right _ (List.mem_of_getElem? (i := 140) (by decide +kernel)), by decide +kernel⟩
theorem kw_142 : Cond.instanceMethod ⟨"GateTimes", "isBin", "(I)Z"⟩ ∈ tb := List.mem_filter.mpr ⟨List.mem_append_right _ (List.mem_of_getElem? (i := 142) (by decide +kernel)), by decide +kernel⟩
theorem kw_143 : Cond.code ⟨"GateTimes", "isBin", "(I)Z"⟩ prog_1_method_4_code 2 (Option.some FieldType.boolean) ∈ tb := List.mem_filter.mpr ⟨List.mem_append_right _ (List.mem_of_getElem? (i := 143) (by decide +kernel)), by decide +kernel⟩
theorem kw_144 : Cond.methodLink "GateTimes" 125 ⟨"GateTimes", "isNoTime", "(J)Z"⟩ ∈ tb := List.mem_filter.mpr ⟨List.mem_append_right _ (List.mem_of_getElem? (i := 144) (by decide +kernel)), by decide +kernel⟩
theorem kw_146 : Cond.instanceMethod ⟨"GateTimes", "isNoTime", "(J)Z"⟩ ∈ tb := List.mem_filter.mpr ⟨List.mem_append_right _ (List.mem_of_getElem? (i := 146) (by decide +kernel)), by decide +kernel⟩
theorem kw_147 : Cond.code ⟨"GateTimes", "isNoTime", "(J)Z"⟩ prog_1_method_10_code 3 (Option.some FieldType.boolean) ∈ tb := List.mem_filter.mpr ⟨List.mem_append_right _ (List.mem_of_getElem? (i := 147) (by decide +kernel)), by decide +kernel⟩
theorem kw_148 : Cond.methodLink "GateTimes" 129 ⟨"GateTimes", "pass", "(J)V"⟩ ∈ tb := List.mem_filter.mpr ⟨List.mem_append_right _ (List.mem_of_getElem? (i := 148) (by decide +kernel)), by decide +kernel⟩
theorem kw_150 : Cond.instanceMethod ⟨"GateTimes", "pass", "(J)V"⟩ ∈ tb := List.mem_filter.mpr ⟨List.mem_append_right _ (List.mem_of_getElem? (i := 150) (by decide +kernel)), by decide +kernel⟩
theorem kw_151 : Cond.code ⟨"GateTimes", "pass", "(J)V"⟩ prog_1_method_9_code 4 (Option.none : Option FieldType) ∈ tb := List.mem_filter.mpr ⟨List.mem_append_right _ (List.mem_of_getElem? (i := 151) (by decide +kernel)), by decide +kernel⟩
theorem kw_152 : Cond.methodLink "GateTimes" 110 ⟨"GateTimes", "nextItem", "()I"⟩ ∈ tb := List.mem_filter.mpr ⟨List.mem_append_right _ (List.mem_of_getElem? (i := 152) (by decide +kernel)), by decide +kernel⟩
theorem kw_154 : Cond.instanceMethod ⟨"GateTimes", "nextItem", "()I"⟩ ∈ tb := List.mem_filter.mpr ⟨List.mem_append_right _ (List.mem_of_getElem? (i := 154) (by decide +kernel)), by decide +kernel⟩
theorem kw_155 : Cond.code ⟨"GateTimes", "nextItem", "()I"⟩ prog_1_method_6_code 3 (Option.some FieldType.int) ∈ tb := List.mem_filter.mpr ⟨List.mem_append_right _ (List.mem_of_getElem? (i := 155) (by decide +kernel)), by decide +kernel⟩
theorem kw_156 : Cond.methodLink "GateTimes" 79 ⟨"GateTimes$Item", "time", "()J"⟩ ∈ tb := List.mem_filter.mpr ⟨List.mem_append_right _ (List.mem_of_getElem? (i := 156) (by decide +kernel)), by decide +kernel⟩
theorem kw_157 : Cond.instanceMethod ⟨"GateTimes$Item", "time", "()J"⟩ ∈ tb := List.mem_filter.mpr ⟨List.mem_append_right _ (List.mem_of_getElem? (i := 157) (by decide +kernel)), by decide +kernel⟩
theorem kw_158 : Cond.selects "GateTimes$Item" ⟨"GateTimes$Item", "time", "()J"⟩ ⟨"GateTimes$Item", "time", "()J"⟩ ∈ tb := List.mem_filter.mpr ⟨List.mem_append_right _ (List.mem_of_getElem? (i := 158) (by decide +kernel)), by decide +kernel⟩
theorem kw_159 : Cond.code ⟨"GateTimes$Item", "time", "()J"⟩ prog_3_method_3_code 1 (Option.some FieldType.long) ∈ tb := List.mem_filter.mpr ⟨List.mem_append_right _ (List.mem_of_getElem? (i := 159) (by decide +kernel)), by decide +kernel⟩
theorem kw_160 : Cond.methodLink "GateTimes$Item" 27 ⟨"GateTimes$Item", "front", "(I)J"⟩ ∈ tb := List.mem_filter.mpr ⟨List.mem_append_right _ (List.mem_of_getElem? (i := 160) (by decide +kernel)), by decide +kernel⟩
theorem kw_161 : Cond.instanceMethod ⟨"GateTimes$Item", "front", "(I)J"⟩ ∈ tb := List.mem_filter.mpr ⟨List.mem_append_right _ (List.mem_of_getElem? (i := 161) (by decide +kernel)), by decide +kernel⟩
theorem kw_162 : Cond.selects "GateTimes$Item" ⟨"GateTimes$Item", "front", "(I)J"⟩ ⟨"GateTimes$Item", "front", "(I)J"⟩ ∈ tb := List.mem_filter.mpr ⟨List.mem_append_right _ (List.mem_of_getElem? (i := 162) (by decide +kernel)), by decide +kernel⟩
theorem kw_163 : Cond.code ⟨"GateTimes$Item", "front", "(I)J"⟩ prog_3_method_2_code 2 (Option.some FieldType.long) ∈ tb := List.mem_filter.mpr ⟨List.mem_append_right _ (List.mem_of_getElem? (i := 163) (by decide +kernel)), by decide +kernel⟩
theorem kw_164 : Cond.constantLong "GateTimes$Item" 22 1000 ∈ tb := List.mem_filter.mpr ⟨List.mem_append_right _ (List.mem_of_getElem? (i := 164) (by decide +kernel)), by decide +kernel⟩
theorem kw_165 : Cond.methodLink "GateTimes" 114 ⟨"GateTimes", "come", "(I)V"⟩ ∈ tb := List.mem_filter.mpr ⟨List.mem_append_right _ (List.mem_of_getElem? (i := 165) (by decide +kernel)), by decide +kernel⟩
theorem kw_167 : Cond.instanceMethod ⟨"GateTimes", "come", "(I)V"⟩ ∈ tb := List.mem_filter.mpr ⟨List.mem_append_right _ (List.mem_of_getElem? (i := 167) (by decide +kernel)), by decide +kernel⟩
theorem kw_168 : Cond.code ⟨"GateTimes", "come", "(I)V"⟩ prog_1_method_8_code 5 (Option.none : Option FieldType) ∈ tb := List.mem_filter.mpr ⟨List.mem_append_right _ (List.mem_of_getElem? (i := 168) (by decide +kernel)), by decide +kernel⟩
theorem kw_169 : Cond.methodLink "GateTimes" 92 ⟨"GateTimes", "leave", "(II)V"⟩ ∈ tb := List.mem_filter.mpr ⟨List.mem_append_right _ (List.mem_of_getElem? (i := 169) (by decide +kernel)), by decide +kernel⟩
theorem kw_171 : Cond.instanceMethod ⟨"GateTimes", "leave", "(II)V"⟩ ∈ tb := List.mem_filter.mpr ⟨List.mem_append_right _ (List.mem_of_getElem? (i := 171) (by decide +kernel)), by decide +kernel⟩
theorem kw_172 : Cond.code ⟨"GateTimes", "leave", "(II)V"⟩ prog_1_method_7_code 4 (Option.none : Option FieldType) ∈ tb := List.mem_filter.mpr ⟨List.mem_append_right _ (List.mem_of_getElem? (i := 172) (by decide +kernel)), by decide +kernel⟩
theorem kw_173 : Cond.methodLink "GateTimes" 99 ⟨"GateTimes$Gate", "isFull", "()Z"⟩ ∈ tb := List.mem_filter.mpr ⟨List.mem_append_right _ (List.mem_of_getElem? (i := 173) (by decide +kernel)), by decide +kernel⟩
theorem kw_174 : Cond.instanceMethod ⟨"GateTimes$Gate", "isFull", "()Z"⟩ ∈ tb := List.mem_filter.mpr ⟨List.mem_append_right _ (List.mem_of_getElem? (i := 174) (by decide +kernel)), by decide +kernel⟩
theorem kw_175 : Cond.selects "GateTimes$Gate" ⟨"GateTimes$Gate", "isFull", "()Z"⟩ ⟨"GateTimes$Gate", "isFull", "()Z"⟩ ∈ tb := List.mem_filter.mpr ⟨List.mem_append_right _ (List.mem_of_getElem? (i := 175) (by decide +kernel)), by decide +kernel⟩
theorem kw_176 : Cond.code ⟨"GateTimes$Gate", "isFull", "()Z"⟩ prog_2_method_2_code 1 (Option.some FieldType.boolean) ∈ tb := List.mem_filter.mpr ⟨List.mem_append_right _ (List.mem_of_getElem? (i := 176) (by decide +kernel)), by decide +kernel⟩
theorem kw_177 : Cond.methodLink "GateTimes" 103 ⟨"GateTimes$Gate", "take", "(ZJJ)Z"⟩ ∈ tb := List.mem_filter.mpr ⟨List.mem_append_right _ (List.mem_of_getElem? (i := 177) (by decide +kernel)), by decide +kernel⟩
theorem kw_178 : Cond.instanceMethod ⟨"GateTimes$Gate", "take", "(ZJJ)Z"⟩ ∈ tb := List.mem_filter.mpr ⟨List.mem_append_right _ (List.mem_of_getElem? (i := 178) (by decide +kernel)), by decide +kernel⟩
theorem kw_179 : Cond.selects "GateTimes$Gate" ⟨"GateTimes$Gate", "take", "(ZJJ)Z"⟩ ⟨"GateTimes$Gate", "take", "(ZJJ)Z"⟩ ∈ tb := List.mem_filter.mpr ⟨List.mem_append_right _ (List.mem_of_getElem? (i := 179) (by decide +kernel)), by decide +kernel⟩
theorem kw_180 : Cond.code ⟨"GateTimes$Gate", "take", "(ZJJ)Z"⟩ prog_2_method_4_code 6 (Option.some FieldType.boolean) ∈ tb := List.mem_filter.mpr ⟨List.mem_append_right _ (List.mem_of_getElem? (i := 180) (by decide +kernel)), by decide +kernel⟩
theorem kw_181 : Cond.methodLink "GateTimes$Gate" 34 ⟨"GateTimes$Gate", "mayTurn", "(J)Z"⟩ ∈ tb := List.mem_filter.mpr ⟨List.mem_append_right _ (List.mem_of_getElem? (i := 181) (by decide +kernel)), by decide +kernel⟩
theorem kw_183 : Cond.instanceMethod ⟨"GateTimes$Gate", "mayTurn", "(J)Z"⟩ ∈ tb := List.mem_filter.mpr ⟨List.mem_append_right _ (List.mem_of_getElem? (i := 183) (by decide +kernel)), by decide +kernel⟩
theorem kw_184 : Cond.code ⟨"GateTimes$Gate", "mayTurn", "(J)Z"⟩ prog_2_method_3_code 3 (Option.some FieldType.boolean) ∈ tb := List.mem_filter.mpr ⟨List.mem_append_right _ (List.mem_of_getElem? (i := 184) (by decide +kernel)), by decide +kernel⟩
theorem kw_185 : Cond.constantLong "GateTimes$Gate" 29 200 ∈ tb := List.mem_filter.mpr ⟨List.mem_append_right _ (List.mem_of_getElem? (i := 185) (by decide +kernel)), by decide +kernel⟩
theorem kw_186 : Cond.methodLink "GateTimes" 107 ⟨"GateTimes$Gate", "add", "()V"⟩ ∈ tb := List.mem_filter.mpr ⟨List.mem_append_right _ (List.mem_of_getElem? (i := 186) (by decide +kernel)), by decide +kernel⟩
theorem kw_187 : Cond.instanceMethod ⟨"GateTimes$Gate", "add", "()V"⟩ ∈ tb := List.mem_filter.mpr ⟨List.mem_append_right _ (List.mem_of_getElem? (i := 187) (by decide +kernel)), by decide +kernel⟩
theorem kw_188 : Cond.selects "GateTimes$Gate" ⟨"GateTimes$Gate", "add", "()V"⟩ ⟨"GateTimes$Gate", "add", "()V"⟩ ∈ tb := List.mem_filter.mpr ⟨List.mem_append_right _ (List.mem_of_getElem? (i := 188) (by decide +kernel)), by decide +kernel⟩
theorem kw_189 : Cond.code ⟨"GateTimes$Gate", "add", "()V"⟩ prog_2_method_5_code 1 (Option.none : Option FieldType) ∈ tb := List.mem_filter.mpr ⟨List.mem_append_right _ (List.mem_of_getElem? (i := 189) (by decide +kernel)), by decide +kernel⟩
theorem kw_190 : Cond.methodLink "GateTimes" 133 ⟨"GateTimes$Item", "front", "(I)J"⟩ ∈ tb := List.mem_filter.mpr ⟨List.mem_append_right _ (List.mem_of_getElem? (i := 190) (by decide +kernel)), by decide +kernel⟩
theorem kw_191 : Cond.constantLong "GateTimes" 137 200 ∈ tb := List.mem_filter.mpr ⟨List.mem_append_right _ (List.mem_of_getElem? (i := 191) (by decide +kernel)), by decide +kernel⟩
theorem kw_192 : Cond.methodLink "GateTimesLaw" 33 ⟨"GateTimes", "step", "(J)I"⟩ ∈ tb := List.mem_filter.mpr ⟨List.mem_append_right _ (List.mem_of_getElem? (i := 192) (by decide +kernel)), by decide +kernel⟩
theorem kw_193 : Cond.instanceMethod ⟨"GateTimes", "step", "(J)I"⟩ ∈ tb := List.mem_filter.mpr ⟨List.mem_append_right _ (List.mem_of_getElem? (i := 193) (by decide +kernel)), by decide +kernel⟩
theorem kw_194 : Cond.selects "GateTimes" ⟨"GateTimes", "step", "(J)I"⟩ ⟨"GateTimes", "step", "(J)I"⟩ ∈ tb := List.mem_filter.mpr ⟨List.mem_append_right _ (List.mem_of_getElem? (i := 194) (by decide +kernel)), by decide +kernel⟩
theorem kw_195 : Cond.code ⟨"GateTimes", "step", "(J)I"⟩ prog_1_method_12_code 4 (Option.some FieldType.int) ∈ tb := List.mem_filter.mpr ⟨List.mem_append_right _ (List.mem_of_getElem? (i := 195) (by decide +kernel)), by decide +kernel⟩
theorem kw_196 : Cond.methodLink "GateTimesLaw" 38 ⟨"GateTimes", "out", "(II)I"⟩ ∈ tb := List.mem_filter.mpr ⟨List.mem_append_right _ (List.mem_of_getElem? (i := 196) (by decide +kernel)), by decide +kernel⟩
theorem kw_197 : Cond.instanceMethod ⟨"GateTimes", "out", "(II)I"⟩ ∈ tb := List.mem_filter.mpr ⟨List.mem_append_right _ (List.mem_of_getElem? (i := 197) (by decide +kernel)), by decide +kernel⟩
theorem kw_198 : Cond.selects "GateTimes" ⟨"GateTimes", "out", "(II)I"⟩ ⟨"GateTimes", "out", "(II)I"⟩ ∈ tb := List.mem_filter.mpr ⟨List.mem_append_right _ (List.mem_of_getElem? (i := 198) (by decide +kernel)), by decide +kernel⟩
theorem kw_199 : Cond.code ⟨"GateTimes", "out", "(II)I"⟩ prog_1_method_13_code 3 (Option.some FieldType.int) ∈ tb := List.mem_filter.mpr ⟨List.mem_append_right _ (List.mem_of_getElem? (i := 199) (by decide +kernel)), by decide +kernel⟩
theorem kw_200 : Cond.methodLink "GateTimesLaw" 43 ⟨"GateTimes", "height", "(II)I"⟩ ∈ tb := List.mem_filter.mpr ⟨List.mem_append_right _ (List.mem_of_getElem? (i := 200) (by decide +kernel)), by decide +kernel⟩
theorem kw_201 : Cond.instanceMethod ⟨"GateTimes", "height", "(II)I"⟩ ∈ tb := List.mem_filter.mpr ⟨List.mem_append_right _ (List.mem_of_getElem? (i := 201) (by decide +kernel)), by decide +kernel⟩
theorem kw_202 : Cond.selects "GateTimes" ⟨"GateTimes", "height", "(II)I"⟩ ⟨"GateTimes", "height", "(II)I"⟩ ∈ tb := List.mem_filter.mpr ⟨List.mem_append_right _ (List.mem_of_getElem? (i := 202) (by decide +kernel)), by decide +kernel⟩
theorem kw_203 : Cond.code ⟨"GateTimes", "height", "(II)I"⟩ prog_1_method_14_code 4 (Option.some FieldType.int) ∈ tb := List.mem_filter.mpr ⟨List.mem_append_right _ (List.mem_of_getElem? (i := 203) (by decide +kernel)), by decide +kernel⟩
theorem kw_204 : Cond.constantLong "GateTimes" 145 1000 ∈ tb := List.mem_filter.mpr ⟨List.mem_append_right _ (List.mem_of_getElem? (i := 204) (by decide +kernel)), by decide +kernel⟩
theorem kw_205 : Cond.methodLink "GateTimesLaw" 47 ⟨"GateTimes", "swap", "(I)I"⟩ ∈ tb := List.mem_filter.mpr ⟨List.mem_append_right _ (List.mem_of_getElem? (i := 205) (by decide +kernel)), by decide +kernel⟩
theorem kw_206 : Cond.instanceMethod ⟨"GateTimes", "swap", "(I)I"⟩ ∈ tb := List.mem_filter.mpr ⟨List.mem_append_right _ (List.mem_of_getElem? (i := 206) (by decide +kernel)), by decide +kernel⟩
theorem kw_207 : Cond.selects "GateTimes" ⟨"GateTimes", "swap", "(I)I"⟩ ⟨"GateTimes", "swap", "(I)I"⟩ ∈ tb := List.mem_filter.mpr ⟨List.mem_append_right _ (List.mem_of_getElem? (i := 207) (by decide +kernel)), by decide +kernel⟩
theorem kw_208 : Cond.code ⟨"GateTimes", "swap", "(I)I"⟩ prog_1_method_15_code 3 (Option.some FieldType.int) ∈ tb := List.mem_filter.mpr ⟨List.mem_append_right _ (List.mem_of_getElem? (i := 208) (by decide +kernel)), by decide +kernel⟩
theorem kw_209 : Cond.methodLink "GateTimesLaw" 52 ⟨"GateTimes", "stuck", "(IZ)I"⟩ ∈ tb := List.mem_filter.mpr ⟨List.mem_append_right _ (List.mem_of_getElem? (i := 209) (by decide +kernel)), by decide +kernel⟩
theorem kw_210 : Cond.instanceMethod ⟨"GateTimes", "stuck", "(IZ)I"⟩ ∈ tb := List.mem_filter.mpr ⟨List.mem_append_right _ (List.mem_of_getElem? (i := 210) (by decide +kernel)), by decide +kernel⟩
theorem kw_211 : Cond.selects "GateTimes" ⟨"GateTimes", "stuck", "(IZ)I"⟩ ⟨"GateTimes", "stuck", "(IZ)I"⟩ ∈ tb := List.mem_filter.mpr ⟨List.mem_append_right _ (List.mem_of_getElem? (i := 211) (by decide +kernel)), by decide +kernel⟩
theorem kw_212 : Cond.code ⟨"GateTimes", "stuck", "(IZ)I"⟩ prog_1_method_16_code 4 (Option.some FieldType.int) ∈ tb := List.mem_filter.mpr ⟨List.mem_append_right _ (List.mem_of_getElem? (i := 212) (by decide +kernel)), by decide +kernel⟩
theorem kw_213 : Cond.methodLink "GateTimesLaw" 57 ⟨"GateTimes", "late", "(I)I"⟩ ∈ tb := List.mem_filter.mpr ⟨List.mem_append_right _ (List.mem_of_getElem? (i := 213) (by decide +kernel)), by decide +kernel⟩
theorem kw_214 : Cond.instanceMethod ⟨"GateTimes", "late", "(I)I"⟩ ∈ tb := List.mem_filter.mpr ⟨List.mem_append_right _ (List.mem_of_getElem? (i := 214) (by decide +kernel)), by decide +kernel⟩
theorem kw_215 : Cond.selects "GateTimes" ⟨"GateTimes", "late", "(I)I"⟩ ⟨"GateTimes", "late", "(I)I"⟩ ∈ tb := List.mem_filter.mpr ⟨List.mem_append_right _ (List.mem_of_getElem? (i := 215) (by decide +kernel)), by decide +kernel⟩
theorem kw_216 : Cond.code ⟨"GateTimes", "late", "(I)I"⟩ prog_1_method_17_code 2 (Option.some FieldType.int) ∈ tb := List.mem_filter.mpr ⟨List.mem_append_right _ (List.mem_of_getElem? (i := 216) (by decide +kernel)), by decide +kernel⟩
theorem kw_217 : Cond.methodLink "GateTimesLaw" 61 ⟨"GateTimes", "count", "(I)I"⟩ ∈ tb := List.mem_filter.mpr ⟨List.mem_append_right _ (List.mem_of_getElem? (i := 217) (by decide +kernel)), by decide +kernel⟩
theorem kw_218 : Cond.instanceMethod ⟨"GateTimes", "count", "(I)I"⟩ ∈ tb := List.mem_filter.mpr ⟨List.mem_append_right _ (List.mem_of_getElem? (i := 218) (by decide +kernel)), by decide +kernel⟩
theorem kw_219 : Cond.selects "GateTimes" ⟨"GateTimes", "count", "(I)I"⟩ ⟨"GateTimes", "count", "(I)I"⟩ ∈ tb := List.mem_filter.mpr ⟨List.mem_append_right _ (List.mem_of_getElem? (i := 219) (by decide +kernel)), by decide +kernel⟩
theorem kw_220 : Cond.code ⟨"GateTimes", "count", "(I)I"⟩ prog_1_method_18_code 2 (Option.some FieldType.int) ∈ tb := List.mem_filter.mpr ⟨List.mem_append_right _ (List.mem_of_getElem? (i := 220) (by decide +kernel)), by decide +kernel⟩
theorem kw_221 : Cond.methodLink "GateTimesLaw" 65 ⟨"GateTimes", "verify", "(II)I"⟩ ∈ tb := List.mem_filter.mpr ⟨List.mem_append_right _ (List.mem_of_getElem? (i := 221) (by decide +kernel)), by decide +kernel⟩
theorem kw_222 : Cond.instanceMethod ⟨"GateTimes", "verify", "(II)I"⟩ ∈ tb := List.mem_filter.mpr ⟨List.mem_append_right _ (List.mem_of_getElem? (i := 222) (by decide +kernel)), by decide +kernel⟩
theorem kw_223 : Cond.selects "GateTimes" ⟨"GateTimes", "verify", "(II)I"⟩ ⟨"GateTimes", "verify", "(II)I"⟩ ∈ tb := List.mem_filter.mpr ⟨List.mem_append_right _ (List.mem_of_getElem? (i := 223) (by decide +kernel)), by decide +kernel⟩
theorem kw_224 : Cond.code ⟨"GateTimes", "verify", "(II)I"⟩ prog_1_method_19_code 6 (Option.some FieldType.int) ∈ tb := List.mem_filter.mpr ⟨List.mem_append_right _ (List.mem_of_getElem? (i := 224) (by decide +kernel)), by decide +kernel⟩
theorem kw_225 : Cond.methodLink "GateTimes" 159 ⟨"GateTimes$Item", "isWrong", "(I)Z"⟩ ∈ tb := List.mem_filter.mpr ⟨List.mem_append_right _ (List.mem_of_getElem? (i := 225) (by decide +kernel)), by decide +kernel⟩
theorem kw_226 : Cond.instanceMethod ⟨"GateTimes$Item", "isWrong", "(I)Z"⟩ ∈ tb := List.mem_filter.mpr ⟨List.mem_append_right _ (List.mem_of_getElem? (i := 226) (by decide +kernel)), by decide +kernel⟩
theorem kw_227 : Cond.selects "GateTimes$Item" ⟨"GateTimes$Item", "isWrong", "(I)Z"⟩ ⟨"GateTimes$Item", "isWrong", "(I)Z"⟩ ∈ tb := List.mem_filter.mpr ⟨List.mem_append_right _ (List.mem_of_getElem? (i := 227) (by decide +kernel)), by decide +kernel⟩
theorem kw_228 : Cond.code ⟨"GateTimes$Item", "isWrong", "(I)Z"⟩ prog_3_method_4_code 2 (Option.some FieldType.boolean) ∈ tb := List.mem_filter.mpr ⟨List.mem_append_right _ (List.mem_of_getElem? (i := 228) (by decide +kernel)), by decide +kernel⟩
theorem kw_229 : Cond.methodLink "GateTimesLaw" 9 ⟨"GateTimesLaw", "cell", "([II)I"⟩ ∈ tb := List.mem_filter.mpr ⟨List.mem_append_right _ (List.mem_of_getElem? (i := 229) (by decide +kernel)), by decide +kernel⟩
theorem kw_230 : Cond.static ⟨"GateTimesLaw", "cell", "([II)I"⟩ ∈ tb := List.mem_filter.mpr ⟨List.mem_append_right _ (List.mem_of_getElem? (i := 230) (by decide +kernel)), by decide +kernel⟩
theorem kw_231 : Cond.code ⟨"GateTimesLaw", "cell", "([II)I"⟩ method_2_code 2 (Option.some FieldType.int) ∈ tb := List.mem_filter.mpr ⟨List.mem_append_right _ (List.mem_of_getElem? (i := 231) (by decide +kernel)), by decide +kernel⟩
theorem kw_232 : Cond.classLink "GateTimesLaw" 18 "GateTimesModel" ∈ tb := List.mem_filter.mpr ⟨List.mem_append_right _ (List.mem_of_getElem? (i := 232) (by decide +kernel)), by decide +kernel⟩
theorem kw_233 : Cond.instantiable "GateTimesModel" 21 ∈ tb := List.mem_filter.mpr ⟨List.mem_append_right _ (List.mem_of_getElem? (i := 233) (by decide +kernel)), by decide +kernel⟩
theorem kw_234 : Cond.methodLink "GateTimesLaw" 20 ⟨"GateTimesModel", "<init>", "(I)V"⟩ ∈ tb := List.mem_filter.mpr ⟨List.mem_append_right _ (List.mem_of_getElem? (i := 234) (by decide +kernel)), by decide +kernel⟩
theorem kw_235 : Cond.instanceMethod ⟨"GateTimesModel", "<init>", "(I)V"⟩ ∈ tb := List.mem_filter.mpr ⟨List.mem_append_right _ (List.mem_of_getElem? (i := 235) (by decide +kernel)), by decide +kernel⟩
theorem kw_236 : Cond.code ⟨"GateTimesModel", "<init>", "(I)V"⟩ prog_5_method_1_code 3 (Option.none : Option FieldType) ∈ tb := List.mem_filter.mpr ⟨List.mem_append_right _ (List.mem_of_getElem? (i := 236) (by decide +kernel)), by decide +kernel⟩
theorem kw_237 : Cond.methodLink "GateTimesModel" 1 ⟨"java/lang/Object", "<init>", "()V"⟩ ∈ tb := List.mem_filter.mpr ⟨List.mem_append_right _ (List.mem_of_getElem? (i := 237) (by decide +kernel)), by decide +kernel⟩
theorem kw_238 : Cond.fieldLink "GateTimesModel" 61 "GateTimesModel" "thrown" "I" ∈ tb := List.mem_filter.mpr ⟨List.mem_append_right _ (List.mem_of_getElem? (i := 238) (by decide +kernel)), by decide +kernel⟩
theorem kw_239 : Cond.fieldLink "GateTimesModel" 57 "GateTimesModel" "gates" "I" ∈ tb := List.mem_filter.mpr ⟨List.mem_append_right _ (List.mem_of_getElem? (i := 239) (by decide +kernel)), by decide +kernel⟩
theorem kw_240 : Cond.fieldLink "GateTimesModel" 64 "GateTimesModel" "items" "I" ∈ tb := List.mem_filter.mpr ⟨List.mem_append_right _ (List.mem_of_getElem? (i := 240) (by decide +kernel)), by decide +kernel⟩
theorem kw_241 : Cond.fieldLink "GateTimesModel" 7 "GateTimesModel" "ats" "[J" ∈ tb := List.mem_filter.mpr ⟨List.mem_append_right _ (List.mem_of_getElem? (i := 241) (by decide +kernel)), by decide +kernel⟩
theorem kw_242 : Cond.fieldLink "GateTimesModel" 13 "GateTimesModel" "lengths" "[J" ∈ tb := List.mem_filter.mpr ⟨List.mem_append_right _ (List.mem_of_getElem? (i := 242) (by decide +kernel)), by decide +kernel⟩
theorem kw_243 : Cond.fieldLink "GateTimesModel" 16 "GateTimesModel" "orders" "[I" ∈ tb := List.mem_filter.mpr ⟨List.mem_append_right _ (List.mem_of_getElem? (i := 243) (by decide +kernel)), by decide +kernel⟩
theorem kw_244 : Cond.fieldLink "GateTimesModel" 20 "GateTimesModel" "nexts" "[I" ∈ tb := List.mem_filter.mpr ⟨List.mem_append_right _ (List.mem_of_getElem? (i := 244) (by decide +kernel)), by decide +kernel⟩
theorem kw_245 : Cond.fieldLink "GateTimesModel" 23 "GateTimesModel" "bins" "[I" ∈ tb := List.mem_filter.mpr ⟨List.mem_append_right _ (List.mem_of_getElem? (i := 245) (by decide +kernel)), by decide +kernel⟩
theorem kw_246 : Cond.fieldLink "GateTimesModel" 26 "GateTimesModel" "lates" "[I" ∈ tb := List.mem_filter.mpr ⟨List.mem_append_right _ (List.mem_of_getElem? (i := 246) (by decide +kernel)), by decide +kernel⟩
theorem kw_247 : Cond.fieldLink "GateTimesModel" 29 "GateTimesModel" "times" "[J" ∈ tb := List.mem_filter.mpr ⟨List.mem_append_right _ (List.mem_of_getElem? (i := 247) (by decide +kernel)), by decide +kernel⟩
theorem kw_248 : Cond.fieldLink "GateTimesModel" 32 "GateTimesModel" "open" "[Z" ∈ tb := List.mem_filter.mpr ⟨List.mem_append_right _ (List.mem_of_getElem? (i := 248) (by decide +kernel)), by decide +kernel⟩
theorem kw_249 : Cond.fieldLink "GateTimesModel" 36 "GateTimesModel" "stuck" "[Z" ∈ tb := List.mem_filter.mpr ⟨List.mem_append_right _ (List.mem_of_getElem? (i := 249) (by decide +kernel)), by decide +kernel⟩
theorem kw_250 : Cond.fieldLink "GateTimesModel" 39 "GateTimesModel" "used" "[Z" ∈ tb := List.mem_filter.mpr ⟨List.mem_append_right _ (List.mem_of_getElem? (i := 250) (by decide +kernel)), by decide +kernel⟩
theorem kw_251 : Cond.fieldLink "GateTimesModel" 42 "GateTimesModel" "ends" "[J" ∈ tb := List.mem_filter.mpr ⟨List.mem_append_right _ (List.mem_of_getElem? (i := 251) (by decide +kernel)), by decide +kernel⟩
theorem kw_252 : Cond.fieldLink "GateTimesModel" 45 "GateTimesModel" "heights" "[I" ∈ tb := List.mem_filter.mpr ⟨List.mem_append_right _ (List.mem_of_getElem? (i := 252) (by decide +kernel)), by decide +kernel⟩
theorem kw_253 : Cond.fieldLink "GateTimesModel" 48 "GateTimesModel" "holds" "[I" ∈ tb := List.mem_filter.mpr ⟨List.mem_append_right _ (List.mem_of_getElem? (i := 253) (by decide +kernel)), by decide +kernel⟩
theorem kw_254 : Cond.fieldLink "GateTimesModel" 51 "GateTimesModel" "counts" "[I" ∈ tb := List.mem_filter.mpr ⟨List.mem_append_right _ (List.mem_of_getElem? (i := 254) (by decide +kernel)), by decide +kernel⟩
theorem kw_255 : Cond.fieldLink "GateTimesModel" 75 "GateTimesModel" "now" "J" ∈ tb := List.mem_filter.mpr ⟨List.mem_append_right _ (List.mem_of_getElem? (i := 255) (by decide +kernel)), by decide +kernel⟩
theorem kw_256 : Cond.fieldLink "GateTimesModel" 93 "GateTimesModel" "outs" "I" ∈ tb := List.mem_filter.mpr ⟨List.mem_append_right _ (List.mem_of_getElem? (i := 256) (by decide +kernel)), by decide +kernel⟩
theorem kw_257 : Cond.fieldLink "GateTimesModel" 54 "GateTimesModel" "out" "[I" ∈ tb := List.mem_filter.mpr ⟨List.mem_append_right _ (List.mem_of_getElem? (i := 257) (by decide +kernel)), by decide +kernel⟩
theorem kw_258 : Cond.fieldLink "GateTimesModel" 107 "GateTimesModel" "told" "I" ∈ tb := List.mem_filter.mpr ⟨List.mem_append_right _ (List.mem_of_getElem? (i := 258) (by decide +kernel)), by decide +kernel⟩
theorem kw_302 : Cond.arrayClass FieldType.boolean ∈ tb := List.mem_filter.mpr ⟨List.mem_append_right _ (List.mem_of_getElem? (i := 302) (by decide +kernel)), by decide +kernel⟩
theorem kw_303 : Cond.methodLink "GateTimesLaw" 27 ⟨"GateTimesModel", "item", "(JJ)I"⟩ ∈ tb := List.mem_filter.mpr ⟨List.mem_append_right _ (List.mem_of_getElem? (i := 303) (by decide +kernel)), by decide +kernel⟩
theorem kw_304 : Cond.instanceMethod ⟨"GateTimesModel", "item", "(JJ)I"⟩ ∈ tb := List.mem_filter.mpr ⟨List.mem_append_right _ (List.mem_of_getElem? (i := 304) (by decide +kernel)), by decide +kernel⟩
theorem kw_305 : Cond.selects "GateTimesModel" ⟨"GateTimesModel", "item", "(JJ)I"⟩ ⟨"GateTimesModel", "item", "(JJ)I"⟩ ∈ tb := List.mem_filter.mpr ⟨List.mem_append_right _ (List.mem_of_getElem? (i := 305) (by decide +kernel)), by decide +kernel⟩
theorem kw_306 : Cond.code ⟨"GateTimesModel", "item", "(JJ)I"⟩ prog_5_method_6_code 6 (Option.some FieldType.int) ∈ tb := List.mem_filter.mpr ⟨List.mem_append_right _ (List.mem_of_getElem? (i := 306) (by decide +kernel)), by decide +kernel⟩
theorem kw_307 : Cond.constantLong "GateTimesModel" 71 50 ∈ tb := List.mem_filter.mpr ⟨List.mem_append_right _ (List.mem_of_getElem? (i := 307) (by decide +kernel)), by decide +kernel⟩
theorem kw_308 : Cond.constantLong "GateTimesModel" 73 900 ∈ tb := List.mem_filter.mpr ⟨List.mem_append_right _ (List.mem_of_getElem? (i := 308) (by decide +kernel)), by decide +kernel⟩
theorem kw_309 : Cond.methodLink "GateTimesModel" 67 ⟨"GateTimesModel", "isIn", "(JJJ)Z"⟩ ∈ tb := List.mem_filter.mpr ⟨List.mem_append_right _ (List.mem_of_getElem? (i := 309) (by decide +kernel)), by decide +kernel⟩
theorem kw_310 : Cond.static ⟨"GateTimesModel", "isIn", "(JJJ)Z"⟩ ∈ tb := List.mem_filter.mpr ⟨List.mem_append_right _ (List.mem_of_getElem? (i := 310) (by decide +kernel)), by decide +kernel⟩
theorem kw_311 : Cond.code ⟨"GateTimesModel", "isIn", "(JJJ)Z"⟩ prog_5_method_3_code 6 (Option.some FieldType.boolean) ∈ tb := List.mem_filter.mpr ⟨List.mem_append_right _ (List.mem_of_getElem? (i := 311) (by decide +kernel)), by decide +kernel⟩
theorem kw_312 : Cond.constantLong "GateTimesModel" 79 1000000000 ∈ tb := List.mem_filter.mpr ⟨List.mem_append_right _ (List.mem_of_getElem? (i := 312) (by decide +kernel)), by decide +kernel⟩
theorem kw_313 : Cond.methodLink "GateTimesLaw" 32 ⟨"GateTimesModel", "order", "(IIJ)I"⟩ ∈ tb := List.mem_filter.mpr ⟨List.mem_append_right _ (List.mem_of_getElem? (i := 313) (by decide +kernel)), by decide +kernel⟩
theorem kw_314 : Cond.instanceMethod ⟨"GateTimesModel", "order", "(IIJ)I"⟩ ∈ tb := List.mem_filter.mpr ⟨List.mem_append_right _ (List.mem_of_getElem? (i := 314) (by decide +kernel)), by decide +kernel⟩
theorem kw_315 : Cond.selects "GateTimesModel" ⟨"GateTimesModel", "order", "(IIJ)I"⟩ ⟨"GateTimesModel", "order", "(IIJ)I"⟩ ∈ tb := List.mem_filter.mpr ⟨List.mem_append_right _ (List.mem_of_getElem? (i := 315) (by decide +kernel)), by decide +kernel⟩
theorem kw_316 : Cond.code ⟨"GateTimesModel", "order", "(IIJ)I"⟩ prog_5_method_10_code 7 (Option.some FieldType.int) ∈ tb := List.mem_filter.mpr ⟨List.mem_append_right _ (List.mem_of_getElem? (i := 316) (by decide +kernel)), by decide +kernel⟩
theorem kw_317 : Cond.methodLink "GateTimesModel" 96 ⟨"GateTimesModel", "isItem", "(I)Z"⟩ ∈ tb := List.mem_filter.mpr ⟨List.mem_append_right _ (List.mem_of_getElem? (i := 317) (by decide +kernel)), by decide +kernel⟩
theorem kw_319 : Cond.instanceMethod ⟨"GateTimesModel", "isItem", "(I)Z"⟩ ∈ tb := List.mem_filter.mpr ⟨List.mem_append_right _ (List.mem_of_getElem? (i := 319) (by decide +kernel)), by decide +kernel⟩
theorem kw_320 : Cond.code ⟨"GateTimesModel", "isItem", "(I)Z"⟩ prog_5_method_4_code 2 (Option.some FieldType.boolean) ∈ tb := List.mem_filter.mpr ⟨List.mem_append_right _ (List.mem_of_getElem? (i := 320) (by decide +kernel)), by decide +kernel⟩
theorem kw_321 : Cond.methodLink "GateTimesModel" 100 ⟨"GateTimesModel", "isBin", "(I)Z"⟩ ∈ tb := List.mem_filter.mpr ⟨List.mem_append_right _ (List.mem_of_getElem? (i := 321) (by decide +kernel)), by decide +kernel⟩
theorem kw_323 : Cond.instanceMethod ⟨"GateTimesModel", "isBin", "(I)Z"⟩ ∈ tb := List.mem_filter.mpr ⟨List.mem_append_right _ (List.mem_of_getElem? (i := 323) (by decide +kernel)), by decide +kernel⟩
theorem kw_324 : Cond.code ⟨"GateTimesModel", "isBin", "(I)Z"⟩ prog_5_method_5_code 2 (Option.some FieldType.boolean) ∈ tb := List.mem_filter.mpr ⟨List.mem_append_right _ (List.mem_of_getElem? (i := 324) (by decide +kernel)), by decide +kernel⟩
theorem kw_325 : Cond.methodLink "GateTimesModel" 103 ⟨"GateTimesModel", "pass", "(J)V"⟩ ∈ tb := List.mem_filter.mpr ⟨List.mem_append_right _ (List.mem_of_getElem? (i := 325) (by decide +kernel)), by decide +kernel⟩
theorem kw_327 : Cond.instanceMethod ⟨"GateTimesModel", "pass", "(J)V"⟩ ∈ tb := List.mem_filter.mpr ⟨List.mem_append_right _ (List.mem_of_getElem? (i := 327) (by decide +kernel)), by decide +kernel⟩
theorem kw_328 : Cond.code ⟨"GateTimesModel", "pass", "(J)V"⟩ prog_5_method_9_code 6 (Option.none : Option FieldType) ∈ tb := List.mem_filter.mpr ⟨List.mem_append_right _ (List.mem_of_getElem? (i := 328) (by decide +kernel)), by decide +kernel⟩
theorem kw_329 : Cond.methodLink "GateTimesModel" 83 ⟨"GateTimesModel", "front", "(II)J"⟩ ∈ tb := List.mem_filter.mpr ⟨List.mem_append_right _ (List.mem_of_getElem? (i := 329) (by decide +kernel)), by decide +kernel⟩
theorem kw_331 : Cond.instanceMethod ⟨"GateTimesModel", "front", "(II)J"⟩ ∈ tb := List.mem_filter.mpr ⟨List.mem_append_right _ (List.mem_of_getElem? (i := 331) (by decide +kernel)), by decide +kernel⟩
theorem kw_332 : Cond.code ⟨"GateTimesModel", "front", "(II)J"⟩ prog_5_method_7_code 3 (Option.some FieldType.long) ∈ tb := List.mem_filter.mpr ⟨List.mem_append_right _ (List.mem_of_getElem? (i := 332) (by decide +kernel)), by decide +kernel⟩
theorem kw_333 : Cond.constantLong "GateTimesModel" 81 1000 ∈ tb := List.mem_filter.mpr ⟨List.mem_append_right _ (List.mem_of_getElem? (i := 333) (by decide +kernel)), by decide +kernel⟩
theorem kw_334 : Cond.methodLink "GateTimesModel" 89 ⟨"GateTimesModel", "at", "(II)V"⟩ ∈ tb := List.mem_filter.mpr ⟨List.mem_append_right _ (List.mem_of_getElem? (i := 334) (by decide +kernel)), by decide +kernel⟩
theorem kw_336 : Cond.instanceMethod ⟨"GateTimesModel", "at", "(II)V"⟩ ∈ tb := List.mem_filter.mpr ⟨List.mem_append_right _ (List.mem_of_getElem? (i := 336) (by decide +kernel)), by decide +kernel⟩
theorem kw_337 : Cond.code ⟨"GateTimesModel", "at", "(II)V"⟩ prog_5_method_8_code 7 (Option.none : Option FieldType) ∈ tb := List.mem_filter.mpr ⟨List.mem_append_right _ (List.mem_of_getElem? (i := 337) (by decide +kernel)), by decide +kernel⟩
theorem kw_338 : Cond.constantLong "GateTimesModel" 87 200 ∈ tb := List.mem_filter.mpr ⟨List.mem_append_right _ (List.mem_of_getElem? (i := 338) (by decide +kernel)), by decide +kernel⟩
theorem kw_339 : Cond.methodLink "GateTimesLaw" 37 ⟨"GateTimesModel", "step", "(J)I"⟩ ∈ tb := List.mem_filter.mpr ⟨List.mem_append_right _ (List.mem_of_getElem? (i := 339) (by decide +kernel)), by decide +kernel⟩
theorem kw_340 : Cond.instanceMethod ⟨"GateTimesModel", "step", "(J)I"⟩ ∈ tb := List.mem_filter.mpr ⟨List.mem_append_right _ (List.mem_of_getElem? (i := 340) (by decide +kernel)), by decide +kernel⟩
theorem kw_341 : Cond.selects "GateTimesModel" ⟨"GateTimesModel", "step", "(J)I"⟩ ⟨"GateTimesModel", "step", "(J)I"⟩ ∈ tb := List.mem_filter.mpr ⟨List.mem_append_right _ (List.mem_of_getElem? (i := 341) (by decide +kernel)), by decide +kernel⟩
theorem kw_342 : Cond.code ⟨"GateTimesModel", "step", "(J)I"⟩ prog_5_method_11_code 4 (Option.some FieldType.int) ∈ tb := List.mem_filter.mpr ⟨List.mem_append_right _ (List.mem_of_getElem? (i := 342) (by decide +kernel)), by decide +kernel⟩
theorem kw_343 : Cond.methodLink "GateTimesLaw" 42 ⟨"GateTimesModel", "out", "(II)I"⟩ ∈ tb := List.mem_filter.mpr ⟨List.mem_append_right _ (List.mem_of_getElem? (i := 343) (by decide +kernel)), by decide +kernel⟩
theorem kw_344 : Cond.instanceMethod ⟨"GateTimesModel", "out", "(II)I"⟩ ∈ tb := List.mem_filter.mpr ⟨List.mem_append_right _ (List.mem_of_getElem? (i := 344) (by decide +kernel)), by decide +kernel⟩
theorem kw_345 : Cond.selects "GateTimesModel" ⟨"GateTimesModel", "out", "(II)I"⟩ ⟨"GateTimesModel", "out", "(II)I"⟩ ∈ tb := List.mem_filter.mpr ⟨List.mem_append_right _ (List.mem_of_getElem? (i := 345) (by decide +kernel)), by decide +kernel⟩
theorem kw_346 : Cond.code ⟨"GateTimesModel", "out", "(II)I"⟩ prog_5_method_12_code 3 (Option.some FieldType.int) ∈ tb := List.mem_filter.mpr ⟨List.mem_append_right _ (List.mem_of_getElem? (i := 346) (by decide +kernel)), by decide +kernel⟩
theorem kw_347 : Cond.methodLink "GateTimesLaw" 46 ⟨"GateTimesModel", "height", "(II)I"⟩ ∈ tb := List.mem_filter.mpr ⟨List.mem_append_right _ (List.mem_of_getElem? (i := 347) (by decide +kernel)), by decide +kernel⟩
theorem kw_348 : Cond.instanceMethod ⟨"GateTimesModel", "height", "(II)I"⟩ ∈ tb := List.mem_filter.mpr ⟨List.mem_append_right _ (List.mem_of_getElem? (i := 348) (by decide +kernel)), by decide +kernel⟩
theorem kw_349 : Cond.selects "GateTimesModel" ⟨"GateTimesModel", "height", "(II)I"⟩ ⟨"GateTimesModel", "height", "(II)I"⟩ ∈ tb := List.mem_filter.mpr ⟨List.mem_append_right _ (List.mem_of_getElem? (i := 349) (by decide +kernel)), by decide +kernel⟩
theorem kw_350 : Cond.code ⟨"GateTimesModel", "height", "(II)I"⟩ prog_5_method_13_code 4 (Option.some FieldType.int) ∈ tb := List.mem_filter.mpr ⟨List.mem_append_right _ (List.mem_of_getElem? (i := 350) (by decide +kernel)), by decide +kernel⟩
theorem kw_351 : Cond.methodLink "GateTimesLaw" 51 ⟨"GateTimesModel", "swap", "(I)I"⟩ ∈ tb := List.mem_filter.mpr ⟨List.mem_append_right _ (List.mem_of_getElem? (i := 351) (by decide +kernel)), by decide +kernel⟩
theorem kw_352 : Cond.instanceMethod ⟨"GateTimesModel", "swap", "(I)I"⟩ ∈ tb := List.mem_filter.mpr ⟨List.mem_append_right _ (List.mem_of_getElem? (i := 352) (by decide +kernel)), by decide +kernel⟩
theorem kw_353 : Cond.selects "GateTimesModel" ⟨"GateTimesModel", "swap", "(I)I"⟩ ⟨"GateTimesModel", "swap", "(I)I"⟩ ∈ tb := List.mem_filter.mpr ⟨List.mem_append_right _ (List.mem_of_getElem? (i := 353) (by decide +kernel)), by decide +kernel⟩
theorem kw_354 : Cond.code ⟨"GateTimesModel", "swap", "(I)I"⟩ prog_5_method_14_code 3 (Option.some FieldType.int) ∈ tb := List.mem_filter.mpr ⟨List.mem_append_right _ (List.mem_of_getElem? (i := 354) (by decide +kernel)), by decide +kernel⟩
theorem kw_355 : Cond.methodLink "GateTimesLaw" 56 ⟨"GateTimesModel", "stuck", "(IZ)I"⟩ ∈ tb := List.mem_filter.mpr ⟨List.mem_append_right _ (List.mem_of_getElem? (i := 355) (by decide +kernel)), by decide +kernel⟩
theorem kw_356 : Cond.instanceMethod ⟨"GateTimesModel", "stuck", "(IZ)I"⟩ ∈ tb := List.mem_filter.mpr ⟨List.mem_append_right _ (List.mem_of_getElem? (i := 356) (by decide +kernel)), by decide +kernel⟩
theorem kw_357 : Cond.selects "GateTimesModel" ⟨"GateTimesModel", "stuck", "(IZ)I"⟩ ⟨"GateTimesModel", "stuck", "(IZ)I"⟩ ∈ tb := List.mem_filter.mpr ⟨List.mem_append_right _ (List.mem_of_getElem? (i := 357) (by decide +kernel)), by decide +kernel⟩
theorem kw_358 : Cond.code ⟨"GateTimesModel", "stuck", "(IZ)I"⟩ prog_5_method_15_code 4 (Option.some FieldType.int) ∈ tb := List.mem_filter.mpr ⟨List.mem_append_right _ (List.mem_of_getElem? (i := 358) (by decide +kernel)), by decide +kernel⟩
theorem kw_359 : Cond.methodLink "GateTimesLaw" 60 ⟨"GateTimesModel", "late", "(I)I"⟩ ∈ tb := List.mem_filter.mpr ⟨List.mem_append_right _ (List.mem_of_getElem? (i := 359) (by decide +kernel)), by decide +kernel⟩
theorem kw_360 : Cond.instanceMethod ⟨"GateTimesModel", "late", "(I)I"⟩ ∈ tb := List.mem_filter.mpr ⟨List.mem_append_right _ (List.mem_of_getElem? (i := 360) (by decide +kernel)), by decide +kernel⟩
theorem kw_361 : Cond.selects "GateTimesModel" ⟨"GateTimesModel", "late", "(I)I"⟩ ⟨"GateTimesModel", "late", "(I)I"⟩ ∈ tb := List.mem_filter.mpr ⟨List.mem_append_right _ (List.mem_of_getElem? (i := 361) (by decide +kernel)), by decide +kernel⟩
theorem kw_362 : Cond.code ⟨"GateTimesModel", "late", "(I)I"⟩ prog_5_method_16_code 2 (Option.some FieldType.int) ∈ tb := List.mem_filter.mpr ⟨List.mem_append_right _ (List.mem_of_getElem? (i := 362) (by decide +kernel)), by decide +kernel⟩
theorem kw_363 : Cond.methodLink "GateTimesLaw" 64 ⟨"GateTimesModel", "count", "(I)I"⟩ ∈ tb := List.mem_filter.mpr ⟨List.mem_append_right _ (List.mem_of_getElem? (i := 363) (by decide +kernel)), by decide +kernel⟩
theorem kw_364 : Cond.instanceMethod ⟨"GateTimesModel", "count", "(I)I"⟩ ∈ tb := List.mem_filter.mpr ⟨List.mem_append_right _ (List.mem_of_getElem? (i := 364) (by decide +kernel)), by decide +kernel⟩
theorem kw_365 : Cond.selects "GateTimesModel" ⟨"GateTimesModel", "count", "(I)I"⟩ ⟨"GateTimesModel", "count", "(I)I"⟩ ∈ tb := List.mem_filter.mpr ⟨List.mem_append_right _ (List.mem_of_getElem? (i := 365) (by decide +kernel)), by decide +kernel⟩
theorem kw_366 : Cond.code ⟨"GateTimesModel", "count", "(I)I"⟩ prog_5_method_17_code 2 (Option.some FieldType.int) ∈ tb := List.mem_filter.mpr ⟨List.mem_append_right _ (List.mem_of_getElem? (i := 366) (by decide +kernel)), by decide +kernel⟩
theorem kw_367 : Cond.methodLink "GateTimesLaw" 68 ⟨"GateTimesModel", "verify", "(II)I"⟩ ∈ tb := List.mem_filter.mpr ⟨List.mem_append_right _ (List.mem_of_getElem? (i := 367) (by decide +kernel)), by decide +kernel⟩
theorem kw_368 : Cond.instanceMethod ⟨"GateTimesModel", "verify", "(II)I"⟩ ∈ tb := List.mem_filter.mpr ⟨List.mem_append_right _ (List.mem_of_getElem? (i := 368) (by decide +kernel)), by decide +kernel⟩
theorem kw_369 : Cond.selects "GateTimesModel" ⟨"GateTimesModel", "verify", "(II)I"⟩ ⟨"GateTimesModel", "verify", "(II)I"⟩ ∈ tb := List.mem_filter.mpr ⟨List.mem_append_right _ (List.mem_of_getElem? (i := 369) (by decide +kernel)), by decide +kernel⟩
theorem kw_370 : Cond.code ⟨"GateTimesModel", "verify", "(II)I"⟩ prog_5_method_18_code 7 (Option.some FieldType.int) ∈ tb := List.mem_filter.mpr ⟨List.mem_append_right _ (List.mem_of_getElem? (i := 370) (by decide +kernel)), by decide +kernel⟩
theorem kw_371 : Cond.constantLong "GateTimesLaw" 21 4294967295 ∈ tb := List.mem_filter.mpr ⟨List.mem_append_right _ (List.mem_of_getElem? (i := 371) (by decide +kernel)), by decide +kernel⟩
theorem ks_X_isItem : Cond.selects "GateTimes" ⟨"GateTimes", "isItem", "(I)Z"⟩ ⟨"GateTimes", "isItem", "(I)Z"⟩ ∈ tb := List.mem_filter.mpr ⟨List.mem_append_left _ (List.mem_of_getElem? (i := 0) (by decide +kernel)), by decide +kernel⟩
theorem ks_X_isBin : Cond.selects "GateTimes" ⟨"GateTimes", "isBin", "(I)Z"⟩ ⟨"GateTimes", "isBin", "(I)Z"⟩ ∈ tb := List.mem_filter.mpr ⟨List.mem_append_left _ (List.mem_of_getElem? (i := 1) (by decide +kernel)), by decide +kernel⟩
theorem ks_X_isNoTime : Cond.selects "GateTimes" ⟨"GateTimes", "isNoTime", "(J)Z"⟩ ⟨"GateTimes", "isNoTime", "(J)Z"⟩ ∈ tb := List.mem_filter.mpr ⟨List.mem_append_left _ (List.mem_of_getElem? (i := 2) (by decide +kernel)), by decide +kernel⟩
theorem ks_X_pass : Cond.selects "GateTimes" ⟨"GateTimes", "pass", "(J)V"⟩ ⟨"GateTimes", "pass", "(J)V"⟩ ∈ tb := List.mem_filter.mpr ⟨List.mem_append_left _ (List.mem_of_getElem? (i := 3) (by decide +kernel)), by decide +kernel⟩
theorem ks_X_nextItem : Cond.selects "GateTimes" ⟨"GateTimes", "nextItem", "()I"⟩ ⟨"GateTimes", "nextItem", "()I"⟩ ∈ tb := List.mem_filter.mpr ⟨List.mem_append_left _ (List.mem_of_getElem? (i := 4) (by decide +kernel)), by decide +kernel⟩
theorem ks_X_come : Cond.selects "GateTimes" ⟨"GateTimes", "come", "(I)V"⟩ ⟨"GateTimes", "come", "(I)V"⟩ ∈ tb := List.mem_filter.mpr ⟨List.mem_append_left _ (List.mem_of_getElem? (i := 5) (by decide +kernel)), by decide +kernel⟩
theorem ks_X_leave : Cond.selects "GateTimes" ⟨"GateTimes", "leave", "(II)V"⟩ ⟨"GateTimes", "leave", "(II)V"⟩ ∈ tb := List.mem_filter.mpr ⟨List.mem_append_left _ (List.mem_of_getElem? (i := 6) (by decide +kernel)), by decide +kernel⟩
theorem ks_G_mayTurn : Cond.selects "GateTimes$Gate" ⟨"GateTimes$Gate", "mayTurn", "(J)Z"⟩ ⟨"GateTimes$Gate", "mayTurn", "(J)Z"⟩ ∈ tb := List.mem_filter.mpr ⟨List.mem_append_left _ (List.mem_of_getElem? (i := 7) (by decide +kernel)), by decide +kernel⟩
theorem ks_M_isItem : Cond.selects "GateTimesModel" ⟨"GateTimesModel", "isItem", "(I)Z"⟩ ⟨"GateTimesModel", "isItem", "(I)Z"⟩ ∈ tb := List.mem_filter.mpr ⟨List.mem_append_left _ (List.mem_of_getElem? (i := 8) (by decide +kernel)), by decide +kernel⟩
theorem ks_M_isBin : Cond.selects "GateTimesModel" ⟨"GateTimesModel", "isBin", "(I)Z"⟩ ⟨"GateTimesModel", "isBin", "(I)Z"⟩ ∈ tb := List.mem_filter.mpr ⟨List.mem_append_left _ (List.mem_of_getElem? (i := 9) (by decide +kernel)), by decide +kernel⟩
theorem ks_M_pass : Cond.selects "GateTimesModel" ⟨"GateTimesModel", "pass", "(J)V"⟩ ⟨"GateTimesModel", "pass", "(J)V"⟩ ∈ tb := List.mem_filter.mpr ⟨List.mem_append_left _ (List.mem_of_getElem? (i := 10) (by decide +kernel)), by decide +kernel⟩
theorem ks_M_front : Cond.selects "GateTimesModel" ⟨"GateTimesModel", "front", "(II)J"⟩ ⟨"GateTimesModel", "front", "(II)J"⟩ ∈ tb := List.mem_filter.mpr ⟨List.mem_append_left _ (List.mem_of_getElem? (i := 11) (by decide +kernel)), by decide +kernel⟩
theorem ks_M_at : Cond.selects "GateTimesModel" ⟨"GateTimesModel", "at", "(II)V"⟩ ⟨"GateTimesModel", "at", "(II)V"⟩ ∈ tb := List.mem_filter.mpr ⟨List.mem_append_left _ (List.mem_of_getElem? (i := 12) (by decide +kernel)), by decide +kernel⟩
abbrev b_X_init : ByteArray := prog_1_method_2_code
def y_X_init : MethodName := ⟨"GateTimes", "<init>", "(I)V"⟩
def w_X_init : List Cond := .code y_X_init b_X_init 3 none :: tb
abbrev b_G_init : ByteArray := prog_2_method_1_code
def y_G_init : MethodName := ⟨"GateTimes$Gate", "<init>", "()V"⟩
def w_G_init : List Cond := .code y_G_init b_G_init 1 none :: tb
abbrev b_X_item : ByteArray := prog_1_method_5_code
def y_X_item : MethodName := ⟨"GateTimes", "item", "(JJ)I"⟩
def w_X_item : List Cond := .code y_X_item b_X_item 5 (some .int) :: tb
abbrev b_X_outside : ByteArray := prog_1_method_1_code
def y_X_outside : MethodName := ⟨"GateTimes", "outside", "(JJJ)Z"⟩
def w_X_outside : List Cond := .code y_X_outside b_X_outside 6 (some .boolean) :: tb
abbrev b_I_init : ByteArray := prog_3_method_1_code
def y_I_init : MethodName := ⟨"GateTimes$Item", "<init>", "(JJ)V"⟩
def w_I_init : List Cond := .code y_I_init b_I_init 5 none :: tb
abbrev b_X_order : ByteArray := prog_1_method_11_code
def y_X_order : MethodName := ⟨"GateTimes", "order", "(IIJ)I"⟩
def w_X_order : List Cond := .code y_X_order b_X_order 8 (some .int) :: tb
abbrev b_X_isItem : ByteArray := prog_1_method_3_code
def y_X_isItem : MethodName := ⟨"GateTimes", "isItem", "(I)Z"⟩
def w_X_isItem : List Cond := .code y_X_isItem b_X_isItem 2 (some .boolean) :: tb
abbrev b_X_isBin : ByteArray := prog_1_method_4_code
def y_X_isBin : MethodName := ⟨"GateTimes", "isBin", "(I)Z"⟩
def w_X_isBin : List Cond := .code y_X_isBin b_X_isBin 2 (some .boolean) :: tb
abbrev b_X_isNoTime : ByteArray := prog_1_method_10_code
def y_X_isNoTime : MethodName := ⟨"GateTimes", "isNoTime", "(J)Z"⟩
def w_X_isNoTime : List Cond := .code y_X_isNoTime b_X_isNoTime 3 (some .boolean) :: tb
abbrev b_X_pass : ByteArray := prog_1_method_9_code
def y_X_pass : MethodName := ⟨"GateTimes", "pass", "(J)V"⟩
def w_X_pass : List Cond := .code y_X_pass b_X_pass 4 none :: tb
abbrev b_X_nextItem : ByteArray := prog_1_method_6_code
def y_X_nextItem : MethodName := ⟨"GateTimes", "nextItem", "()I"⟩
def w_X_nextItem : List Cond := .code y_X_nextItem b_X_nextItem 3 (some .int) :: tb
abbrev b_I_time : ByteArray := prog_3_method_3_code
def y_I_time : MethodName := ⟨"GateTimes$Item", "time", "()J"⟩
def w_I_time : List Cond := .code y_I_time b_I_time 1 (some .long) :: tb
abbrev b_I_front : ByteArray := prog_3_method_2_code
def y_I_front : MethodName := ⟨"GateTimes$Item", "front", "(I)J"⟩
def w_I_front : List Cond := .code y_I_front b_I_front 2 (some .long) :: tb
abbrev b_X_come : ByteArray := prog_1_method_8_code
def y_X_come : MethodName := ⟨"GateTimes", "come", "(I)V"⟩
def w_X_come : List Cond := .code y_X_come b_X_come 5 none :: tb
abbrev b_X_leave : ByteArray := prog_1_method_7_code
def y_X_leave : MethodName := ⟨"GateTimes", "leave", "(II)V"⟩
def w_X_leave : List Cond := .code y_X_leave b_X_leave 4 none :: tb
abbrev b_G_isFull : ByteArray := prog_2_method_2_code
def y_G_isFull : MethodName := ⟨"GateTimes$Gate", "isFull", "()Z"⟩
def w_G_isFull : List Cond := .code y_G_isFull b_G_isFull 1 (some .boolean) :: tb
abbrev b_G_take : ByteArray := prog_2_method_4_code
def y_G_take : MethodName := ⟨"GateTimes$Gate", "take", "(ZJJ)Z"⟩
def w_G_take : List Cond := .code y_G_take b_G_take 6 (some .boolean) :: tb
abbrev b_G_mayTurn : ByteArray := prog_2_method_3_code
def y_G_mayTurn : MethodName := ⟨"GateTimes$Gate", "mayTurn", "(J)Z"⟩
def w_G_mayTurn : List Cond := .code y_G_mayTurn b_G_mayTurn 3 (some .boolean) :: tb
abbrev b_G_add : ByteArray := prog_2_method_5_code
def y_G_add : MethodName := ⟨"GateTimes$Gate", "add", "()V"⟩
def w_G_add : List Cond := .code y_G_add b_G_add 1 none :: tb
abbrev b_X_step : ByteArray := prog_1_method_12_code
def y_X_step : MethodName := ⟨"GateTimes", "step", "(J)I"⟩
def w_X_step : List Cond := .code y_X_step b_X_step 4 (some .int) :: tb
abbrev b_X_out : ByteArray := prog_1_method_13_code
def y_X_out : MethodName := ⟨"GateTimes", "out", "(II)I"⟩
def w_X_out : List Cond := .code y_X_out b_X_out 3 (some .int) :: tb
abbrev b_X_height : ByteArray := prog_1_method_14_code
def y_X_height : MethodName := ⟨"GateTimes", "height", "(II)I"⟩
def w_X_height : List Cond := .code y_X_height b_X_height 4 (some .int) :: tb
abbrev b_X_swap : ByteArray := prog_1_method_15_code
def y_X_swap : MethodName := ⟨"GateTimes", "swap", "(I)I"⟩
def w_X_swap : List Cond := .code y_X_swap b_X_swap 3 (some .int) :: tb
abbrev b_X_stuck : ByteArray := prog_1_method_16_code
def y_X_stuck : MethodName := ⟨"GateTimes", "stuck", "(IZ)I"⟩
def w_X_stuck : List Cond := .code y_X_stuck b_X_stuck 4 (some .int) :: tb
abbrev b_X_late : ByteArray := prog_1_method_17_code
def y_X_late : MethodName := ⟨"GateTimes", "late", "(I)I"⟩
def w_X_late : List Cond := .code y_X_late b_X_late 2 (some .int) :: tb
abbrev b_X_count : ByteArray := prog_1_method_18_code
def y_X_count : MethodName := ⟨"GateTimes", "count", "(I)I"⟩
def w_X_count : List Cond := .code y_X_count b_X_count 2 (some .int) :: tb
abbrev b_X_verify : ByteArray := prog_1_method_19_code
def y_X_verify : MethodName := ⟨"GateTimes", "verify", "(II)I"⟩
def w_X_verify : List Cond := .code y_X_verify b_X_verify 6 (some .int) :: tb
abbrev b_I_isWrong : ByteArray := prog_3_method_4_code
def y_I_isWrong : MethodName := ⟨"GateTimes$Item", "isWrong", "(I)Z"⟩
def w_I_isWrong : List Cond := .code y_I_isWrong b_I_isWrong 2 (some .boolean) :: tb
abbrev b_L_cell : ByteArray := method_2_code
def y_L_cell : MethodName := ⟨"GateTimesLaw", "cell", "([II)I"⟩
def w_L_cell : List Cond := .code y_L_cell b_L_cell 2 (some .int) :: tb
abbrev b_M_init : ByteArray := prog_5_method_1_code
def y_M_init : MethodName := ⟨"GateTimesModel", "<init>", "(I)V"⟩
def w_M_init : List Cond := .code y_M_init b_M_init 3 none :: tb
abbrev b_M_item : ByteArray := prog_5_method_6_code
def y_M_item : MethodName := ⟨"GateTimesModel", "item", "(JJ)I"⟩
def w_M_item : List Cond := .code y_M_item b_M_item 6 (some .int) :: tb
abbrev b_M_isIn : ByteArray := prog_5_method_3_code
def y_M_isIn : MethodName := ⟨"GateTimesModel", "isIn", "(JJJ)Z"⟩
def w_M_isIn : List Cond := .code y_M_isIn b_M_isIn 6 (some .boolean) :: tb
abbrev b_M_order : ByteArray := prog_5_method_10_code
def y_M_order : MethodName := ⟨"GateTimesModel", "order", "(IIJ)I"⟩
def w_M_order : List Cond := .code y_M_order b_M_order 7 (some .int) :: tb
abbrev b_M_isItem : ByteArray := prog_5_method_4_code
def y_M_isItem : MethodName := ⟨"GateTimesModel", "isItem", "(I)Z"⟩
def w_M_isItem : List Cond := .code y_M_isItem b_M_isItem 2 (some .boolean) :: tb
abbrev b_M_isBin : ByteArray := prog_5_method_5_code
def y_M_isBin : MethodName := ⟨"GateTimesModel", "isBin", "(I)Z"⟩
def w_M_isBin : List Cond := .code y_M_isBin b_M_isBin 2 (some .boolean) :: tb
abbrev b_M_pass : ByteArray := prog_5_method_9_code
def y_M_pass : MethodName := ⟨"GateTimesModel", "pass", "(J)V"⟩
def w_M_pass : List Cond := .code y_M_pass b_M_pass 6 none :: tb
abbrev b_M_front : ByteArray := prog_5_method_7_code
def y_M_front : MethodName := ⟨"GateTimesModel", "front", "(II)J"⟩
def w_M_front : List Cond := .code y_M_front b_M_front 3 (some .long) :: tb
abbrev b_M_at : ByteArray := prog_5_method_8_code
def y_M_at : MethodName := ⟨"GateTimesModel", "at", "(II)V"⟩
def w_M_at : List Cond := .code y_M_at b_M_at 7 none :: tb
abbrev b_M_step : ByteArray := prog_5_method_11_code
def y_M_step : MethodName := ⟨"GateTimesModel", "step", "(J)I"⟩
def w_M_step : List Cond := .code y_M_step b_M_step 4 (some .int) :: tb
abbrev b_M_out : ByteArray := prog_5_method_12_code
def y_M_out : MethodName := ⟨"GateTimesModel", "out", "(II)I"⟩
def w_M_out : List Cond := .code y_M_out b_M_out 3 (some .int) :: tb
abbrev b_M_height : ByteArray := prog_5_method_13_code
def y_M_height : MethodName := ⟨"GateTimesModel", "height", "(II)I"⟩
def w_M_height : List Cond := .code y_M_height b_M_height 4 (some .int) :: tb
abbrev b_M_swap : ByteArray := prog_5_method_14_code
def y_M_swap : MethodName := ⟨"GateTimesModel", "swap", "(I)I"⟩
def w_M_swap : List Cond := .code y_M_swap b_M_swap 3 (some .int) :: tb
abbrev b_M_stuck : ByteArray := prog_5_method_15_code
def y_M_stuck : MethodName := ⟨"GateTimesModel", "stuck", "(IZ)I"⟩
def w_M_stuck : List Cond := .code y_M_stuck b_M_stuck 4 (some .int) :: tb
abbrev b_M_late : ByteArray := prog_5_method_16_code
def y_M_late : MethodName := ⟨"GateTimesModel", "late", "(I)I"⟩
def w_M_late : List Cond := .code y_M_late b_M_late 2 (some .int) :: tb
abbrev b_M_count : ByteArray := prog_5_method_17_code
def y_M_count : MethodName := ⟨"GateTimesModel", "count", "(I)I"⟩
def w_M_count : List Cond := .code y_M_count b_M_count 2 (some .int) :: tb
abbrev b_M_verify : ByteArray := prog_5_method_18_code
def y_M_verify : MethodName := ⟨"GateTimesModel", "verify", "(II)I"⟩
def w_M_verify : List Cond := .code y_M_verify b_M_verify 7 (some .int) :: tb
abbrev b_L_law : ByteArray := code
def y_L_law : MethodName := ⟨"GateTimesLaw", "law", "([I)Z"⟩
theorem tb_good : ∀ w ∈ tb, w ∈ tb ∧ ((w.onTables && w.keeps) = true ∨ ∃ ty, w = .arrayClass ty) := fun w h => ⟨h, good_of_word (List.mem_filter.mp h).2⟩
theorem tb_lw : ∀ w ∈ tb, w ∈ lw_tbl ∧ ((w.onTables && w.keeps) = true ∨ ∃ ty, w = .arrayClass ty) := fun w h => ⟨(List.mem_filter.mp h).1, good_of_word (List.mem_filter.mp h).2⟩
/-- any method's words are among tb, if its code is -/
theorem tb_in {y : Cond} (h : y ∈ tb) : GoodIn tb (y :: tb) := by
  intro w hw
  rcases List.mem_cons.mp hw with e | e
  · rw [e]; exact tb_good y h
  · exact tb_good w e
theorem tb_inV {own C : String} {i : Nat} {y : MethodName} {c : Cond} (h1 : Cond.methodLink own i y ∈ tb) (h2 : Cond.instanceMethod y ∈ tb) (h3 : Cond.selects C y y ∈ tb) (h4 : Cond.initialized C ∈ tb) (h : c ∈ tb) : GoodIn tb (wsV own i C y (c :: tb)) := by
  intro w hw
  unfold wsV at hw
  rcases List.mem_append.mp hw with q | q
  · simp only [List.mem_cons, List.not_mem_nil, or_false] at q
    rcases q with q | q | q | q
    · rw [q]; exact tb_good _ h1
    · rw [q]; exact tb_good _ h2
    · rw [q]; exact tb_good _ h3
    · rw [q]; exact tb_good _ h4
  · exact tb_in h w q
theorem tb_inS {own : String} {i : Nat} {y : MethodName} {c : Cond} (h1 : Cond.methodLink own i y ∈ tb) (h2 : Cond.static y ∈ tb) (h4 : Cond.initialized own ∈ tb) (h : c ∈ tb) : GoodIn tb (wsS own i y (c :: tb)) := by
  intro w hw
  unfold wsS at hw
  rcases List.mem_append.mp hw with q | q
  · simp only [List.mem_cons, List.not_mem_nil, or_false] at q
    rcases q with q | q | q
    · rw [q]; exact tb_good _ h1
    · rw [q]; exact tb_good _ h2
    · rw [q]; exact tb_good _ h4
  · exact tb_in h w q
end
section
theorem d_I_init_0 : decode b_I_init 0 = .ok (.aload_n 0, 1) := by decide +kernel
theorem d_I_init_1 : decode b_I_init 1 = .ok (.invokespecial 3, 3) := by decide +kernel
theorem d_I_init_4 : decode b_I_init 4 = .ok (.aload_n 0, 1) := by decide +kernel
theorem d_I_init_5 : decode b_I_init 5 = .ok (.iconst (-1), 1) := by decide +kernel
theorem d_I_init_6 : decode b_I_init 6 = .ok (.putfield 9, 3) := by decide +kernel
theorem d_I_init_9 : decode b_I_init 9 = .ok (.aload_n 0, 1) := by decide +kernel
theorem d_I_init_10 : decode b_I_init 10 = .ok (.lload_n 1, 1) := by decide +kernel
theorem d_I_init_11 : decode b_I_init 11 = .ok (.putfield 15, 3) := by decide +kernel
theorem d_I_init_14 : decode b_I_init 14 = .ok (.aload_n 0, 1) := by decide +kernel
theorem d_I_init_15 : decode b_I_init 15 = .ok (.lload_n 3, 1) := by decide +kernel
theorem d_I_init_16 : decode b_I_init 16 = .ok (.putfield 19, 3) := by decide +kernel
theorem d_I_init_19 : decode b_I_init 19 = .ok (.return_, 1) := by decide +kernel
theorem d_I_front_0 : decode b_I_front 0 = .ok (.aload_n 0, 1) := by decide +kernel
theorem d_I_front_1 : decode b_I_front 1 = .ok (.getfield 15, 3) := by decide +kernel
theorem d_I_front_4 : decode b_I_front 4 = .ok (.ldc2_w 22, 3) := by decide +kernel
theorem d_I_front_7 : decode b_I_front 7 = .ok (.iload_n 1, 1) := by decide +kernel
theorem d_I_front_8 : decode b_I_front 8 = .ok (.iconst 1, 1) := by decide +kernel
theorem d_I_front_9 : decode b_I_front 9 = .ok (.iadd, 1) := by decide +kernel
theorem d_I_front_10 : decode b_I_front 10 = .ok (.i2l, 1) := by decide +kernel
theorem d_I_front_11 : decode b_I_front 11 = .ok (.lmul, 1) := by decide +kernel
theorem d_I_front_12 : decode b_I_front 12 = .ok (.ladd, 1) := by decide +kernel
theorem d_I_front_13 : decode b_I_front 13 = .ok (.lreturn, 1) := by decide +kernel
theorem d_I_time_0 : decode b_I_time 0 = .ok (.aload_n 0, 1) := by decide +kernel
theorem d_I_time_1 : decode b_I_time 1 = .ok (.aload_n 0, 1) := by decide +kernel
theorem d_I_time_2 : decode b_I_time 2 = .ok (.getfield 24, 3) := by decide +kernel
theorem d_I_time_5 : decode b_I_time 5 = .ok (.invokevirtual 27, 3) := by decide +kernel
theorem d_I_time_8 : decode b_I_time 8 = .ok (.lreturn, 1) := by decide +kernel
theorem d_I_isWrong_0 : decode b_I_isWrong 0 = .ok (.aload_n 0, 1) := by decide +kernel
theorem d_I_isWrong_1 : decode b_I_isWrong 1 = .ok (.getfield 9, 3) := by decide +kernel
theorem d_I_isWrong_4 : decode b_I_isWrong 4 = .ok (.iconst (-1), 1) := by decide +kernel
theorem d_I_isWrong_5 : decode b_I_isWrong 5 = .ok (.if_icmp .eq 15, 3) := by decide +kernel
theorem d_I_isWrong_8 : decode b_I_isWrong 8 = .ok (.aload_n 0, 1) := by decide +kernel
theorem d_I_isWrong_9 : decode b_I_isWrong 9 = .ok (.getfield 9, 3) := by decide +kernel
theorem d_I_isWrong_12 : decode b_I_isWrong 12 = .ok (.iload_n 1, 1) := by decide +kernel
theorem d_I_isWrong_13 : decode b_I_isWrong 13 = .ok (.if_icmp .eq 7, 3) := by decide +kernel
theorem d_I_isWrong_16 : decode b_I_isWrong 16 = .ok (.iconst 1, 1) := by decide +kernel
theorem d_I_isWrong_17 : decode b_I_isWrong 17 = .ok (.goto 4, 3) := by decide +kernel
theorem d_I_isWrong_20 : decode b_I_isWrong 20 = .ok (.iconst 0, 1) := by decide +kernel
theorem d_I_isWrong_21 : decode b_I_isWrong 21 = .ok (.ireturn, 1) := by decide +kernel
theorem d_G_init_0 : decode b_G_init 0 = .ok (.aload_n 0, 1) := by decide +kernel
theorem d_G_init_1 : decode b_G_init 1 = .ok (.invokespecial 3, 3) := by decide +kernel
theorem d_G_init_4 : decode b_G_init 4 = .ok (.aload_n 0, 1) := by decide +kernel
theorem d_G_init_5 : decode b_G_init 5 = .ok (.sipush 1000, 3) := by decide +kernel
theorem d_G_init_8 : decode b_G_init 8 = .ok (.putfield 9, 3) := by decide +kernel
theorem d_G_init_11 : decode b_G_init 11 = .ok (.return_, 1) := by decide +kernel
theorem d_G_isFull_0 : decode b_G_isFull 0 = .ok (.aload_n 0, 1) := by decide +kernel
theorem d_G_isFull_1 : decode b_G_isFull 1 = .ok (.getfield 15, 3) := by decide +kernel
theorem d_G_isFull_4 : decode b_G_isFull 4 = .ok (.aload_n 0, 1) := by decide +kernel
theorem d_G_isFull_5 : decode b_G_isFull 5 = .ok (.getfield 9, 3) := by decide +kernel
theorem d_G_isFull_8 : decode b_G_isFull 8 = .ok (.if_icmp .lt 7, 3) := by decide +kernel
theorem d_G_isFull_11 : decode b_G_isFull 11 = .ok (.iconst 1, 1) := by decide +kernel
theorem d_G_isFull_12 : decode b_G_isFull 12 = .ok (.goto 4, 3) := by decide +kernel
theorem d_G_isFull_15 : decode b_G_isFull 15 = .ok (.iconst 0, 1) := by decide +kernel
theorem d_G_isFull_16 : decode b_G_isFull 16 = .ok (.ireturn, 1) := by decide +kernel
theorem d_G_mayTurn_0 : decode b_G_mayTurn 0 = .ok (.aload_n 0, 1) := by decide +kernel
theorem d_G_mayTurn_1 : decode b_G_mayTurn 1 = .ok (.getfield 18, 3) := by decide +kernel
theorem d_G_mayTurn_4 : decode b_G_mayTurn 4 = .ok (.ifCond .ne 27, 3) := by decide +kernel
theorem d_G_mayTurn_7 : decode b_G_mayTurn 7 = .ok (.aload_n 0, 1) := by decide +kernel
theorem d_G_mayTurn_8 : decode b_G_mayTurn 8 = .ok (.getfield 22, 3) := by decide +kernel
theorem d_G_mayTurn_11 : decode b_G_mayTurn 11 = .ok (.ifCond .eq 16, 3) := by decide +kernel
theorem d_G_mayTurn_14 : decode b_G_mayTurn 14 = .ok (.aload_n 0, 1) := by decide +kernel
theorem d_G_mayTurn_15 : decode b_G_mayTurn 15 = .ok (.getfield 25, 3) := by decide +kernel
theorem d_G_mayTurn_18 : decode b_G_mayTurn 18 = .ok (.ldc2_w 29, 3) := by decide +kernel
theorem d_G_mayTurn_21 : decode b_G_mayTurn 21 = .ok (.ladd, 1) := by decide +kernel
theorem d_G_mayTurn_22 : decode b_G_mayTurn 22 = .ok (.lload_n 1, 1) := by decide +kernel
theorem d_G_mayTurn_23 : decode b_G_mayTurn 23 = .ok (.lcmp, 1) := by decide +kernel
theorem d_G_mayTurn_24 : decode b_G_mayTurn 24 = .ok (.ifCond .gt 7, 3) := by decide +kernel
theorem d_G_mayTurn_27 : decode b_G_mayTurn 27 = .ok (.iconst 1, 1) := by decide +kernel
theorem d_G_mayTurn_28 : decode b_G_mayTurn 28 = .ok (.goto 4, 3) := by decide +kernel
theorem d_G_mayTurn_31 : decode b_G_mayTurn 31 = .ok (.iconst 0, 1) := by decide +kernel
theorem d_G_mayTurn_32 : decode b_G_mayTurn 32 = .ok (.ireturn, 1) := by decide +kernel
theorem d_G_take_0 : decode b_G_take 0 = .ok (.aload_n 0, 1) := by decide +kernel
theorem d_G_take_1 : decode b_G_take 1 = .ok (.getfield 31, 3) := by decide +kernel
theorem d_G_take_4 : decode b_G_take 4 = .ok (.iload_n 1, 1) := by decide +kernel
theorem d_G_take_5 : decode b_G_take 5 = .ok (.if_icmp .eq 16, 3) := by decide +kernel
theorem d_G_take_8 : decode b_G_take 8 = .ok (.aload_n 0, 1) := by decide +kernel
theorem d_G_take_9 : decode b_G_take 9 = .ok (.lload_n 2, 1) := by decide +kernel
theorem d_G_take_10 : decode b_G_take 10 = .ok (.invokevirtual 34, 3) := by decide +kernel
theorem d_G_take_13 : decode b_G_take 13 = .ok (.ifCond .eq 8, 3) := by decide +kernel
theorem d_G_take_16 : decode b_G_take 16 = .ok (.aload_n 0, 1) := by decide +kernel
theorem d_G_take_17 : decode b_G_take 17 = .ok (.iload_n 1, 1) := by decide +kernel
theorem d_G_take_18 : decode b_G_take 18 = .ok (.putfield 31, 3) := by decide +kernel
theorem d_G_take_21 : decode b_G_take 21 = .ok (.aload_n 0, 1) := by decide +kernel
theorem d_G_take_22 : decode b_G_take 22 = .ok (.iconst 1, 1) := by decide +kernel
theorem d_G_take_23 : decode b_G_take 23 = .ok (.putfield 22, 3) := by decide +kernel
theorem d_G_take_26 : decode b_G_take 26 = .ok (.aload_n 0, 1) := by decide +kernel
theorem d_G_take_27 : decode b_G_take 27 = .ok (.lload_n 2, 1) := by decide +kernel
theorem d_G_take_28 : decode b_G_take 28 = .ok (.lload 4, 2) := by decide +kernel
theorem d_G_take_30 : decode b_G_take 30 = .ok (.ladd, 1) := by decide +kernel
theorem d_G_take_31 : decode b_G_take 31 = .ok (.putfield 25, 3) := by decide +kernel
theorem d_G_take_34 : decode b_G_take 34 = .ok (.aload_n 0, 1) := by decide +kernel
theorem d_G_take_35 : decode b_G_take 35 = .ok (.getfield 31, 3) := by decide +kernel
theorem d_G_take_38 : decode b_G_take 38 = .ok (.ireturn, 1) := by decide +kernel
theorem d_G_add_0 : decode b_G_add 0 = .ok (.aload_n 0, 1) := by decide +kernel
theorem d_G_add_1 : decode b_G_add 1 = .ok (.dup, 1) := by decide +kernel
theorem d_G_add_2 : decode b_G_add 2 = .ok (.getfield 15, 3) := by decide +kernel
theorem d_G_add_5 : decode b_G_add 5 = .ok (.iconst 1, 1) := by decide +kernel
theorem d_G_add_6 : decode b_G_add 6 = .ok (.iadd, 1) := by decide +kernel
theorem d_G_add_7 : decode b_G_add 7 = .ok (.putfield 15, 3) := by decide +kernel
theorem d_G_add_10 : decode b_G_add 10 = .ok (.aload_n 0, 1) := by decide +kernel
theorem d_G_add_11 : decode b_G_add 11 = .ok (.dup, 1) := by decide +kernel
theorem d_G_add_12 : decode b_G_add 12 = .ok (.getfield 38, 3) := by decide +kernel
theorem d_G_add_15 : decode b_G_add 15 = .ok (.iconst 1, 1) := by decide +kernel
theorem d_G_add_16 : decode b_G_add 16 = .ok (.iadd, 1) := by decide +kernel
theorem d_G_add_17 : decode b_G_add 17 = .ok (.putfield 38, 3) := by decide +kernel
theorem d_G_add_20 : decode b_G_add 20 = .ok (.return_, 1) := by decide +kernel
theorem d_X_outside_0 : decode b_X_outside 0 = .ok (.lload_n 0, 1) := by decide +kernel
theorem d_X_outside_1 : decode b_X_outside 1 = .ok (.lload_n 2, 1) := by decide +kernel
theorem d_X_outside_2 : decode b_X_outside 2 = .ok (.lcmp, 1) := by decide +kernel
theorem d_X_outside_3 : decode b_X_outside 3 = .ok (.ifCond .lt 10, 3) := by decide +kernel
theorem d_X_outside_6 : decode b_X_outside 6 = .ok (.lload_n 0, 1) := by decide +kernel
theorem d_X_outside_7 : decode b_X_outside 7 = .ok (.lload 4, 2) := by decide +kernel
theorem d_X_outside_9 : decode b_X_outside 9 = .ok (.lcmp, 1) := by decide +kernel
theorem d_X_outside_10 : decode b_X_outside 10 = .ok (.ifCond .le 7, 3) := by decide +kernel
theorem d_X_outside_13 : decode b_X_outside 13 = .ok (.iconst 1, 1) := by decide +kernel
theorem d_X_outside_14 : decode b_X_outside 14 = .ok (.goto 4, 3) := by decide +kernel
theorem d_X_outside_17 : decode b_X_outside 17 = .ok (.iconst 0, 1) := by decide +kernel
theorem d_X_outside_18 : decode b_X_outside 18 = .ok (.ireturn, 1) := by decide +kernel
theorem d_X_isItem_0 : decode b_X_isItem 0 = .ok (.iload_n 1, 1) := by decide +kernel
theorem d_X_isItem_1 : decode b_X_isItem 1 = .ok (.ifCond .le 15, 3) := by decide +kernel
theorem d_X_isItem_4 : decode b_X_isItem 4 = .ok (.iload_n 1, 1) := by decide +kernel
theorem d_X_isItem_5 : decode b_X_isItem 5 = .ok (.aload_n 0, 1) := by decide +kernel
theorem d_X_isItem_6 : decode b_X_isItem 6 = .ok (.getfield 49, 3) := by decide +kernel
theorem d_X_isItem_9 : decode b_X_isItem 9 = .ok (.if_icmp .gt 7, 3) := by decide +kernel
theorem d_X_isItem_12 : decode b_X_isItem 12 = .ok (.iconst 1, 1) := by decide +kernel
theorem d_X_isItem_13 : decode b_X_isItem 13 = .ok (.goto 4, 3) := by decide +kernel
theorem d_X_isItem_16 : decode b_X_isItem 16 = .ok (.iconst 0, 1) := by decide +kernel
theorem d_X_isItem_17 : decode b_X_isItem 17 = .ok (.ireturn, 1) := by decide +kernel
theorem d_X_isBin_0 : decode b_X_isBin 0 = .ok (.iload_n 1, 1) := by decide +kernel
theorem d_X_isBin_1 : decode b_X_isBin 1 = .ok (.ifCond .lt 15, 3) := by decide +kernel
theorem d_X_isBin_4 : decode b_X_isBin 4 = .ok (.iload_n 1, 1) := by decide +kernel
theorem d_X_isBin_5 : decode b_X_isBin 5 = .ok (.aload_n 0, 1) := by decide +kernel
theorem d_X_isBin_6 : decode b_X_isBin 6 = .ok (.getfield 39, 3) := by decide +kernel
theorem d_X_isBin_9 : decode b_X_isBin 9 = .ok (.if_icmp .ge 7, 3) := by decide +kernel
theorem d_X_isBin_12 : decode b_X_isBin 12 = .ok (.iconst 1, 1) := by decide +kernel
theorem d_X_isBin_13 : decode b_X_isBin 13 = .ok (.goto 4, 3) := by decide +kernel
theorem d_X_isBin_16 : decode b_X_isBin 16 = .ok (.iconst 0, 1) := by decide +kernel
theorem d_X_isBin_17 : decode b_X_isBin 17 = .ok (.ireturn, 1) := by decide +kernel
theorem d_X_isNoTime_0 : decode b_X_isNoTime 0 = .ok (.lload_n 1, 1) := by decide +kernel
theorem d_X_isNoTime_1 : decode b_X_isNoTime 1 = .ok (.aload_n 0, 1) := by decide +kernel
theorem d_X_isNoTime_2 : decode b_X_isNoTime 2 = .ok (.getfield 58, 3) := by decide +kernel
theorem d_X_isNoTime_5 : decode b_X_isNoTime 5 = .ok (.ldc2_w 62, 3) := by decide +kernel
theorem d_X_isNoTime_8 : decode b_X_isNoTime 8 = .ok (.invokestatic 54, 3) := by decide +kernel
theorem d_X_isNoTime_11 : decode b_X_isNoTime 11 = .ok (.ireturn, 1) := by decide +kernel
theorem d_X_init_0 : decode b_X_init 0 = .ok (.aload_n 0, 1) := by decide +kernel
theorem d_X_init_1 : decode b_X_init 1 = .ok (.invokespecial 1, 3) := by decide +kernel
theorem d_X_init_4 : decode b_X_init 4 = .ok (.aload_n 0, 1) := by decide +kernel
theorem d_X_init_5 : decode b_X_init 5 = .ok (.sipush 401, 3) := by decide +kernel
theorem d_X_init_8 : decode b_X_init 8 = .ok (.anewarray 9, 3) := by decide +kernel
theorem d_X_init_11 : decode b_X_init 11 = .ok (.putfield 11, 3) := by decide +kernel
theorem d_X_init_14 : decode b_X_init 14 = .ok (.aload_n 0, 1) := by decide +kernel
theorem d_X_init_15 : decode b_X_init 15 = .ok (.iconst 1, 1) := by decide +kernel
theorem d_X_init_16 : decode b_X_init 16 = .ok (.putfield 15, 3) := by decide +kernel
theorem d_X_init_19 : decode b_X_init 19 = .ok (.aload_n 0, 1) := by decide +kernel
theorem d_X_init_20 : decode b_X_init 20 = .ok (.sipush 400, 3) := by decide +kernel
theorem d_X_init_23 : decode b_X_init 23 = .ok (.newarray .int, 2) := by decide +kernel
theorem d_X_init_25 : decode b_X_init 25 = .ok (.putfield 19, 3) := by decide +kernel
theorem d_X_init_28 : decode b_X_init 28 = .ok (.aload_n 0, 1) := by decide +kernel
theorem d_X_init_29 : decode b_X_init 29 = .ok (.sipush 400, 3) := by decide +kernel
theorem d_X_init_32 : decode b_X_init 32 = .ok (.newarray .int, 2) := by decide +kernel
theorem d_X_init_34 : decode b_X_init 34 = .ok (.putfield 23, 3) := by decide +kernel
theorem d_X_init_37 : decode b_X_init 37 = .ok (.aload_n 0, 1) := by decide +kernel
theorem d_X_init_38 : decode b_X_init 38 = .ok (.sipush 400, 3) := by decide +kernel
theorem d_X_init_41 : decode b_X_init 41 = .ok (.newarray .long, 2) := by decide +kernel
theorem d_X_init_43 : decode b_X_init 43 = .ok (.putfield 26, 3) := by decide +kernel
theorem d_X_init_46 : decode b_X_init 46 = .ok (.aload_n 0, 1) := by decide +kernel
theorem d_X_init_47 : decode b_X_init 47 = .ok (.iconst 1, 1) := by decide +kernel
theorem d_X_init_48 : decode b_X_init 48 = .ok (.iload_n 1, 1) := by decide +kernel
theorem d_X_init_49 : decode b_X_init 49 = .ok (.bipush 12, 2) := by decide +kernel
theorem d_X_init_51 : decode b_X_init 51 = .ok (.invokestatic 30, 3) := by decide +kernel
theorem d_X_init_54 : decode b_X_init 54 = .ok (.invokestatic 36, 3) := by decide +kernel
theorem d_X_init_57 : decode b_X_init 57 = .ok (.putfield 39, 3) := by decide +kernel
theorem d_X_init_60 : decode b_X_init 60 = .ok (.aload_n 0, 1) := by decide +kernel
theorem d_X_init_61 : decode b_X_init 61 = .ok (.aload_n 0, 1) := by decide +kernel
theorem d_X_init_62 : decode b_X_init 62 = .ok (.getfield 39, 3) := by decide +kernel
theorem d_X_init_65 : decode b_X_init 65 = .ok (.anewarray 42, 3) := by decide +kernel
theorem d_X_init_68 : decode b_X_init 68 = .ok (.putfield 44, 3) := by decide +kernel
theorem d_X_init_71 : decode b_X_init 71 = .ok (.iconst 0, 1) := by decide +kernel
theorem d_X_init_72 : decode b_X_init 72 = .ok (.istore_n 2, 1) := by decide +kernel
theorem d_X_init_73 : decode b_X_init 73 = .ok (.iload_n 2, 1) := by decide +kernel
theorem d_X_init_74 : decode b_X_init 74 = .ok (.aload_n 0, 1) := by decide +kernel
theorem d_X_init_75 : decode b_X_init 75 = .ok (.getfield 39, 3) := by decide +kernel
theorem d_X_init_78 : decode b_X_init 78 = .ok (.if_icmp .ge 22, 3) := by decide +kernel
theorem d_X_init_81 : decode b_X_init 81 = .ok (.aload_n 0, 1) := by decide +kernel
theorem d_X_init_82 : decode b_X_init 82 = .ok (.getfield 44, 3) := by decide +kernel
theorem d_X_init_85 : decode b_X_init 85 = .ok (.iload_n 2, 1) := by decide +kernel
theorem d_X_init_86 : decode b_X_init 86 = .ok (.new 42, 3) := by decide +kernel
theorem d_X_init_89 : decode b_X_init 89 = .ok (.dup, 1) := by decide +kernel
theorem d_X_init_90 : decode b_X_init 90 = .ok (.invokespecial 48, 3) := by decide +kernel
theorem d_X_init_93 : decode b_X_init 93 = .ok (.aastore, 1) := by decide +kernel
theorem d_X_init_94 : decode b_X_init 94 = .ok (.iinc 2 1, 3) := by decide +kernel
theorem d_X_init_97 : decode b_X_init 97 = .ok (.goto (-24), 3) := by decide +kernel
theorem d_X_init_100 : decode b_X_init 100 = .ok (.return_, 1) := by decide +kernel
theorem d_X_item_0 : decode b_X_item 0 = .ok (.lload_n 3, 1) := by decide +kernel
theorem d_X_item_1 : decode b_X_item 1 = .ok (.lconst 1, 1) := by decide +kernel
theorem d_X_item_2 : decode b_X_item 2 = .ok (.ldc2_w 52, 3) := by decide +kernel
theorem d_X_item_5 : decode b_X_item 5 = .ok (.invokestatic 54, 3) := by decide +kernel
theorem d_X_item_8 : decode b_X_item 8 = .ok (.ifCond .ne 17, 3) := by decide +kernel
theorem d_X_item_11 : decode b_X_item 11 = .ok (.lload_n 1, 1) := by decide +kernel
theorem d_X_item_12 : decode b_X_item 12 = .ok (.aload_n 0, 1) := by decide +kernel
theorem d_X_item_13 : decode b_X_item 13 = .ok (.getfield 58, 3) := by decide +kernel
theorem d_X_item_16 : decode b_X_item 16 = .ok (.ldc2_w 62, 3) := by decide +kernel
theorem d_X_item_19 : decode b_X_item 19 = .ok (.invokestatic 54, 3) := by decide +kernel
theorem d_X_item_22 : decode b_X_item 22 = .ok (.ifCond .eq 6, 3) := by decide +kernel
theorem d_X_item_25 : decode b_X_item 25 = .ok (.bipush (-102), 2) := by decide +kernel
theorem d_X_item_27 : decode b_X_item 27 = .ok (.ireturn, 1) := by decide +kernel
theorem d_X_item_28 : decode b_X_item 28 = .ok (.aload_n 0, 1) := by decide +kernel
theorem d_X_item_29 : decode b_X_item 29 = .ok (.getfield 49, 3) := by decide +kernel
theorem d_X_item_32 : decode b_X_item 32 = .ok (.ifCond .le 40, 3) := by decide +kernel
theorem d_X_item_35 : decode b_X_item 35 = .ok (.lload_n 1, 1) := by decide +kernel
theorem d_X_item_36 : decode b_X_item 36 = .ok (.aload_n 0, 1) := by decide +kernel
theorem d_X_item_37 : decode b_X_item 37 = .ok (.getfield 11, 3) := by decide +kernel
theorem d_X_item_40 : decode b_X_item 40 = .ok (.aload_n 0, 1) := by decide +kernel
theorem d_X_item_41 : decode b_X_item 41 = .ok (.getfield 49, 3) := by decide +kernel
theorem d_X_item_44 : decode b_X_item 44 = .ok (.aaload, 1) := by decide +kernel
theorem d_X_item_45 : decode b_X_item 45 = .ok (.getfield 64, 3) := by decide +kernel
theorem d_X_item_48 : decode b_X_item 48 = .ok (.aload_n 0, 1) := by decide +kernel
theorem d_X_item_49 : decode b_X_item 49 = .ok (.getfield 11, 3) := by decide +kernel
theorem d_X_item_52 : decode b_X_item 52 = .ok (.aload_n 0, 1) := by decide +kernel
theorem d_X_item_53 : decode b_X_item 53 = .ok (.getfield 49, 3) := by decide +kernel
theorem d_X_item_56 : decode b_X_item 56 = .ok (.aaload, 1) := by decide +kernel
theorem d_X_item_57 : decode b_X_item 57 = .ok (.getfield 67, 3) := by decide +kernel
theorem d_X_item_60 : decode b_X_item 60 = .ok (.ladd, 1) := by decide +kernel
theorem d_X_item_61 : decode b_X_item 61 = .ok (.ldc2_w 70, 3) := by decide +kernel
theorem d_X_item_64 : decode b_X_item 64 = .ok (.ladd, 1) := by decide +kernel
theorem d_X_item_65 : decode b_X_item 65 = .ok (.lcmp, 1) := by decide +kernel
theorem d_X_item_66 : decode b_X_item 66 = .ok (.ifCond .ge 6, 3) := by decide +kernel
theorem d_X_item_69 : decode b_X_item 69 = .ok (.bipush (-102), 2) := by decide +kernel
theorem d_X_item_71 : decode b_X_item 71 = .ok (.ireturn, 1) := by decide +kernel
theorem d_X_item_72 : decode b_X_item 72 = .ok (.aload_n 0, 1) := by decide +kernel
theorem d_X_item_73 : decode b_X_item 73 = .ok (.getfield 49, 3) := by decide +kernel
theorem d_X_item_76 : decode b_X_item 76 = .ok (.sipush 400, 3) := by decide +kernel
theorem d_X_item_79 : decode b_X_item 79 = .ok (.if_icmp .ne 6, 3) := by decide +kernel
theorem d_X_item_82 : decode b_X_item 82 = .ok (.bipush (-104), 2) := by decide +kernel
theorem d_X_item_84 : decode b_X_item 84 = .ok (.ireturn, 1) := by decide +kernel
theorem d_X_item_85 : decode b_X_item 85 = .ok (.aload_n 0, 1) := by decide +kernel
theorem d_X_item_86 : decode b_X_item 86 = .ok (.dup, 1) := by decide +kernel
theorem d_X_item_87 : decode b_X_item 87 = .ok (.getfield 49, 3) := by decide +kernel
theorem d_X_item_90 : decode b_X_item 90 = .ok (.iconst 1, 1) := by decide +kernel
theorem d_X_item_91 : decode b_X_item 91 = .ok (.iadd, 1) := by decide +kernel
theorem d_X_item_92 : decode b_X_item 92 = .ok (.putfield 49, 3) := by decide +kernel
theorem d_X_item_95 : decode b_X_item 95 = .ok (.aload_n 0, 1) := by decide +kernel
theorem d_X_item_96 : decode b_X_item 96 = .ok (.getfield 11, 3) := by decide +kernel
theorem d_X_item_99 : decode b_X_item 99 = .ok (.aload_n 0, 1) := by decide +kernel
theorem d_X_item_100 : decode b_X_item 100 = .ok (.getfield 49, 3) := by decide +kernel
theorem d_X_item_103 : decode b_X_item 103 = .ok (.new 9, 3) := by decide +kernel
theorem d_X_item_106 : decode b_X_item 106 = .ok (.dup, 1) := by decide +kernel
theorem d_X_item_107 : decode b_X_item 107 = .ok (.lload_n 1, 1) := by decide +kernel
theorem d_X_item_108 : decode b_X_item 108 = .ok (.lload_n 3, 1) := by decide +kernel
theorem d_X_item_109 : decode b_X_item 109 = .ok (.invokespecial 72, 3) := by decide +kernel
theorem d_X_item_112 : decode b_X_item 112 = .ok (.aastore, 1) := by decide +kernel
theorem d_X_item_113 : decode b_X_item 113 = .ok (.aload_n 0, 1) := by decide +kernel
theorem d_X_item_114 : decode b_X_item 114 = .ok (.getfield 49, 3) := by decide +kernel
theorem d_X_item_117 : decode b_X_item 117 = .ok (.ireturn, 1) := by decide +kernel
theorem d_X_nextItem_0 : decode b_X_nextItem 0 = .ok (.iconst 0, 1) := by decide +kernel
theorem d_X_nextItem_1 : decode b_X_nextItem 1 = .ok (.istore_n 1, 1) := by decide +kernel
theorem d_X_nextItem_2 : decode b_X_nextItem 2 = .ok (.aload_n 0, 1) := by decide +kernel
theorem d_X_nextItem_3 : decode b_X_nextItem 3 = .ok (.getfield 15, 3) := by decide +kernel
theorem d_X_nextItem_6 : decode b_X_nextItem 6 = .ok (.istore_n 2, 1) := by decide +kernel
theorem d_X_nextItem_7 : decode b_X_nextItem 7 = .ok (.iload_n 2, 1) := by decide +kernel
theorem d_X_nextItem_8 : decode b_X_nextItem 8 = .ok (.aload_n 0, 1) := by decide +kernel
theorem d_X_nextItem_9 : decode b_X_nextItem 9 = .ok (.getfield 49, 3) := by decide +kernel
theorem d_X_nextItem_12 : decode b_X_nextItem 12 = .ok (.if_icmp .gt 56, 3) := by decide +kernel
theorem d_X_nextItem_15 : decode b_X_nextItem 15 = .ok (.aload_n 0, 1) := by decide +kernel
theorem d_X_nextItem_16 : decode b_X_nextItem 16 = .ok (.getfield 11, 3) := by decide +kernel
theorem d_X_nextItem_19 : decode b_X_nextItem 19 = .ok (.iload_n 2, 1) := by decide +kernel
theorem d_X_nextItem_20 : decode b_X_nextItem 20 = .ok (.aaload, 1) := by decide +kernel
theorem d_X_nextItem_21 : decode b_X_nextItem 21 = .ok (.getfield 75, 3) := by decide +kernel
theorem d_X_nextItem_24 : decode b_X_nextItem 24 = .ok (.ifCond .eq 6, 3) := by decide +kernel
theorem d_X_nextItem_27 : decode b_X_nextItem 27 = .ok (.goto 35, 3) := by decide +kernel
theorem d_X_nextItem_30 : decode b_X_nextItem 30 = .ok (.iload_n 1, 1) := by decide +kernel
theorem d_X_nextItem_31 : decode b_X_nextItem 31 = .ok (.ifCond .eq 25, 3) := by decide +kernel
theorem d_X_nextItem_34 : decode b_X_nextItem 34 = .ok (.aload_n 0, 1) := by decide +kernel
theorem d_X_nextItem_35 : decode b_X_nextItem 35 = .ok (.getfield 11, 3) := by decide +kernel
theorem d_X_nextItem_38 : decode b_X_nextItem 38 = .ok (.iload_n 2, 1) := by decide +kernel
theorem d_X_nextItem_39 : decode b_X_nextItem 39 = .ok (.aaload, 1) := by decide +kernel
theorem d_X_nextItem_40 : decode b_X_nextItem 40 = .ok (.invokevirtual 79, 3) := by decide +kernel
theorem d_X_nextItem_43 : decode b_X_nextItem 43 = .ok (.aload_n 0, 1) := by decide +kernel
theorem d_X_nextItem_44 : decode b_X_nextItem 44 = .ok (.getfield 11, 3) := by decide +kernel
theorem d_X_nextItem_47 : decode b_X_nextItem 47 = .ok (.iload_n 1, 1) := by decide +kernel
theorem d_X_nextItem_48 : decode b_X_nextItem 48 = .ok (.aaload, 1) := by decide +kernel
theorem d_X_nextItem_49 : decode b_X_nextItem 49 = .ok (.invokevirtual 79, 3) := by decide +kernel
theorem d_X_nextItem_52 : decode b_X_nextItem 52 = .ok (.lcmp, 1) := by decide +kernel
theorem d_X_nextItem_53 : decode b_X_nextItem 53 = .ok (.ifCond .ge 7, 3) := by decide +kernel
theorem d_X_nextItem_56 : decode b_X_nextItem 56 = .ok (.iload_n 2, 1) := by decide +kernel
theorem d_X_nextItem_57 : decode b_X_nextItem 57 = .ok (.goto 4, 3) := by decide +kernel
theorem d_X_nextItem_60 : decode b_X_nextItem 60 = .ok (.iload_n 1, 1) := by decide +kernel
theorem d_X_nextItem_61 : decode b_X_nextItem 61 = .ok (.istore_n 1, 1) := by decide +kernel
theorem d_X_nextItem_62 : decode b_X_nextItem 62 = .ok (.iinc 2 1, 3) := by decide +kernel
theorem d_X_nextItem_65 : decode b_X_nextItem 65 = .ok (.goto (-58), 3) := by decide +kernel
theorem d_X_nextItem_68 : decode b_X_nextItem 68 = .ok (.iload_n 1, 1) := by decide +kernel
theorem d_X_nextItem_69 : decode b_X_nextItem 69 = .ok (.ireturn, 1) := by decide +kernel
end
section
theorem d_X_leave_0 : decode b_X_leave 0 = .ok (.aload_n 0, 1) := by decide +kernel
theorem d_X_leave_1 : decode b_X_leave 1 = .ok (.getfield 11, 3) := by decide +kernel
theorem d_X_leave_4 : decode b_X_leave 4 = .ok (.iload_n 1, 1) := by decide +kernel
theorem d_X_leave_5 : decode b_X_leave 5 = .ok (.aaload, 1) := by decide +kernel
theorem d_X_leave_6 : decode b_X_leave 6 = .ok (.astore_n 3, 1) := by decide +kernel
theorem d_X_leave_7 : decode b_X_leave 7 = .ok (.aload_n 3, 1) := by decide +kernel
theorem d_X_leave_8 : decode b_X_leave 8 = .ok (.iconst 1, 1) := by decide +kernel
theorem d_X_leave_9 : decode b_X_leave 9 = .ok (.putfield 75, 3) := by decide +kernel
theorem d_X_leave_12 : decode b_X_leave 12 = .ok (.aload_n 0, 1) := by decide +kernel
theorem d_X_leave_13 : decode b_X_leave 13 = .ok (.getfield 19, 3) := by decide +kernel
theorem d_X_leave_16 : decode b_X_leave 16 = .ok (.aload_n 0, 1) := by decide +kernel
theorem d_X_leave_17 : decode b_X_leave 17 = .ok (.getfield 83, 3) := by decide +kernel
theorem d_X_leave_20 : decode b_X_leave 20 = .ok (.iload_n 1, 1) := by decide +kernel
theorem d_X_leave_21 : decode b_X_leave 21 = .ok (.iastore, 1) := by decide +kernel
theorem d_X_leave_22 : decode b_X_leave 22 = .ok (.aload_n 0, 1) := by decide +kernel
theorem d_X_leave_23 : decode b_X_leave 23 = .ok (.getfield 23, 3) := by decide +kernel
theorem d_X_leave_26 : decode b_X_leave 26 = .ok (.aload_n 0, 1) := by decide +kernel
theorem d_X_leave_27 : decode b_X_leave 27 = .ok (.getfield 83, 3) := by decide +kernel
theorem d_X_leave_30 : decode b_X_leave 30 = .ok (.iload_n 2, 1) := by decide +kernel
theorem d_X_leave_31 : decode b_X_leave 31 = .ok (.iastore, 1) := by decide +kernel
theorem d_X_leave_32 : decode b_X_leave 32 = .ok (.aload_n 0, 1) := by decide +kernel
theorem d_X_leave_33 : decode b_X_leave 33 = .ok (.getfield 26, 3) := by decide +kernel
theorem d_X_leave_36 : decode b_X_leave 36 = .ok (.aload_n 0, 1) := by decide +kernel
theorem d_X_leave_37 : decode b_X_leave 37 = .ok (.getfield 83, 3) := by decide +kernel
theorem d_X_leave_40 : decode b_X_leave 40 = .ok (.aload_n 3, 1) := by decide +kernel
theorem d_X_leave_41 : decode b_X_leave 41 = .ok (.invokevirtual 79, 3) := by decide +kernel
theorem d_X_leave_44 : decode b_X_leave 44 = .ok (.lastore, 1) := by decide +kernel
theorem d_X_leave_45 : decode b_X_leave 45 = .ok (.aload_n 0, 1) := by decide +kernel
theorem d_X_leave_46 : decode b_X_leave 46 = .ok (.dup, 1) := by decide +kernel
theorem d_X_leave_47 : decode b_X_leave 47 = .ok (.getfield 83, 3) := by decide +kernel
theorem d_X_leave_50 : decode b_X_leave 50 = .ok (.iconst 1, 1) := by decide +kernel
theorem d_X_leave_51 : decode b_X_leave 51 = .ok (.iadd, 1) := by decide +kernel
theorem d_X_leave_52 : decode b_X_leave 52 = .ok (.putfield 83, 3) := by decide +kernel
theorem d_X_leave_55 : decode b_X_leave 55 = .ok (.aload_n 0, 1) := by decide +kernel
theorem d_X_leave_56 : decode b_X_leave 56 = .ok (.getfield 15, 3) := by decide +kernel
theorem d_X_leave_59 : decode b_X_leave 59 = .ok (.aload_n 0, 1) := by decide +kernel
theorem d_X_leave_60 : decode b_X_leave 60 = .ok (.getfield 49, 3) := by decide +kernel
theorem d_X_leave_63 : decode b_X_leave 63 = .ok (.if_icmp .gt 31, 3) := by decide +kernel
theorem d_X_leave_66 : decode b_X_leave 66 = .ok (.aload_n 0, 1) := by decide +kernel
theorem d_X_leave_67 : decode b_X_leave 67 = .ok (.getfield 11, 3) := by decide +kernel
theorem d_X_leave_70 : decode b_X_leave 70 = .ok (.aload_n 0, 1) := by decide +kernel
theorem d_X_leave_71 : decode b_X_leave 71 = .ok (.getfield 15, 3) := by decide +kernel
theorem d_X_leave_74 : decode b_X_leave 74 = .ok (.aaload, 1) := by decide +kernel
theorem d_X_leave_75 : decode b_X_leave 75 = .ok (.getfield 75, 3) := by decide +kernel
theorem d_X_leave_78 : decode b_X_leave 78 = .ok (.ifCond .eq 16, 3) := by decide +kernel
theorem d_X_leave_81 : decode b_X_leave 81 = .ok (.aload_n 0, 1) := by decide +kernel
theorem d_X_leave_82 : decode b_X_leave 82 = .ok (.dup, 1) := by decide +kernel
theorem d_X_leave_83 : decode b_X_leave 83 = .ok (.getfield 15, 3) := by decide +kernel
theorem d_X_leave_86 : decode b_X_leave 86 = .ok (.iconst 1, 1) := by decide +kernel
theorem d_X_leave_87 : decode b_X_leave 87 = .ok (.iadd, 1) := by decide +kernel
theorem d_X_leave_88 : decode b_X_leave 88 = .ok (.putfield 15, 3) := by decide +kernel
theorem d_X_leave_91 : decode b_X_leave 91 = .ok (.goto (-36), 3) := by decide +kernel
theorem d_X_leave_94 : decode b_X_leave 94 = .ok (.return_, 1) := by decide +kernel
theorem d_X_come_0 : decode b_X_come 0 = .ok (.aload_n 0, 1) := by decide +kernel
theorem d_X_come_1 : decode b_X_come 1 = .ok (.getfield 11, 3) := by decide +kernel
theorem d_X_come_4 : decode b_X_come 4 = .ok (.iload_n 1, 1) := by decide +kernel
theorem d_X_come_5 : decode b_X_come 5 = .ok (.aaload, 1) := by decide +kernel
theorem d_X_come_6 : decode b_X_come 6 = .ok (.astore_n 2, 1) := by decide +kernel
theorem d_X_come_7 : decode b_X_come 7 = .ok (.aload_n 2, 1) := by decide +kernel
theorem d_X_come_8 : decode b_X_come 8 = .ok (.getfield 86, 3) := by decide +kernel
theorem d_X_come_11 : decode b_X_come 11 = .ok (.aload_n 0, 1) := by decide +kernel
theorem d_X_come_12 : decode b_X_come 12 = .ok (.getfield 39, 3) := by decide +kernel
theorem d_X_come_15 : decode b_X_come 15 = .ok (.if_icmp .ne 23, 3) := by decide +kernel
theorem d_X_come_18 : decode b_X_come 18 = .ok (.aload_n 0, 1) := by decide +kernel
theorem d_X_come_19 : decode b_X_come 19 = .ok (.dup, 1) := by decide +kernel
theorem d_X_come_20 : decode b_X_come 20 = .ok (.getfield 89, 3) := by decide +kernel
theorem d_X_come_23 : decode b_X_come 23 = .ok (.iconst 1, 1) := by decide +kernel
theorem d_X_come_24 : decode b_X_come 24 = .ok (.iadd, 1) := by decide +kernel
theorem d_X_come_25 : decode b_X_come 25 = .ok (.putfield 89, 3) := by decide +kernel
theorem d_X_come_28 : decode b_X_come 28 = .ok (.aload_n 0, 1) := by decide +kernel
theorem d_X_come_29 : decode b_X_come 29 = .ok (.iload_n 1, 1) := by decide +kernel
theorem d_X_come_30 : decode b_X_come 30 = .ok (.aload_n 0, 1) := by decide +kernel
theorem d_X_come_31 : decode b_X_come 31 = .ok (.getfield 39, 3) := by decide +kernel
theorem d_X_come_34 : decode b_X_come 34 = .ok (.invokevirtual 92, 3) := by decide +kernel
theorem d_X_come_37 : decode b_X_come 37 = .ok (.return_, 1) := by decide +kernel
theorem d_X_come_38 : decode b_X_come 38 = .ok (.aload_n 0, 1) := by decide +kernel
theorem d_X_come_39 : decode b_X_come 39 = .ok (.getfield 44, 3) := by decide +kernel
theorem d_X_come_42 : decode b_X_come 42 = .ok (.aload_n 2, 1) := by decide +kernel
theorem d_X_come_43 : decode b_X_come 43 = .ok (.getfield 86, 3) := by decide +kernel
theorem d_X_come_46 : decode b_X_come 46 = .ok (.aaload, 1) := by decide +kernel
theorem d_X_come_47 : decode b_X_come 47 = .ok (.astore_n 3, 1) := by decide +kernel
theorem d_X_come_48 : decode b_X_come 48 = .ok (.aload_n 2, 1) := by decide +kernel
theorem d_X_come_49 : decode b_X_come 49 = .ok (.getfield 96, 3) := by decide +kernel
theorem d_X_come_52 : decode b_X_come 52 = .ok (.aload_n 2, 1) := by decide +kernel
theorem d_X_come_53 : decode b_X_come 53 = .ok (.getfield 86, 3) := by decide +kernel
theorem d_X_come_56 : decode b_X_come 56 = .ok (.if_icmp .ne 14, 3) := by decide +kernel
theorem d_X_come_59 : decode b_X_come 59 = .ok (.aload_n 3, 1) := by decide +kernel
theorem d_X_come_60 : decode b_X_come 60 = .ok (.invokevirtual 99, 3) := by decide +kernel
theorem d_X_come_63 : decode b_X_come 63 = .ok (.ifCond .ne 7, 3) := by decide +kernel
theorem d_X_come_66 : decode b_X_come 66 = .ok (.iconst 1, 1) := by decide +kernel
theorem d_X_come_67 : decode b_X_come 67 = .ok (.goto 4, 3) := by decide +kernel
theorem d_X_come_70 : decode b_X_come 70 = .ok (.iconst 0, 1) := by decide +kernel
theorem d_X_come_71 : decode b_X_come 71 = .ok (.istore 4, 2) := by decide +kernel
theorem d_X_come_73 : decode b_X_come 73 = .ok (.aload_n 3, 1) := by decide +kernel
theorem d_X_come_74 : decode b_X_come 74 = .ok (.iload 4, 2) := by decide +kernel
theorem d_X_come_76 : decode b_X_come 76 = .ok (.aload_n 2, 1) := by decide +kernel
theorem d_X_come_77 : decode b_X_come 77 = .ok (.invokevirtual 79, 3) := by decide +kernel
theorem d_X_come_80 : decode b_X_come 80 = .ok (.aload_n 2, 1) := by decide +kernel
theorem d_X_come_81 : decode b_X_come 81 = .ok (.getfield 67, 3) := by decide +kernel
theorem d_X_come_84 : decode b_X_come 84 = .ok (.invokevirtual 103, 3) := by decide +kernel
theorem d_X_come_87 : decode b_X_come 87 = .ok (.ifCond .eq 17, 3) := by decide +kernel
theorem d_X_come_90 : decode b_X_come 90 = .ok (.aload_n 3, 1) := by decide +kernel
theorem d_X_come_91 : decode b_X_come 91 = .ok (.invokevirtual 107, 3) := by decide +kernel
theorem d_X_come_94 : decode b_X_come 94 = .ok (.aload_n 0, 1) := by decide +kernel
theorem d_X_come_95 : decode b_X_come 95 = .ok (.iload_n 1, 1) := by decide +kernel
theorem d_X_come_96 : decode b_X_come 96 = .ok (.aload_n 2, 1) := by decide +kernel
theorem d_X_come_97 : decode b_X_come 97 = .ok (.getfield 86, 3) := by decide +kernel
theorem d_X_come_100 : decode b_X_come 100 = .ok (.invokevirtual 92, 3) := by decide +kernel
theorem d_X_come_103 : decode b_X_come 103 = .ok (.return_, 1) := by decide +kernel
theorem d_X_come_104 : decode b_X_come 104 = .ok (.aload_n 2, 1) := by decide +kernel
theorem d_X_come_105 : decode b_X_come 105 = .ok (.dup, 1) := by decide +kernel
theorem d_X_come_106 : decode b_X_come 106 = .ok (.getfield 86, 3) := by decide +kernel
theorem d_X_come_109 : decode b_X_come 109 = .ok (.iconst 1, 1) := by decide +kernel
theorem d_X_come_110 : decode b_X_come 110 = .ok (.iadd, 1) := by decide +kernel
theorem d_X_come_111 : decode b_X_come 111 = .ok (.putfield 86, 3) := by decide +kernel
theorem d_X_come_114 : decode b_X_come 114 = .ok (.return_, 1) := by decide +kernel
theorem d_X_pass_0 : decode b_X_pass 0 = .ok (.aload_n 0, 1) := by decide +kernel
theorem d_X_pass_1 : decode b_X_pass 1 = .ok (.invokevirtual 110, 3) := by decide +kernel
theorem d_X_pass_4 : decode b_X_pass 4 = .ok (.istore_n 3, 1) := by decide +kernel
theorem d_X_pass_5 : decode b_X_pass 5 = .ok (.iload_n 3, 1) := by decide +kernel
theorem d_X_pass_6 : decode b_X_pass 6 = .ok (.ifCond .le 30, 3) := by decide +kernel
theorem d_X_pass_9 : decode b_X_pass 9 = .ok (.aload_n 0, 1) := by decide +kernel
theorem d_X_pass_10 : decode b_X_pass 10 = .ok (.getfield 11, 3) := by decide +kernel
theorem d_X_pass_13 : decode b_X_pass 13 = .ok (.iload_n 3, 1) := by decide +kernel
theorem d_X_pass_14 : decode b_X_pass 14 = .ok (.aaload, 1) := by decide +kernel
theorem d_X_pass_15 : decode b_X_pass 15 = .ok (.invokevirtual 79, 3) := by decide +kernel
theorem d_X_pass_18 : decode b_X_pass 18 = .ok (.lload_n 1, 1) := by decide +kernel
theorem d_X_pass_19 : decode b_X_pass 19 = .ok (.lcmp, 1) := by decide +kernel
theorem d_X_pass_20 : decode b_X_pass 20 = .ok (.ifCond .gt 16, 3) := by decide +kernel
theorem d_X_pass_23 : decode b_X_pass 23 = .ok (.aload_n 0, 1) := by decide +kernel
theorem d_X_pass_24 : decode b_X_pass 24 = .ok (.iload_n 3, 1) := by decide +kernel
theorem d_X_pass_25 : decode b_X_pass 25 = .ok (.invokevirtual 114, 3) := by decide +kernel
theorem d_X_pass_28 : decode b_X_pass 28 = .ok (.aload_n 0, 1) := by decide +kernel
theorem d_X_pass_29 : decode b_X_pass 29 = .ok (.invokevirtual 110, 3) := by decide +kernel
theorem d_X_pass_32 : decode b_X_pass 32 = .ok (.istore_n 3, 1) := by decide +kernel
theorem d_X_pass_33 : decode b_X_pass 33 = .ok (.goto (-28), 3) := by decide +kernel
theorem d_X_pass_36 : decode b_X_pass 36 = .ok (.aload_n 0, 1) := by decide +kernel
theorem d_X_pass_37 : decode b_X_pass 37 = .ok (.lload_n 1, 1) := by decide +kernel
theorem d_X_pass_38 : decode b_X_pass 38 = .ok (.putfield 58, 3) := by decide +kernel
theorem d_X_pass_41 : decode b_X_pass 41 = .ok (.return_, 1) := by decide +kernel
theorem d_X_order_0 : decode b_X_order 0 = .ok (.aload_n 0, 1) := by decide +kernel
theorem d_X_order_1 : decode b_X_order 1 = .ok (.iload_n 1, 1) := by decide +kernel
theorem d_X_order_2 : decode b_X_order 2 = .ok (.invokevirtual 118, 3) := by decide +kernel
theorem d_X_order_5 : decode b_X_order 5 = .ok (.ifCond .eq 11, 3) := by decide +kernel
theorem d_X_order_8 : decode b_X_order 8 = .ok (.aload_n 0, 1) := by decide +kernel
theorem d_X_order_9 : decode b_X_order 9 = .ok (.iload_n 2, 1) := by decide +kernel
theorem d_X_order_10 : decode b_X_order 10 = .ok (.invokevirtual 122, 3) := by decide +kernel
theorem d_X_order_13 : decode b_X_order 13 = .ok (.ifCond .ne 6, 3) := by decide +kernel
theorem d_X_order_16 : decode b_X_order 16 = .ok (.bipush (-101), 2) := by decide +kernel
theorem d_X_order_18 : decode b_X_order 18 = .ok (.ireturn, 1) := by decide +kernel
theorem d_X_order_19 : decode b_X_order 19 = .ok (.aload_n 0, 1) := by decide +kernel
theorem d_X_order_20 : decode b_X_order 20 = .ok (.lload_n 3, 1) := by decide +kernel
theorem d_X_order_21 : decode b_X_order 21 = .ok (.invokevirtual 125, 3) := by decide +kernel
theorem d_X_order_24 : decode b_X_order 24 = .ok (.ifCond .eq 6, 3) := by decide +kernel
theorem d_X_order_27 : decode b_X_order 27 = .ok (.bipush (-102), 2) := by decide +kernel
theorem d_X_order_29 : decode b_X_order 29 = .ok (.ireturn, 1) := by decide +kernel
theorem d_X_order_30 : decode b_X_order 30 = .ok (.aload_n 0, 1) := by decide +kernel
theorem d_X_order_31 : decode b_X_order 31 = .ok (.lload_n 3, 1) := by decide +kernel
theorem d_X_order_32 : decode b_X_order 32 = .ok (.invokevirtual 129, 3) := by decide +kernel
theorem d_X_order_35 : decode b_X_order 35 = .ok (.aload_n 0, 1) := by decide +kernel
theorem d_X_order_36 : decode b_X_order 36 = .ok (.getfield 11, 3) := by decide +kernel
theorem d_X_order_39 : decode b_X_order 39 = .ok (.iload_n 1, 1) := by decide +kernel
theorem d_X_order_40 : decode b_X_order 40 = .ok (.aaload, 1) := by decide +kernel
theorem d_X_order_41 : decode b_X_order 41 = .ok (.astore 5, 2) := by decide +kernel
theorem d_X_order_43 : decode b_X_order 43 = .ok (.aload 5, 2) := by decide +kernel
theorem d_X_order_45 : decode b_X_order 45 = .ok (.getfield 75, 3) := by decide +kernel
theorem d_X_order_48 : decode b_X_order 48 = .ok (.ifCond .eq 5, 3) := by decide +kernel
theorem d_X_order_51 : decode b_X_order 51 = .ok (.iconst 0, 1) := by decide +kernel
theorem d_X_order_52 : decode b_X_order 52 = .ok (.ireturn, 1) := by decide +kernel
theorem d_X_order_53 : decode b_X_order 53 = .ok (.aload 5, 2) := by decide +kernel
theorem d_X_order_55 : decode b_X_order 55 = .ok (.getfield 96, 3) := by decide +kernel
theorem d_X_order_58 : decode b_X_order 58 = .ok (.iconst (-1), 1) := by decide +kernel
theorem d_X_order_59 : decode b_X_order 59 = .ok (.if_icmp .eq 5, 3) := by decide +kernel
theorem d_X_order_62 : decode b_X_order 62 = .ok (.iconst 2, 1) := by decide +kernel
theorem d_X_order_63 : decode b_X_order 63 = .ok (.ireturn, 1) := by decide +kernel
theorem d_X_order_64 : decode b_X_order 64 = .ok (.aload 5, 2) := by decide +kernel
theorem d_X_order_66 : decode b_X_order 66 = .ok (.iload_n 2, 1) := by decide +kernel
theorem d_X_order_67 : decode b_X_order 67 = .ok (.invokevirtual 133, 3) := by decide +kernel
theorem d_X_order_70 : decode b_X_order 70 = .ok (.ldc2_w 137, 3) := by decide +kernel
theorem d_X_order_73 : decode b_X_order 73 = .ok (.lsub, 1) := by decide +kernel
theorem d_X_order_74 : decode b_X_order 74 = .ok (.lstore 6, 2) := by decide +kernel
theorem d_X_order_76 : decode b_X_order 76 = .ok (.lload_n 3, 1) := by decide +kernel
theorem d_X_order_77 : decode b_X_order 77 = .ok (.lload 6, 2) := by decide +kernel
theorem d_X_order_79 : decode b_X_order 79 = .ok (.lcmp, 1) := by decide +kernel
theorem d_X_order_80 : decode b_X_order 80 = .ok (.ifCond .le 15, 3) := by decide +kernel
theorem d_X_order_83 : decode b_X_order 83 = .ok (.aload 5, 2) := by decide +kernel
theorem d_X_order_85 : decode b_X_order 85 = .ok (.lload_n 3, 1) := by decide +kernel
theorem d_X_order_86 : decode b_X_order 86 = .ok (.lload 6, 2) := by decide +kernel
theorem d_X_order_88 : decode b_X_order 88 = .ok (.lsub, 1) := by decide +kernel
theorem d_X_order_89 : decode b_X_order 89 = .ok (.l2i, 1) := by decide +kernel
theorem d_X_order_90 : decode b_X_order 90 = .ok (.putfield 139, 3) := by decide +kernel
theorem d_X_order_93 : decode b_X_order 93 = .ok (.iconst 0, 1) := by decide +kernel
theorem d_X_order_94 : decode b_X_order 94 = .ok (.ireturn, 1) := by decide +kernel
theorem d_X_order_95 : decode b_X_order 95 = .ok (.aload 5, 2) := by decide +kernel
theorem d_X_order_97 : decode b_X_order 97 = .ok (.iload_n 2, 1) := by decide +kernel
theorem d_X_order_98 : decode b_X_order 98 = .ok (.putfield 96, 3) := by decide +kernel
theorem d_X_order_101 : decode b_X_order 101 = .ok (.iconst 1, 1) := by decide +kernel
theorem d_X_order_102 : decode b_X_order 102 = .ok (.ireturn, 1) := by decide +kernel
theorem d_X_step_0 : decode b_X_step 0 = .ok (.aload_n 0, 1) := by decide +kernel
theorem d_X_step_1 : decode b_X_step 1 = .ok (.lload_n 1, 1) := by decide +kernel
theorem d_X_step_2 : decode b_X_step 2 = .ok (.invokevirtual 125, 3) := by decide +kernel
theorem d_X_step_5 : decode b_X_step 5 = .ok (.ifCond .eq 6, 3) := by decide +kernel
theorem d_X_step_8 : decode b_X_step 8 = .ok (.bipush (-102), 2) := by decide +kernel
theorem d_X_step_10 : decode b_X_step 10 = .ok (.ireturn, 1) := by decide +kernel
theorem d_X_step_11 : decode b_X_step 11 = .ok (.aload_n 0, 1) := by decide +kernel
theorem d_X_step_12 : decode b_X_step 12 = .ok (.lload_n 1, 1) := by decide +kernel
theorem d_X_step_13 : decode b_X_step 13 = .ok (.invokevirtual 129, 3) := by decide +kernel
theorem d_X_step_16 : decode b_X_step 16 = .ok (.aload_n 0, 1) := by decide +kernel
theorem d_X_step_17 : decode b_X_step 17 = .ok (.getfield 83, 3) := by decide +kernel
theorem d_X_step_20 : decode b_X_step 20 = .ok (.aload_n 0, 1) := by decide +kernel
theorem d_X_step_21 : decode b_X_step 21 = .ok (.getfield 142, 3) := by decide +kernel
theorem d_X_step_24 : decode b_X_step 24 = .ok (.isub, 1) := by decide +kernel
theorem d_X_step_25 : decode b_X_step 25 = .ok (.istore_n 3, 1) := by decide +kernel
theorem d_X_step_26 : decode b_X_step 26 = .ok (.aload_n 0, 1) := by decide +kernel
theorem d_X_step_27 : decode b_X_step 27 = .ok (.aload_n 0, 1) := by decide +kernel
theorem d_X_step_28 : decode b_X_step 28 = .ok (.getfield 83, 3) := by decide +kernel
theorem d_X_step_31 : decode b_X_step 31 = .ok (.putfield 142, 3) := by decide +kernel
theorem d_X_step_34 : decode b_X_step 34 = .ok (.iload_n 3, 1) := by decide +kernel
theorem d_X_step_35 : decode b_X_step 35 = .ok (.ireturn, 1) := by decide +kernel
theorem d_X_out_0 : decode b_X_out 0 = .ok (.iload_n 1, 1) := by decide +kernel
theorem d_X_out_1 : decode b_X_out 1 = .ok (.ifCond .lt 20, 3) := by decide +kernel
theorem d_X_out_4 : decode b_X_out 4 = .ok (.iload_n 1, 1) := by decide +kernel
theorem d_X_out_5 : decode b_X_out 5 = .ok (.aload_n 0, 1) := by decide +kernel
theorem d_X_out_6 : decode b_X_out 6 = .ok (.getfield 83, 3) := by decide +kernel
theorem d_X_out_9 : decode b_X_out 9 = .ok (.if_icmp .ge 12, 3) := by decide +kernel
theorem d_X_out_12 : decode b_X_out 12 = .ok (.iload_n 2, 1) := by decide +kernel
theorem d_X_out_13 : decode b_X_out 13 = .ok (.ifCond .lt 8, 3) := by decide +kernel
theorem d_X_out_16 : decode b_X_out 16 = .ok (.iload_n 2, 1) := by decide +kernel
theorem d_X_out_17 : decode b_X_out 17 = .ok (.iconst 2, 1) := by decide +kernel
theorem d_X_out_18 : decode b_X_out 18 = .ok (.if_icmp .le 5, 3) := by decide +kernel
theorem d_X_out_21 : decode b_X_out 21 = .ok (.iconst (-1), 1) := by decide +kernel
theorem d_X_out_22 : decode b_X_out 22 = .ok (.ireturn, 1) := by decide +kernel
theorem d_X_out_23 : decode b_X_out 23 = .ok (.iload_n 2, 1) := by decide +kernel
theorem d_X_out_24 : decode b_X_out 24 = .ok (.ifCond .ne 12, 3) := by decide +kernel
theorem d_X_out_27 : decode b_X_out 27 = .ok (.aload_n 0, 1) := by decide +kernel
theorem d_X_out_28 : decode b_X_out 28 = .ok (.getfield 19, 3) := by decide +kernel
theorem d_X_out_31 : decode b_X_out 31 = .ok (.iload_n 1, 1) := by decide +kernel
theorem d_X_out_32 : decode b_X_out 32 = .ok (.iaload, 1) := by decide +kernel
theorem d_X_out_33 : decode b_X_out 33 = .ok (.goto 24, 3) := by decide +kernel
theorem d_X_out_36 : decode b_X_out 36 = .ok (.iload_n 2, 1) := by decide +kernel
theorem d_X_out_37 : decode b_X_out 37 = .ok (.iconst 1, 1) := by decide +kernel
theorem d_X_out_38 : decode b_X_out 38 = .ok (.if_icmp .ne 12, 3) := by decide +kernel
theorem d_X_out_41 : decode b_X_out 41 = .ok (.aload_n 0, 1) := by decide +kernel
theorem d_X_out_42 : decode b_X_out 42 = .ok (.getfield 23, 3) := by decide +kernel
theorem d_X_out_45 : decode b_X_out 45 = .ok (.iload_n 1, 1) := by decide +kernel
theorem d_X_out_46 : decode b_X_out 46 = .ok (.iaload, 1) := by decide +kernel
theorem d_X_out_47 : decode b_X_out 47 = .ok (.goto 10, 3) := by decide +kernel
theorem d_X_out_50 : decode b_X_out 50 = .ok (.aload_n 0, 1) := by decide +kernel
theorem d_X_out_51 : decode b_X_out 51 = .ok (.getfield 26, 3) := by decide +kernel
theorem d_X_out_54 : decode b_X_out 54 = .ok (.iload_n 1, 1) := by decide +kernel
theorem d_X_out_55 : decode b_X_out 55 = .ok (.laload, 1) := by decide +kernel
theorem d_X_out_56 : decode b_X_out 56 = .ok (.l2i, 1) := by decide +kernel
theorem d_X_out_57 : decode b_X_out 57 = .ok (.ireturn, 1) := by decide +kernel
theorem d_X_height_0 : decode b_X_height 0 = .ok (.aload_n 0, 1) := by decide +kernel
theorem d_X_height_1 : decode b_X_height 1 = .ok (.iload_n 1, 1) := by decide +kernel
theorem d_X_height_2 : decode b_X_height 2 = .ok (.invokevirtual 122, 3) := by decide +kernel
theorem d_X_height_5 : decode b_X_height 5 = .ok (.ifCond .ne 6, 3) := by decide +kernel
theorem d_X_height_8 : decode b_X_height 8 = .ok (.bipush (-101), 2) := by decide +kernel
theorem d_X_height_10 : decode b_X_height 10 = .ok (.ireturn, 1) := by decide +kernel
theorem d_X_height_11 : decode b_X_height 11 = .ok (.iload_n 2, 1) := by decide +kernel
theorem d_X_height_12 : decode b_X_height 12 = .ok (.i2l, 1) := by decide +kernel
theorem d_X_height_13 : decode b_X_height 13 = .ok (.lconst 1, 1) := by decide +kernel
theorem d_X_height_14 : decode b_X_height 14 = .ok (.ldc2_w 145, 3) := by decide +kernel
theorem d_X_height_17 : decode b_X_height 17 = .ok (.invokestatic 54, 3) := by decide +kernel
theorem d_X_height_20 : decode b_X_height 20 = .ok (.ifCond .eq 6, 3) := by decide +kernel
theorem d_X_height_23 : decode b_X_height 23 = .ok (.bipush (-102), 2) := by decide +kernel
theorem d_X_height_25 : decode b_X_height 25 = .ok (.ireturn, 1) := by decide +kernel
theorem d_X_height_26 : decode b_X_height 26 = .ok (.aload_n 0, 1) := by decide +kernel
theorem d_X_height_27 : decode b_X_height 27 = .ok (.getfield 44, 3) := by decide +kernel
theorem d_X_height_30 : decode b_X_height 30 = .ok (.iload_n 1, 1) := by decide +kernel
theorem d_X_height_31 : decode b_X_height 31 = .ok (.aaload, 1) := by decide +kernel
theorem d_X_height_32 : decode b_X_height 32 = .ok (.getfield 147, 3) := by decide +kernel
theorem d_X_height_35 : decode b_X_height 35 = .ok (.istore_n 3, 1) := by decide +kernel
theorem d_X_height_36 : decode b_X_height 36 = .ok (.aload_n 0, 1) := by decide +kernel
theorem d_X_height_37 : decode b_X_height 37 = .ok (.getfield 44, 3) := by decide +kernel
theorem d_X_height_40 : decode b_X_height 40 = .ok (.iload_n 1, 1) := by decide +kernel
theorem d_X_height_41 : decode b_X_height 41 = .ok (.aaload, 1) := by decide +kernel
theorem d_X_height_42 : decode b_X_height 42 = .ok (.iload_n 2, 1) := by decide +kernel
theorem d_X_height_43 : decode b_X_height 43 = .ok (.putfield 147, 3) := by decide +kernel
theorem d_X_height_46 : decode b_X_height 46 = .ok (.iload_n 3, 1) := by decide +kernel
theorem d_X_height_47 : decode b_X_height 47 = .ok (.ireturn, 1) := by decide +kernel
theorem d_X_swap_0 : decode b_X_swap 0 = .ok (.aload_n 0, 1) := by decide +kernel
theorem d_X_swap_1 : decode b_X_swap 1 = .ok (.iload_n 1, 1) := by decide +kernel
theorem d_X_swap_2 : decode b_X_swap 2 = .ok (.invokevirtual 122, 3) := by decide +kernel
theorem d_X_swap_5 : decode b_X_swap 5 = .ok (.ifCond .ne 6, 3) := by decide +kernel
theorem d_X_swap_8 : decode b_X_swap 8 = .ok (.bipush (-101), 2) := by decide +kernel
theorem d_X_swap_10 : decode b_X_swap 10 = .ok (.ireturn, 1) := by decide +kernel
theorem d_X_swap_11 : decode b_X_swap 11 = .ok (.aload_n 0, 1) := by decide +kernel
theorem d_X_swap_12 : decode b_X_swap 12 = .ok (.getfield 44, 3) := by decide +kernel
theorem d_X_swap_15 : decode b_X_swap 15 = .ok (.iload_n 1, 1) := by decide +kernel
theorem d_X_swap_16 : decode b_X_swap 16 = .ok (.aaload, 1) := by decide +kernel
theorem d_X_swap_17 : decode b_X_swap 17 = .ok (.getfield 150, 3) := by decide +kernel
theorem d_X_swap_20 : decode b_X_swap 20 = .ok (.istore_n 2, 1) := by decide +kernel
theorem d_X_swap_21 : decode b_X_swap 21 = .ok (.aload_n 0, 1) := by decide +kernel
theorem d_X_swap_22 : decode b_X_swap 22 = .ok (.getfield 44, 3) := by decide +kernel
theorem d_X_swap_25 : decode b_X_swap 25 = .ok (.iload_n 1, 1) := by decide +kernel
theorem d_X_swap_26 : decode b_X_swap 26 = .ok (.aaload, 1) := by decide +kernel
theorem d_X_swap_27 : decode b_X_swap 27 = .ok (.iconst 0, 1) := by decide +kernel
theorem d_X_swap_28 : decode b_X_swap 28 = .ok (.putfield 150, 3) := by decide +kernel
theorem d_X_swap_31 : decode b_X_swap 31 = .ok (.iload_n 2, 1) := by decide +kernel
theorem d_X_swap_32 : decode b_X_swap 32 = .ok (.ireturn, 1) := by decide +kernel
theorem d_X_stuck_0 : decode b_X_stuck 0 = .ok (.aload_n 0, 1) := by decide +kernel
theorem d_X_stuck_1 : decode b_X_stuck 1 = .ok (.iload_n 1, 1) := by decide +kernel
theorem d_X_stuck_2 : decode b_X_stuck 2 = .ok (.invokevirtual 122, 3) := by decide +kernel
theorem d_X_stuck_5 : decode b_X_stuck 5 = .ok (.ifCond .ne 6, 3) := by decide +kernel
theorem d_X_stuck_8 : decode b_X_stuck 8 = .ok (.bipush (-101), 2) := by decide +kernel
theorem d_X_stuck_10 : decode b_X_stuck 10 = .ok (.ireturn, 1) := by decide +kernel
theorem d_X_stuck_11 : decode b_X_stuck 11 = .ok (.aload_n 0, 1) := by decide +kernel
theorem d_X_stuck_12 : decode b_X_stuck 12 = .ok (.getfield 44, 3) := by decide +kernel
theorem d_X_stuck_15 : decode b_X_stuck 15 = .ok (.iload_n 1, 1) := by decide +kernel
theorem d_X_stuck_16 : decode b_X_stuck 16 = .ok (.aaload, 1) := by decide +kernel
theorem d_X_stuck_17 : decode b_X_stuck 17 = .ok (.getfield 153, 3) := by decide +kernel
theorem d_X_stuck_20 : decode b_X_stuck 20 = .ok (.iload_n 2, 1) := by decide +kernel
theorem d_X_stuck_21 : decode b_X_stuck 21 = .ok (.if_icmp .eq 7, 3) := by decide +kernel
theorem d_X_stuck_24 : decode b_X_stuck 24 = .ok (.iconst 1, 1) := by decide +kernel
theorem d_X_stuck_25 : decode b_X_stuck 25 = .ok (.goto 4, 3) := by decide +kernel
theorem d_X_stuck_28 : decode b_X_stuck 28 = .ok (.iconst 0, 1) := by decide +kernel
theorem d_X_stuck_29 : decode b_X_stuck 29 = .ok (.istore_n 3, 1) := by decide +kernel
theorem d_X_stuck_30 : decode b_X_stuck 30 = .ok (.aload_n 0, 1) := by decide +kernel
theorem d_X_stuck_31 : decode b_X_stuck 31 = .ok (.getfield 44, 3) := by decide +kernel
theorem d_X_stuck_34 : decode b_X_stuck 34 = .ok (.iload_n 1, 1) := by decide +kernel
theorem d_X_stuck_35 : decode b_X_stuck 35 = .ok (.aaload, 1) := by decide +kernel
theorem d_X_stuck_36 : decode b_X_stuck 36 = .ok (.iload_n 2, 1) := by decide +kernel
theorem d_X_stuck_37 : decode b_X_stuck 37 = .ok (.putfield 153, 3) := by decide +kernel
theorem d_X_stuck_40 : decode b_X_stuck 40 = .ok (.iload_n 3, 1) := by decide +kernel
theorem d_X_stuck_41 : decode b_X_stuck 41 = .ok (.ireturn, 1) := by decide +kernel
theorem d_X_late_0 : decode b_X_late 0 = .ok (.aload_n 0, 1) := by decide +kernel
theorem d_X_late_1 : decode b_X_late 1 = .ok (.iload_n 1, 1) := by decide +kernel
theorem d_X_late_2 : decode b_X_late 2 = .ok (.invokevirtual 118, 3) := by decide +kernel
theorem d_X_late_5 : decode b_X_late 5 = .ok (.ifCond .eq 15, 3) := by decide +kernel
theorem d_X_late_8 : decode b_X_late 8 = .ok (.aload_n 0, 1) := by decide +kernel
theorem d_X_late_9 : decode b_X_late 9 = .ok (.getfield 11, 3) := by decide +kernel
theorem d_X_late_12 : decode b_X_late 12 = .ok (.iload_n 1, 1) := by decide +kernel
theorem d_X_late_13 : decode b_X_late 13 = .ok (.aaload, 1) := by decide +kernel
theorem d_X_late_14 : decode b_X_late 14 = .ok (.getfield 139, 3) := by decide +kernel
theorem d_X_late_17 : decode b_X_late 17 = .ok (.goto 5, 3) := by decide +kernel
theorem d_X_late_20 : decode b_X_late 20 = .ok (.bipush (-101), 2) := by decide +kernel
theorem d_X_late_22 : decode b_X_late 22 = .ok (.ireturn, 1) := by decide +kernel
theorem d_X_count_0 : decode b_X_count 0 = .ok (.iload_n 1, 1) := by decide +kernel
theorem d_X_count_1 : decode b_X_count 1 = .ok (.aload_n 0, 1) := by decide +kernel
theorem d_X_count_2 : decode b_X_count 2 = .ok (.getfield 39, 3) := by decide +kernel
theorem d_X_count_5 : decode b_X_count 5 = .ok (.if_icmp .ne 10, 3) := by decide +kernel
theorem d_X_count_8 : decode b_X_count 8 = .ok (.aload_n 0, 1) := by decide +kernel
theorem d_X_count_9 : decode b_X_count 9 = .ok (.getfield 89, 3) := by decide +kernel
theorem d_X_count_12 : decode b_X_count 12 = .ok (.goto 25, 3) := by decide +kernel
theorem d_X_count_15 : decode b_X_count 15 = .ok (.aload_n 0, 1) := by decide +kernel
theorem d_X_count_16 : decode b_X_count 16 = .ok (.iload_n 1, 1) := by decide +kernel
theorem d_X_count_17 : decode b_X_count 17 = .ok (.invokevirtual 122, 3) := by decide +kernel
theorem d_X_count_20 : decode b_X_count 20 = .ok (.ifCond .eq 15, 3) := by decide +kernel
theorem d_X_count_23 : decode b_X_count 23 = .ok (.aload_n 0, 1) := by decide +kernel
theorem d_X_count_24 : decode b_X_count 24 = .ok (.getfield 44, 3) := by decide +kernel
theorem d_X_count_27 : decode b_X_count 27 = .ok (.iload_n 1, 1) := by decide +kernel
theorem d_X_count_28 : decode b_X_count 28 = .ok (.aaload, 1) := by decide +kernel
theorem d_X_count_29 : decode b_X_count 29 = .ok (.getfield 156, 3) := by decide +kernel
theorem d_X_count_32 : decode b_X_count 32 = .ok (.goto 5, 3) := by decide +kernel
theorem d_X_count_35 : decode b_X_count 35 = .ok (.bipush (-101), 2) := by decide +kernel
theorem d_X_count_37 : decode b_X_count 37 = .ok (.ireturn, 1) := by decide +kernel
theorem d_X_verify_0 : decode b_X_verify 0 = .ok (.iload_n 2, 1) := by decide +kernel
theorem d_X_verify_1 : decode b_X_verify 1 = .ok (.ifCond .lt 12, 3) := by decide +kernel
theorem d_X_verify_4 : decode b_X_verify 4 = .ok (.iload_n 2, 1) := by decide +kernel
theorem d_X_verify_5 : decode b_X_verify 5 = .ok (.iconst 2, 1) := by decide +kernel
theorem d_X_verify_6 : decode b_X_verify 6 = .ok (.if_icmp .gt 7, 3) := by decide +kernel
theorem d_X_verify_9 : decode b_X_verify 9 = .ok (.iload_n 1, 1) := by decide +kernel
theorem d_X_verify_10 : decode b_X_verify 10 = .ok (.ifCond .ge 5, 3) := by decide +kernel
theorem d_X_verify_13 : decode b_X_verify 13 = .ok (.iconst (-1), 1) := by decide +kernel
theorem d_X_verify_14 : decode b_X_verify 14 = .ok (.ireturn, 1) := by decide +kernel
theorem d_X_verify_15 : decode b_X_verify 15 = .ok (.iload_n 1, 1) := by decide +kernel
theorem d_X_verify_16 : decode b_X_verify 16 = .ok (.istore_n 3, 1) := by decide +kernel
theorem d_X_verify_17 : decode b_X_verify 17 = .ok (.iconst 0, 1) := by decide +kernel
theorem d_X_verify_18 : decode b_X_verify 18 = .ok (.istore 4, 2) := by decide +kernel
theorem d_X_verify_20 : decode b_X_verify 20 = .ok (.iload 4, 2) := by decide +kernel
theorem d_X_verify_22 : decode b_X_verify 22 = .ok (.aload_n 0, 1) := by decide +kernel
theorem d_X_verify_23 : decode b_X_verify 23 = .ok (.getfield 83, 3) := by decide +kernel
theorem d_X_verify_26 : decode b_X_verify 26 = .ok (.if_icmp .ge 83, 3) := by decide +kernel
theorem d_X_verify_29 : decode b_X_verify 29 = .ok (.aload_n 0, 1) := by decide +kernel
theorem d_X_verify_30 : decode b_X_verify 30 = .ok (.getfield 11, 3) := by decide +kernel
theorem d_X_verify_33 : decode b_X_verify 33 = .ok (.aload_n 0, 1) := by decide +kernel
theorem d_X_verify_34 : decode b_X_verify 34 = .ok (.getfield 19, 3) := by decide +kernel
theorem d_X_verify_37 : decode b_X_verify 37 = .ok (.iload 4, 2) := by decide +kernel
theorem d_X_verify_39 : decode b_X_verify 39 = .ok (.iaload, 1) := by decide +kernel
theorem d_X_verify_40 : decode b_X_verify 40 = .ok (.aaload, 1) := by decide +kernel
theorem d_X_verify_41 : decode b_X_verify 41 = .ok (.astore 5, 2) := by decide +kernel
theorem d_X_verify_43 : decode b_X_verify 43 = .ok (.aload 5, 2) := by decide +kernel
theorem d_X_verify_45 : decode b_X_verify 45 = .ok (.aload_n 0, 1) := by decide +kernel
theorem d_X_verify_46 : decode b_X_verify 46 = .ok (.getfield 23, 3) := by decide +kernel
theorem d_X_verify_49 : decode b_X_verify 49 = .ok (.iload 4, 2) := by decide +kernel
theorem d_X_verify_51 : decode b_X_verify 51 = .ok (.iaload, 1) := by decide +kernel
theorem d_X_verify_52 : decode b_X_verify 52 = .ok (.invokevirtual 159, 3) := by decide +kernel
theorem d_X_verify_55 : decode b_X_verify 55 = .ok (.ifCond .ne 6, 3) := by decide +kernel
theorem d_X_verify_58 : decode b_X_verify 58 = .ok (.goto 45, 3) := by decide +kernel
theorem d_X_verify_61 : decode b_X_verify 61 = .ok (.iload_n 3, 1) := by decide +kernel
theorem d_X_verify_62 : decode b_X_verify 62 = .ok (.ifCond .ne 38, 3) := by decide +kernel
theorem d_X_verify_65 : decode b_X_verify 65 = .ok (.iload_n 2, 1) := by decide +kernel
theorem d_X_verify_66 : decode b_X_verify 66 = .ok (.ifCond .ne 13, 3) := by decide +kernel
theorem d_X_verify_69 : decode b_X_verify 69 = .ok (.aload_n 0, 1) := by decide +kernel
theorem d_X_verify_70 : decode b_X_verify 70 = .ok (.getfield 19, 3) := by decide +kernel
theorem d_X_verify_73 : decode b_X_verify 73 = .ok (.iload 4, 2) := by decide +kernel
theorem d_X_verify_75 : decode b_X_verify 75 = .ok (.iaload, 1) := by decide +kernel
theorem d_X_verify_76 : decode b_X_verify 76 = .ok (.goto 23, 3) := by decide +kernel
theorem d_X_verify_79 : decode b_X_verify 79 = .ok (.iload_n 2, 1) := by decide +kernel
theorem d_X_verify_80 : decode b_X_verify 80 = .ok (.iconst 1, 1) := by decide +kernel
theorem d_X_verify_81 : decode b_X_verify 81 = .ok (.if_icmp .ne 11, 3) := by decide +kernel
theorem d_X_verify_84 : decode b_X_verify 84 = .ok (.aload 5, 2) := by decide +kernel
theorem d_X_verify_86 : decode b_X_verify 86 = .ok (.getfield 96, 3) := by decide +kernel
theorem d_X_verify_89 : decode b_X_verify 89 = .ok (.goto 10, 3) := by decide +kernel
theorem d_X_verify_92 : decode b_X_verify 92 = .ok (.aload_n 0, 1) := by decide +kernel
theorem d_X_verify_93 : decode b_X_verify 93 = .ok (.getfield 23, 3) := by decide +kernel
theorem d_X_verify_96 : decode b_X_verify 96 = .ok (.iload 4, 2) := by decide +kernel
theorem d_X_verify_98 : decode b_X_verify 98 = .ok (.iaload, 1) := by decide +kernel
theorem d_X_verify_99 : decode b_X_verify 99 = .ok (.ireturn, 1) := by decide +kernel
theorem d_X_verify_100 : decode b_X_verify 100 = .ok (.iinc 3 (-1), 3) := by decide +kernel
theorem d_X_verify_103 : decode b_X_verify 103 = .ok (.iinc 4 1, 3) := by decide +kernel
theorem d_X_verify_106 : decode b_X_verify 106 = .ok (.goto (-86), 3) := by decide +kernel
theorem d_X_verify_109 : decode b_X_verify 109 = .ok (.iconst (-1), 1) := by decide +kernel
theorem d_X_verify_110 : decode b_X_verify 110 = .ok (.ireturn, 1) := by decide +kernel
end
section
theorem d_M_init_0 : decode b_M_init 0 = .ok (.aload_n 0, 1) := by decide +kernel
theorem d_M_init_1 : decode b_M_init 1 = .ok (.invokespecial 1, 3) := by decide +kernel
theorem d_M_init_4 : decode b_M_init 4 = .ok (.aload_n 0, 1) := by decide +kernel
theorem d_M_init_5 : decode b_M_init 5 = .ok (.sipush 401, 3) := by decide +kernel
theorem d_M_init_8 : decode b_M_init 8 = .ok (.newarray .long, 2) := by decide +kernel
theorem d_M_init_10 : decode b_M_init 10 = .ok (.putfield 7, 3) := by decide +kernel
theorem d_M_init_13 : decode b_M_init 13 = .ok (.aload_n 0, 1) := by decide +kernel
theorem d_M_init_14 : decode b_M_init 14 = .ok (.sipush 401, 3) := by decide +kernel
theorem d_M_init_17 : decode b_M_init 17 = .ok (.newarray .long, 2) := by decide +kernel
theorem d_M_init_19 : decode b_M_init 19 = .ok (.putfield 13, 3) := by decide +kernel
theorem d_M_init_22 : decode b_M_init 22 = .ok (.aload_n 0, 1) := by decide +kernel
theorem d_M_init_23 : decode b_M_init 23 = .ok (.sipush 401, 3) := by decide +kernel
theorem d_M_init_26 : decode b_M_init 26 = .ok (.newarray .int, 2) := by decide +kernel
theorem d_M_init_28 : decode b_M_init 28 = .ok (.putfield 16, 3) := by decide +kernel
theorem d_M_init_31 : decode b_M_init 31 = .ok (.aload_n 0, 1) := by decide +kernel
theorem d_M_init_32 : decode b_M_init 32 = .ok (.sipush 401, 3) := by decide +kernel
theorem d_M_init_35 : decode b_M_init 35 = .ok (.newarray .int, 2) := by decide +kernel
theorem d_M_init_37 : decode b_M_init 37 = .ok (.putfield 20, 3) := by decide +kernel
theorem d_M_init_40 : decode b_M_init 40 = .ok (.aload_n 0, 1) := by decide +kernel
theorem d_M_init_41 : decode b_M_init 41 = .ok (.sipush 401, 3) := by decide +kernel
theorem d_M_init_44 : decode b_M_init 44 = .ok (.newarray .int, 2) := by decide +kernel
theorem d_M_init_46 : decode b_M_init 46 = .ok (.putfield 23, 3) := by decide +kernel
theorem d_M_init_49 : decode b_M_init 49 = .ok (.aload_n 0, 1) := by decide +kernel
theorem d_M_init_50 : decode b_M_init 50 = .ok (.sipush 401, 3) := by decide +kernel
theorem d_M_init_53 : decode b_M_init 53 = .ok (.newarray .int, 2) := by decide +kernel
theorem d_M_init_55 : decode b_M_init 55 = .ok (.putfield 26, 3) := by decide +kernel
theorem d_M_init_58 : decode b_M_init 58 = .ok (.aload_n 0, 1) := by decide +kernel
theorem d_M_init_59 : decode b_M_init 59 = .ok (.sipush 401, 3) := by decide +kernel
theorem d_M_init_62 : decode b_M_init 62 = .ok (.newarray .long, 2) := by decide +kernel
theorem d_M_init_64 : decode b_M_init 64 = .ok (.putfield 29, 3) := by decide +kernel
theorem d_M_init_67 : decode b_M_init 67 = .ok (.aload_n 0, 1) := by decide +kernel
theorem d_M_init_68 : decode b_M_init 68 = .ok (.bipush 13, 2) := by decide +kernel
theorem d_M_init_70 : decode b_M_init 70 = .ok (.newarray .boolean, 2) := by decide +kernel
theorem d_M_init_72 : decode b_M_init 72 = .ok (.putfield 32, 3) := by decide +kernel
theorem d_M_init_75 : decode b_M_init 75 = .ok (.aload_n 0, 1) := by decide +kernel
theorem d_M_init_76 : decode b_M_init 76 = .ok (.bipush 13, 2) := by decide +kernel
theorem d_M_init_78 : decode b_M_init 78 = .ok (.newarray .boolean, 2) := by decide +kernel
theorem d_M_init_80 : decode b_M_init 80 = .ok (.putfield 36, 3) := by decide +kernel
theorem d_M_init_83 : decode b_M_init 83 = .ok (.aload_n 0, 1) := by decide +kernel
theorem d_M_init_84 : decode b_M_init 84 = .ok (.bipush 13, 2) := by decide +kernel
theorem d_M_init_86 : decode b_M_init 86 = .ok (.newarray .boolean, 2) := by decide +kernel
theorem d_M_init_88 : decode b_M_init 88 = .ok (.putfield 39, 3) := by decide +kernel
theorem d_M_init_91 : decode b_M_init 91 = .ok (.aload_n 0, 1) := by decide +kernel
theorem d_M_init_92 : decode b_M_init 92 = .ok (.bipush 13, 2) := by decide +kernel
theorem d_M_init_94 : decode b_M_init 94 = .ok (.newarray .long, 2) := by decide +kernel
theorem d_M_init_96 : decode b_M_init 96 = .ok (.putfield 42, 3) := by decide +kernel
theorem d_M_init_99 : decode b_M_init 99 = .ok (.aload_n 0, 1) := by decide +kernel
theorem d_M_init_100 : decode b_M_init 100 = .ok (.bipush 13, 2) := by decide +kernel
theorem d_M_init_102 : decode b_M_init 102 = .ok (.newarray .int, 2) := by decide +kernel
theorem d_M_init_104 : decode b_M_init 104 = .ok (.putfield 45, 3) := by decide +kernel
theorem d_M_init_107 : decode b_M_init 107 = .ok (.aload_n 0, 1) := by decide +kernel
theorem d_M_init_108 : decode b_M_init 108 = .ok (.bipush 13, 2) := by decide +kernel
theorem d_M_init_110 : decode b_M_init 110 = .ok (.newarray .int, 2) := by decide +kernel
theorem d_M_init_112 : decode b_M_init 112 = .ok (.putfield 48, 3) := by decide +kernel
theorem d_M_init_115 : decode b_M_init 115 = .ok (.aload_n 0, 1) := by decide +kernel
theorem d_M_init_116 : decode b_M_init 116 = .ok (.bipush 13, 2) := by decide +kernel
theorem d_M_init_118 : decode b_M_init 118 = .ok (.newarray .int, 2) := by decide +kernel
theorem d_M_init_120 : decode b_M_init 120 = .ok (.putfield 51, 3) := by decide +kernel
theorem d_M_init_123 : decode b_M_init 123 = .ok (.aload_n 0, 1) := by decide +kernel
theorem d_M_init_124 : decode b_M_init 124 = .ok (.sipush 400, 3) := by decide +kernel
theorem d_M_init_127 : decode b_M_init 127 = .ok (.newarray .int, 2) := by decide +kernel
theorem d_M_init_129 : decode b_M_init 129 = .ok (.putfield 54, 3) := by decide +kernel
theorem d_M_init_132 : decode b_M_init 132 = .ok (.aload_n 0, 1) := by decide +kernel
theorem d_M_init_133 : decode b_M_init 133 = .ok (.iload_n 1, 1) := by decide +kernel
theorem d_M_init_134 : decode b_M_init 134 = .ok (.iconst 1, 1) := by decide +kernel
theorem d_M_init_135 : decode b_M_init 135 = .ok (.if_icmp .ge 7, 3) := by decide +kernel
theorem d_M_init_138 : decode b_M_init 138 = .ok (.iconst 1, 1) := by decide +kernel
theorem d_M_init_139 : decode b_M_init 139 = .ok (.goto 15, 3) := by decide +kernel
theorem d_M_init_142 : decode b_M_init 142 = .ok (.iload_n 1, 1) := by decide +kernel
theorem d_M_init_143 : decode b_M_init 143 = .ok (.bipush 12, 2) := by decide +kernel
theorem d_M_init_145 : decode b_M_init 145 = .ok (.if_icmp .le 8, 3) := by decide +kernel
theorem d_M_init_148 : decode b_M_init 148 = .ok (.bipush 12, 2) := by decide +kernel
theorem d_M_init_150 : decode b_M_init 150 = .ok (.goto 4, 3) := by decide +kernel
theorem d_M_init_153 : decode b_M_init 153 = .ok (.iload_n 1, 1) := by decide +kernel
theorem d_M_init_154 : decode b_M_init 154 = .ok (.putfield 57, 3) := by decide +kernel
theorem d_M_init_157 : decode b_M_init 157 = .ok (.iconst 0, 1) := by decide +kernel
theorem d_M_init_158 : decode b_M_init 158 = .ok (.istore_n 2, 1) := by decide +kernel
theorem d_M_init_159 : decode b_M_init 159 = .ok (.iload_n 2, 1) := by decide +kernel
theorem d_M_init_160 : decode b_M_init 160 = .ok (.bipush 13, 2) := by decide +kernel
theorem d_M_init_162 : decode b_M_init 162 = .ok (.if_icmp .ge 18, 3) := by decide +kernel
theorem d_M_init_165 : decode b_M_init 165 = .ok (.aload_n 0, 1) := by decide +kernel
theorem d_M_init_166 : decode b_M_init 166 = .ok (.getfield 45, 3) := by decide +kernel
theorem d_M_init_169 : decode b_M_init 169 = .ok (.iload_n 2, 1) := by decide +kernel
theorem d_M_init_170 : decode b_M_init 170 = .ok (.sipush 1000, 3) := by decide +kernel
theorem d_M_init_173 : decode b_M_init 173 = .ok (.iastore, 1) := by decide +kernel
theorem d_M_init_174 : decode b_M_init 174 = .ok (.iinc 2 1, 3) := by decide +kernel
theorem d_M_init_177 : decode b_M_init 177 = .ok (.goto (-18), 3) := by decide +kernel
theorem d_M_init_180 : decode b_M_init 180 = .ok (.return_, 1) := by decide +kernel
theorem d_M_isIn_0 : decode b_M_isIn 0 = .ok (.lload_n 0, 1) := by decide +kernel
theorem d_M_isIn_1 : decode b_M_isIn 1 = .ok (.lload_n 2, 1) := by decide +kernel
theorem d_M_isIn_2 : decode b_M_isIn 2 = .ok (.lcmp, 1) := by decide +kernel
theorem d_M_isIn_3 : decode b_M_isIn 3 = .ok (.ifCond .lt 14, 3) := by decide +kernel
theorem d_M_isIn_6 : decode b_M_isIn 6 = .ok (.lload_n 0, 1) := by decide +kernel
theorem d_M_isIn_7 : decode b_M_isIn 7 = .ok (.lload 4, 2) := by decide +kernel
theorem d_M_isIn_9 : decode b_M_isIn 9 = .ok (.lcmp, 1) := by decide +kernel
theorem d_M_isIn_10 : decode b_M_isIn 10 = .ok (.ifCond .gt 7, 3) := by decide +kernel
theorem d_M_isIn_13 : decode b_M_isIn 13 = .ok (.iconst 1, 1) := by decide +kernel
theorem d_M_isIn_14 : decode b_M_isIn 14 = .ok (.goto 4, 3) := by decide +kernel
theorem d_M_isIn_17 : decode b_M_isIn 17 = .ok (.iconst 0, 1) := by decide +kernel
theorem d_M_isIn_18 : decode b_M_isIn 18 = .ok (.ireturn, 1) := by decide +kernel
theorem d_M_isItem_0 : decode b_M_isItem 0 = .ok (.iload_n 1, 1) := by decide +kernel
theorem d_M_isItem_1 : decode b_M_isItem 1 = .ok (.i2l, 1) := by decide +kernel
theorem d_M_isItem_2 : decode b_M_isItem 2 = .ok (.lconst 1, 1) := by decide +kernel
theorem d_M_isItem_3 : decode b_M_isItem 3 = .ok (.aload_n 0, 1) := by decide +kernel
theorem d_M_isItem_4 : decode b_M_isItem 4 = .ok (.getfield 64, 3) := by decide +kernel
theorem d_M_isItem_7 : decode b_M_isItem 7 = .ok (.i2l, 1) := by decide +kernel
theorem d_M_isItem_8 : decode b_M_isItem 8 = .ok (.invokestatic 67, 3) := by decide +kernel
theorem d_M_isItem_11 : decode b_M_isItem 11 = .ok (.ireturn, 1) := by decide +kernel
theorem d_M_isBin_0 : decode b_M_isBin 0 = .ok (.iload_n 1, 1) := by decide +kernel
theorem d_M_isBin_1 : decode b_M_isBin 1 = .ok (.i2l, 1) := by decide +kernel
theorem d_M_isBin_2 : decode b_M_isBin 2 = .ok (.lconst 0, 1) := by decide +kernel
theorem d_M_isBin_3 : decode b_M_isBin 3 = .ok (.aload_n 0, 1) := by decide +kernel
theorem d_M_isBin_4 : decode b_M_isBin 4 = .ok (.getfield 57, 3) := by decide +kernel
theorem d_M_isBin_7 : decode b_M_isBin 7 = .ok (.i2l, 1) := by decide +kernel
theorem d_M_isBin_8 : decode b_M_isBin 8 = .ok (.lconst 1, 1) := by decide +kernel
theorem d_M_isBin_9 : decode b_M_isBin 9 = .ok (.lsub, 1) := by decide +kernel
theorem d_M_isBin_10 : decode b_M_isBin 10 = .ok (.invokestatic 67, 3) := by decide +kernel
theorem d_M_isBin_13 : decode b_M_isBin 13 = .ok (.ireturn, 1) := by decide +kernel
theorem d_M_item_0 : decode b_M_item 0 = .ok (.aload_n 0, 1) := by decide +kernel
theorem d_M_item_1 : decode b_M_item 1 = .ok (.iconst 0, 1) := by decide +kernel
theorem d_M_item_2 : decode b_M_item 2 = .ok (.putfield 61, 3) := by decide +kernel
theorem d_M_item_5 : decode b_M_item 5 = .ok (.aload_n 0, 1) := by decide +kernel
theorem d_M_item_6 : decode b_M_item 6 = .ok (.getfield 64, 3) := by decide +kernel
theorem d_M_item_9 : decode b_M_item 9 = .ok (.ifCond .le 35, 3) := by decide +kernel
theorem d_M_item_12 : decode b_M_item 12 = .ok (.lload_n 1, 1) := by decide +kernel
theorem d_M_item_13 : decode b_M_item 13 = .ok (.aload_n 0, 1) := by decide +kernel
theorem d_M_item_14 : decode b_M_item 14 = .ok (.getfield 7, 3) := by decide +kernel
theorem d_M_item_17 : decode b_M_item 17 = .ok (.aload_n 0, 1) := by decide +kernel
theorem d_M_item_18 : decode b_M_item 18 = .ok (.getfield 64, 3) := by decide +kernel
theorem d_M_item_21 : decode b_M_item 21 = .ok (.laload, 1) := by decide +kernel
theorem d_M_item_22 : decode b_M_item 22 = .ok (.lsub, 1) := by decide +kernel
theorem d_M_item_23 : decode b_M_item 23 = .ok (.aload_n 0, 1) := by decide +kernel
theorem d_M_item_24 : decode b_M_item 24 = .ok (.getfield 13, 3) := by decide +kernel
theorem d_M_item_27 : decode b_M_item 27 = .ok (.aload_n 0, 1) := by decide +kernel
theorem d_M_item_28 : decode b_M_item 28 = .ok (.getfield 64, 3) := by decide +kernel
theorem d_M_item_31 : decode b_M_item 31 = .ok (.laload, 1) := by decide +kernel
theorem d_M_item_32 : decode b_M_item 32 = .ok (.lsub, 1) := by decide +kernel
theorem d_M_item_33 : decode b_M_item 33 = .ok (.ldc2_w 71, 3) := by decide +kernel
theorem d_M_item_36 : decode b_M_item 36 = .ok (.lcmp, 1) := by decide +kernel
theorem d_M_item_37 : decode b_M_item 37 = .ok (.ifCond .ge 7, 3) := by decide +kernel
theorem d_M_item_40 : decode b_M_item 40 = .ok (.iconst 1, 1) := by decide +kernel
theorem d_M_item_41 : decode b_M_item 41 = .ok (.goto 4, 3) := by decide +kernel
theorem d_M_item_44 : decode b_M_item 44 = .ok (.iconst 0, 1) := by decide +kernel
theorem d_M_item_45 : decode b_M_item 45 = .ok (.istore 5, 2) := by decide +kernel
theorem d_M_item_47 : decode b_M_item 47 = .ok (.lload_n 3, 1) := by decide +kernel
theorem d_M_item_48 : decode b_M_item 48 = .ok (.lconst 1, 1) := by decide +kernel
theorem d_M_item_49 : decode b_M_item 49 = .ok (.ldc2_w 73, 3) := by decide +kernel
theorem d_M_item_52 : decode b_M_item 52 = .ok (.invokestatic 67, 3) := by decide +kernel
theorem d_M_item_55 : decode b_M_item 55 = .ok (.ifCond .eq 22, 3) := by decide +kernel
theorem d_M_item_58 : decode b_M_item 58 = .ok (.lload_n 1, 1) := by decide +kernel
theorem d_M_item_59 : decode b_M_item 59 = .ok (.aload_n 0, 1) := by decide +kernel
theorem d_M_item_60 : decode b_M_item 60 = .ok (.getfield 75, 3) := by decide +kernel
theorem d_M_item_63 : decode b_M_item 63 = .ok (.ldc2_w 79, 3) := by decide +kernel
theorem d_M_item_66 : decode b_M_item 66 = .ok (.invokestatic 67, 3) := by decide +kernel
theorem d_M_item_69 : decode b_M_item 69 = .ok (.ifCond .eq 8, 3) := by decide +kernel
theorem d_M_item_72 : decode b_M_item 72 = .ok (.iload 5, 2) := by decide +kernel
theorem d_M_item_74 : decode b_M_item 74 = .ok (.ifCond .eq 6, 3) := by decide +kernel
theorem d_M_item_77 : decode b_M_item 77 = .ok (.bipush (-102), 2) := by decide +kernel
theorem d_M_item_79 : decode b_M_item 79 = .ok (.ireturn, 1) := by decide +kernel
theorem d_M_item_80 : decode b_M_item 80 = .ok (.aload_n 0, 1) := by decide +kernel
theorem d_M_item_81 : decode b_M_item 81 = .ok (.getfield 64, 3) := by decide +kernel
theorem d_M_item_84 : decode b_M_item 84 = .ok (.sipush 400, 3) := by decide +kernel
theorem d_M_item_87 : decode b_M_item 87 = .ok (.if_icmp .ne 6, 3) := by decide +kernel
theorem d_M_item_90 : decode b_M_item 90 = .ok (.bipush (-104), 2) := by decide +kernel
theorem d_M_item_92 : decode b_M_item 92 = .ok (.ireturn, 1) := by decide +kernel
theorem d_M_item_93 : decode b_M_item 93 = .ok (.aload_n 0, 1) := by decide +kernel
theorem d_M_item_94 : decode b_M_item 94 = .ok (.dup, 1) := by decide +kernel
theorem d_M_item_95 : decode b_M_item 95 = .ok (.getfield 64, 3) := by decide +kernel
theorem d_M_item_98 : decode b_M_item 98 = .ok (.iconst 1, 1) := by decide +kernel
theorem d_M_item_99 : decode b_M_item 99 = .ok (.iadd, 1) := by decide +kernel
theorem d_M_item_100 : decode b_M_item 100 = .ok (.putfield 64, 3) := by decide +kernel
theorem d_M_item_103 : decode b_M_item 103 = .ok (.aload_n 0, 1) := by decide +kernel
theorem d_M_item_104 : decode b_M_item 104 = .ok (.getfield 7, 3) := by decide +kernel
theorem d_M_item_107 : decode b_M_item 107 = .ok (.aload_n 0, 1) := by decide +kernel
theorem d_M_item_108 : decode b_M_item 108 = .ok (.getfield 64, 3) := by decide +kernel
theorem d_M_item_111 : decode b_M_item 111 = .ok (.lload_n 1, 1) := by decide +kernel
theorem d_M_item_112 : decode b_M_item 112 = .ok (.lastore, 1) := by decide +kernel
theorem d_M_item_113 : decode b_M_item 113 = .ok (.aload_n 0, 1) := by decide +kernel
theorem d_M_item_114 : decode b_M_item 114 = .ok (.getfield 13, 3) := by decide +kernel
theorem d_M_item_117 : decode b_M_item 117 = .ok (.aload_n 0, 1) := by decide +kernel
theorem d_M_item_118 : decode b_M_item 118 = .ok (.getfield 64, 3) := by decide +kernel
theorem d_M_item_121 : decode b_M_item 121 = .ok (.lload_n 3, 1) := by decide +kernel
theorem d_M_item_122 : decode b_M_item 122 = .ok (.lastore, 1) := by decide +kernel
theorem d_M_item_123 : decode b_M_item 123 = .ok (.aload_n 0, 1) := by decide +kernel
theorem d_M_item_124 : decode b_M_item 124 = .ok (.getfield 16, 3) := by decide +kernel
theorem d_M_item_127 : decode b_M_item 127 = .ok (.aload_n 0, 1) := by decide +kernel
theorem d_M_item_128 : decode b_M_item 128 = .ok (.getfield 64, 3) := by decide +kernel
theorem d_M_item_131 : decode b_M_item 131 = .ok (.iconst (-1), 1) := by decide +kernel
theorem d_M_item_132 : decode b_M_item 132 = .ok (.iastore, 1) := by decide +kernel
theorem d_M_item_133 : decode b_M_item 133 = .ok (.aload_n 0, 1) := by decide +kernel
theorem d_M_item_134 : decode b_M_item 134 = .ok (.getfield 20, 3) := by decide +kernel
theorem d_M_item_137 : decode b_M_item 137 = .ok (.aload_n 0, 1) := by decide +kernel
theorem d_M_item_138 : decode b_M_item 138 = .ok (.getfield 64, 3) := by decide +kernel
theorem d_M_item_141 : decode b_M_item 141 = .ok (.iconst 0, 1) := by decide +kernel
theorem d_M_item_142 : decode b_M_item 142 = .ok (.iastore, 1) := by decide +kernel
theorem d_M_item_143 : decode b_M_item 143 = .ok (.aload_n 0, 1) := by decide +kernel
theorem d_M_item_144 : decode b_M_item 144 = .ok (.getfield 23, 3) := by decide +kernel
theorem d_M_item_147 : decode b_M_item 147 = .ok (.aload_n 0, 1) := by decide +kernel
theorem d_M_item_148 : decode b_M_item 148 = .ok (.getfield 64, 3) := by decide +kernel
theorem d_M_item_151 : decode b_M_item 151 = .ok (.iconst (-1), 1) := by decide +kernel
theorem d_M_item_152 : decode b_M_item 152 = .ok (.iastore, 1) := by decide +kernel
theorem d_M_item_153 : decode b_M_item 153 = .ok (.aload_n 0, 1) := by decide +kernel
theorem d_M_item_154 : decode b_M_item 154 = .ok (.getfield 64, 3) := by decide +kernel
theorem d_M_item_157 : decode b_M_item 157 = .ok (.ireturn, 1) := by decide +kernel
theorem d_M_front_0 : decode b_M_front 0 = .ok (.aload_n 0, 1) := by decide +kernel
theorem d_M_front_1 : decode b_M_front 1 = .ok (.getfield 7, 3) := by decide +kernel
theorem d_M_front_4 : decode b_M_front 4 = .ok (.iload_n 1, 1) := by decide +kernel
theorem d_M_front_5 : decode b_M_front 5 = .ok (.laload, 1) := by decide +kernel
theorem d_M_front_6 : decode b_M_front 6 = .ok (.ldc2_w 81, 3) := by decide +kernel
theorem d_M_front_9 : decode b_M_front 9 = .ok (.iload_n 2, 1) := by decide +kernel
theorem d_M_front_10 : decode b_M_front 10 = .ok (.i2l, 1) := by decide +kernel
theorem d_M_front_11 : decode b_M_front 11 = .ok (.lmul, 1) := by decide +kernel
theorem d_M_front_12 : decode b_M_front 12 = .ok (.ladd, 1) := by decide +kernel
theorem d_M_front_13 : decode b_M_front 13 = .ok (.ldc2_w 81, 3) := by decide +kernel
theorem d_M_front_16 : decode b_M_front 16 = .ok (.ladd, 1) := by decide +kernel
theorem d_M_front_17 : decode b_M_front 17 = .ok (.lreturn, 1) := by decide +kernel
theorem d_M_at_0 : decode b_M_at 0 = .ok (.aload_n 0, 1) := by decide +kernel
theorem d_M_at_1 : decode b_M_at 1 = .ok (.iload_n 1, 1) := by decide +kernel
theorem d_M_at_2 : decode b_M_at 2 = .ok (.iload_n 2, 1) := by decide +kernel
theorem d_M_at_3 : decode b_M_at 3 = .ok (.invokevirtual 83, 3) := by decide +kernel
theorem d_M_at_6 : decode b_M_at 6 = .ok (.lstore_n 3, 1) := by decide +kernel
theorem d_M_at_7 : decode b_M_at 7 = .ok (.iload_n 2, 1) := by decide +kernel
theorem d_M_at_8 : decode b_M_at 8 = .ok (.aload_n 0, 1) := by decide +kernel
theorem d_M_at_9 : decode b_M_at 9 = .ok (.getfield 57, 3) := by decide +kernel
theorem d_M_at_12 : decode b_M_at 12 = .ok (.if_icmp .ge 32, 3) := by decide +kernel
theorem d_M_at_15 : decode b_M_at 15 = .ok (.aload_n 0, 1) := by decide +kernel
theorem d_M_at_16 : decode b_M_at 16 = .ok (.getfield 16, 3) := by decide +kernel
theorem d_M_at_19 : decode b_M_at 19 = .ok (.iload_n 1, 1) := by decide +kernel
theorem d_M_at_20 : decode b_M_at 20 = .ok (.iaload, 1) := by decide +kernel
theorem d_M_at_21 : decode b_M_at 21 = .ok (.iload_n 2, 1) := by decide +kernel
theorem d_M_at_22 : decode b_M_at 22 = .ok (.if_icmp .ne 22, 3) := by decide +kernel
theorem d_M_at_25 : decode b_M_at 25 = .ok (.aload_n 0, 1) := by decide +kernel
theorem d_M_at_26 : decode b_M_at 26 = .ok (.getfield 48, 3) := by decide +kernel
theorem d_M_at_29 : decode b_M_at 29 = .ok (.iload_n 2, 1) := by decide +kernel
theorem d_M_at_30 : decode b_M_at 30 = .ok (.iaload, 1) := by decide +kernel
theorem d_M_at_31 : decode b_M_at 31 = .ok (.aload_n 0, 1) := by decide +kernel
theorem d_M_at_32 : decode b_M_at 32 = .ok (.getfield 45, 3) := by decide +kernel
theorem d_M_at_35 : decode b_M_at 35 = .ok (.iload_n 2, 1) := by decide +kernel
theorem d_M_at_36 : decode b_M_at 36 = .ok (.iaload, 1) := by decide +kernel
theorem d_M_at_37 : decode b_M_at 37 = .ok (.if_icmp .ge 7, 3) := by decide +kernel
theorem d_M_at_40 : decode b_M_at 40 = .ok (.iconst 1, 1) := by decide +kernel
theorem d_M_at_41 : decode b_M_at 41 = .ok (.goto 4, 3) := by decide +kernel
theorem d_M_at_44 : decode b_M_at 44 = .ok (.iconst 0, 1) := by decide +kernel
theorem d_M_at_45 : decode b_M_at 45 = .ok (.istore 5, 2) := by decide +kernel
theorem d_M_at_47 : decode b_M_at 47 = .ok (.aload_n 0, 1) := by decide +kernel
theorem d_M_at_48 : decode b_M_at 48 = .ok (.getfield 36, 3) := by decide +kernel
theorem d_M_at_51 : decode b_M_at 51 = .ok (.iload_n 2, 1) := by decide +kernel
theorem d_M_at_52 : decode b_M_at 52 = .ok (.baload, 1) := by decide +kernel
theorem d_M_at_53 : decode b_M_at 53 = .ok (.ifCond .ne 31, 3) := by decide +kernel
theorem d_M_at_56 : decode b_M_at 56 = .ok (.aload_n 0, 1) := by decide +kernel
theorem d_M_at_57 : decode b_M_at 57 = .ok (.getfield 39, 3) := by decide +kernel
theorem d_M_at_60 : decode b_M_at 60 = .ok (.iload_n 2, 1) := by decide +kernel
theorem d_M_at_61 : decode b_M_at 61 = .ok (.baload, 1) := by decide +kernel
theorem d_M_at_62 : decode b_M_at 62 = .ok (.ifCond .eq 18, 3) := by decide +kernel
theorem d_M_at_65 : decode b_M_at 65 = .ok (.lload_n 3, 1) := by decide +kernel
theorem d_M_at_66 : decode b_M_at 66 = .ok (.aload_n 0, 1) := by decide +kernel
theorem d_M_at_67 : decode b_M_at 67 = .ok (.getfield 42, 3) := by decide +kernel
theorem d_M_at_70 : decode b_M_at 70 = .ok (.iload_n 2, 1) := by decide +kernel
theorem d_M_at_71 : decode b_M_at 71 = .ok (.laload, 1) := by decide +kernel
theorem d_M_at_72 : decode b_M_at 72 = .ok (.lsub, 1) := by decide +kernel
theorem d_M_at_73 : decode b_M_at 73 = .ok (.ldc2_w 87, 3) := by decide +kernel
theorem d_M_at_76 : decode b_M_at 76 = .ok (.lcmp, 1) := by decide +kernel
theorem d_M_at_77 : decode b_M_at 77 = .ok (.ifCond .lt 7, 3) := by decide +kernel
theorem d_M_at_80 : decode b_M_at 80 = .ok (.iconst 1, 1) := by decide +kernel
theorem d_M_at_81 : decode b_M_at 81 = .ok (.goto 4, 3) := by decide +kernel
theorem d_M_at_84 : decode b_M_at 84 = .ok (.iconst 0, 1) := by decide +kernel
theorem d_M_at_85 : decode b_M_at 85 = .ok (.istore 6, 2) := by decide +kernel
theorem d_M_at_87 : decode b_M_at 87 = .ok (.aload_n 0, 1) := by decide +kernel
theorem d_M_at_88 : decode b_M_at 88 = .ok (.getfield 32, 3) := by decide +kernel
theorem d_M_at_91 : decode b_M_at 91 = .ok (.iload_n 2, 1) := by decide +kernel
theorem d_M_at_92 : decode b_M_at 92 = .ok (.iload_n 2, 1) := by decide +kernel
theorem d_M_at_93 : decode b_M_at 93 = .ok (.aload_n 0, 1) := by decide +kernel
theorem d_M_at_94 : decode b_M_at 94 = .ok (.getfield 57, 3) := by decide +kernel
theorem d_M_at_97 : decode b_M_at 97 = .ok (.if_icmp .eq 25, 3) := by decide +kernel
theorem d_M_at_100 : decode b_M_at 100 = .ok (.iload 6, 2) := by decide +kernel
theorem d_M_at_102 : decode b_M_at 102 = .ok (.ifCond .eq 11, 3) := by decide +kernel
theorem d_M_at_105 : decode b_M_at 105 = .ok (.iload 5, 2) := by decide +kernel
theorem d_M_at_107 : decode b_M_at 107 = .ok (.ifCond .eq 19, 3) := by decide +kernel
theorem d_M_at_110 : decode b_M_at 110 = .ok (.goto 12, 3) := by decide +kernel
theorem d_M_at_113 : decode b_M_at 113 = .ok (.aload_n 0, 1) := by decide +kernel
theorem d_M_at_114 : decode b_M_at 114 = .ok (.getfield 32, 3) := by decide +kernel
theorem d_M_at_117 : decode b_M_at 117 = .ok (.iload_n 2, 1) := by decide +kernel
theorem d_M_at_118 : decode b_M_at 118 = .ok (.baload, 1) := by decide +kernel
theorem d_M_at_119 : decode b_M_at 119 = .ok (.ifCond .eq 7, 3) := by decide +kernel
theorem d_M_at_122 : decode b_M_at 122 = .ok (.iconst 1, 1) := by decide +kernel
theorem d_M_at_123 : decode b_M_at 123 = .ok (.goto 4, 3) := by decide +kernel
theorem d_M_at_126 : decode b_M_at 126 = .ok (.iconst 0, 1) := by decide +kernel
theorem d_M_at_127 : decode b_M_at 127 = .ok (.bastore, 1) := by decide +kernel
theorem d_M_at_128 : decode b_M_at 128 = .ok (.aload_n 0, 1) := by decide +kernel
theorem d_M_at_129 : decode b_M_at 129 = .ok (.getfield 39, 3) := by decide +kernel
theorem d_M_at_132 : decode b_M_at 132 = .ok (.iload_n 2, 1) := by decide +kernel
theorem d_M_at_133 : decode b_M_at 133 = .ok (.iconst 1, 1) := by decide +kernel
theorem d_M_at_134 : decode b_M_at 134 = .ok (.bastore, 1) := by decide +kernel
theorem d_M_at_135 : decode b_M_at 135 = .ok (.aload_n 0, 1) := by decide +kernel
theorem d_M_at_136 : decode b_M_at 136 = .ok (.getfield 42, 3) := by decide +kernel
theorem d_M_at_139 : decode b_M_at 139 = .ok (.iload_n 2, 1) := by decide +kernel
theorem d_M_at_140 : decode b_M_at 140 = .ok (.lload_n 3, 1) := by decide +kernel
theorem d_M_at_141 : decode b_M_at 141 = .ok (.aload_n 0, 1) := by decide +kernel
theorem d_M_at_142 : decode b_M_at 142 = .ok (.getfield 13, 3) := by decide +kernel
theorem d_M_at_145 : decode b_M_at 145 = .ok (.iload_n 1, 1) := by decide +kernel
theorem d_M_at_146 : decode b_M_at 146 = .ok (.laload, 1) := by decide +kernel
theorem d_M_at_147 : decode b_M_at 147 = .ok (.ladd, 1) := by decide +kernel
theorem d_M_at_148 : decode b_M_at 148 = .ok (.lastore, 1) := by decide +kernel
theorem d_M_at_149 : decode b_M_at 149 = .ok (.aload_n 0, 1) := by decide +kernel
theorem d_M_at_150 : decode b_M_at 150 = .ok (.getfield 32, 3) := by decide +kernel
theorem d_M_at_153 : decode b_M_at 153 = .ok (.iload_n 2, 1) := by decide +kernel
theorem d_M_at_154 : decode b_M_at 154 = .ok (.baload, 1) := by decide +kernel
theorem d_M_at_155 : decode b_M_at 155 = .ok (.ifCond .eq 40, 3) := by decide +kernel
theorem d_M_at_158 : decode b_M_at 158 = .ok (.aload_n 0, 1) := by decide +kernel
theorem d_M_at_159 : decode b_M_at 159 = .ok (.getfield 23, 3) := by decide +kernel
theorem d_M_at_162 : decode b_M_at 162 = .ok (.iload_n 1, 1) := by decide +kernel
theorem d_M_at_163 : decode b_M_at 163 = .ok (.iload_n 2, 1) := by decide +kernel
theorem d_M_at_164 : decode b_M_at 164 = .ok (.iastore, 1) := by decide +kernel
theorem d_M_at_165 : decode b_M_at 165 = .ok (.aload_n 0, 1) := by decide +kernel
theorem d_M_at_166 : decode b_M_at 166 = .ok (.getfield 29, 3) := by decide +kernel
theorem d_M_at_169 : decode b_M_at 169 = .ok (.iload_n 1, 1) := by decide +kernel
theorem d_M_at_170 : decode b_M_at 170 = .ok (.lload_n 3, 1) := by decide +kernel
theorem d_M_at_171 : decode b_M_at 171 = .ok (.lastore, 1) := by decide +kernel
theorem d_M_at_172 : decode b_M_at 172 = .ok (.aload_n 0, 1) := by decide +kernel
theorem d_M_at_173 : decode b_M_at 173 = .ok (.getfield 48, 3) := by decide +kernel
theorem d_M_at_176 : decode b_M_at 176 = .ok (.iload_n 2, 1) := by decide +kernel
theorem d_M_at_177 : decode b_M_at 177 = .ok (.dup2, 1) := by decide +kernel
theorem d_M_at_178 : decode b_M_at 178 = .ok (.iaload, 1) := by decide +kernel
theorem d_M_at_179 : decode b_M_at 179 = .ok (.iconst 1, 1) := by decide +kernel
theorem d_M_at_180 : decode b_M_at 180 = .ok (.iadd, 1) := by decide +kernel
theorem d_M_at_181 : decode b_M_at 181 = .ok (.iastore, 1) := by decide +kernel
theorem d_M_at_182 : decode b_M_at 182 = .ok (.aload_n 0, 1) := by decide +kernel
theorem d_M_at_183 : decode b_M_at 183 = .ok (.getfield 51, 3) := by decide +kernel
theorem d_M_at_186 : decode b_M_at 186 = .ok (.iload_n 2, 1) := by decide +kernel
theorem d_M_at_187 : decode b_M_at 187 = .ok (.dup2, 1) := by decide +kernel
theorem d_M_at_188 : decode b_M_at 188 = .ok (.iaload, 1) := by decide +kernel
theorem d_M_at_189 : decode b_M_at 189 = .ok (.iconst 1, 1) := by decide +kernel
theorem d_M_at_190 : decode b_M_at 190 = .ok (.iadd, 1) := by decide +kernel
theorem d_M_at_191 : decode b_M_at 191 = .ok (.iastore, 1) := by decide +kernel
theorem d_M_at_192 : decode b_M_at 192 = .ok (.goto 13, 3) := by decide +kernel
theorem d_M_at_195 : decode b_M_at 195 = .ok (.aload_n 0, 1) := by decide +kernel
theorem d_M_at_196 : decode b_M_at 196 = .ok (.getfield 20, 3) := by decide +kernel
theorem d_M_at_199 : decode b_M_at 199 = .ok (.iload_n 1, 1) := by decide +kernel
theorem d_M_at_200 : decode b_M_at 200 = .ok (.dup2, 1) := by decide +kernel
theorem d_M_at_201 : decode b_M_at 201 = .ok (.iaload, 1) := by decide +kernel
theorem d_M_at_202 : decode b_M_at 202 = .ok (.iconst 1, 1) := by decide +kernel
theorem d_M_at_203 : decode b_M_at 203 = .ok (.iadd, 1) := by decide +kernel
theorem d_M_at_204 : decode b_M_at 204 = .ok (.iastore, 1) := by decide +kernel
theorem d_M_at_205 : decode b_M_at 205 = .ok (.return_, 1) := by decide +kernel
theorem d_M_pass_0 : decode b_M_pass 0 = .ok (.aload_n 0, 1) := by decide +kernel
theorem d_M_pass_1 : decode b_M_pass 1 = .ok (.lload_n 1, 1) := by decide +kernel
theorem d_M_pass_2 : decode b_M_pass 2 = .ok (.putfield 75, 3) := by decide +kernel
theorem d_M_pass_5 : decode b_M_pass 5 = .ok (.iconst 0, 1) := by decide +kernel
theorem d_M_pass_6 : decode b_M_pass 6 = .ok (.istore_n 3, 1) := by decide +kernel
theorem d_M_pass_7 : decode b_M_pass 7 = .ok (.iload_n 3, 1) := by decide +kernel
theorem d_M_pass_8 : decode b_M_pass 8 = .ok (.aload_n 0, 1) := by decide +kernel
theorem d_M_pass_9 : decode b_M_pass 9 = .ok (.getfield 57, 3) := by decide +kernel
theorem d_M_pass_12 : decode b_M_pass 12 = .ok (.if_icmp .gt 67, 3) := by decide +kernel
theorem d_M_pass_15 : decode b_M_pass 15 = .ok (.iconst 1, 1) := by decide +kernel
theorem d_M_pass_16 : decode b_M_pass 16 = .ok (.istore 4, 2) := by decide +kernel
theorem d_M_pass_18 : decode b_M_pass 18 = .ok (.iload 4, 2) := by decide +kernel
theorem d_M_pass_20 : decode b_M_pass 20 = .ok (.aload_n 0, 1) := by decide +kernel
theorem d_M_pass_21 : decode b_M_pass 21 = .ok (.getfield 64, 3) := by decide +kernel
theorem d_M_pass_24 : decode b_M_pass 24 = .ok (.if_icmp .gt 49, 3) := by decide +kernel
theorem d_M_pass_27 : decode b_M_pass 27 = .ok (.aload_n 0, 1) := by decide +kernel
theorem d_M_pass_28 : decode b_M_pass 28 = .ok (.getfield 23, 3) := by decide +kernel
theorem d_M_pass_31 : decode b_M_pass 31 = .ok (.iload 4, 2) := by decide +kernel
theorem d_M_pass_33 : decode b_M_pass 33 = .ok (.iaload, 1) := by decide +kernel
theorem d_M_pass_34 : decode b_M_pass 34 = .ok (.ifCond .ge 33, 3) := by decide +kernel
theorem d_M_pass_37 : decode b_M_pass 37 = .ok (.aload_n 0, 1) := by decide +kernel
theorem d_M_pass_38 : decode b_M_pass 38 = .ok (.getfield 20, 3) := by decide +kernel
theorem d_M_pass_41 : decode b_M_pass 41 = .ok (.iload 4, 2) := by decide +kernel
theorem d_M_pass_43 : decode b_M_pass 43 = .ok (.iaload, 1) := by decide +kernel
theorem d_M_pass_44 : decode b_M_pass 44 = .ok (.iload_n 3, 1) := by decide +kernel
theorem d_M_pass_45 : decode b_M_pass 45 = .ok (.if_icmp .ne 22, 3) := by decide +kernel
theorem d_M_pass_48 : decode b_M_pass 48 = .ok (.aload_n 0, 1) := by decide +kernel
theorem d_M_pass_49 : decode b_M_pass 49 = .ok (.iload 4, 2) := by decide +kernel
theorem d_M_pass_51 : decode b_M_pass 51 = .ok (.iload_n 3, 1) := by decide +kernel
theorem d_M_pass_52 : decode b_M_pass 52 = .ok (.invokevirtual 83, 3) := by decide +kernel
theorem d_M_pass_55 : decode b_M_pass 55 = .ok (.lload_n 1, 1) := by decide +kernel
theorem d_M_pass_56 : decode b_M_pass 56 = .ok (.lcmp, 1) := by decide +kernel
theorem d_M_pass_57 : decode b_M_pass 57 = .ok (.ifCond .gt 10, 3) := by decide +kernel
theorem d_M_pass_60 : decode b_M_pass 60 = .ok (.aload_n 0, 1) := by decide +kernel
theorem d_M_pass_61 : decode b_M_pass 61 = .ok (.iload 4, 2) := by decide +kernel
theorem d_M_pass_63 : decode b_M_pass 63 = .ok (.iload_n 3, 1) := by decide +kernel
theorem d_M_pass_64 : decode b_M_pass 64 = .ok (.invokevirtual 89, 3) := by decide +kernel
theorem d_M_pass_67 : decode b_M_pass 67 = .ok (.iinc 4 1, 3) := by decide +kernel
theorem d_M_pass_70 : decode b_M_pass 70 = .ok (.goto (-52), 3) := by decide +kernel
theorem d_M_pass_73 : decode b_M_pass 73 = .ok (.iinc 3 1, 3) := by decide +kernel
theorem d_M_pass_76 : decode b_M_pass 76 = .ok (.goto (-69), 3) := by decide +kernel
theorem d_M_pass_79 : decode b_M_pass 79 = .ok (.iconst 1, 1) := by decide +kernel
theorem d_M_pass_80 : decode b_M_pass 80 = .ok (.istore_n 3, 1) := by decide +kernel
theorem d_M_pass_81 : decode b_M_pass 81 = .ok (.iload_n 3, 1) := by decide +kernel
theorem d_M_pass_82 : decode b_M_pass 82 = .ok (.aload_n 0, 1) := by decide +kernel
theorem d_M_pass_83 : decode b_M_pass 83 = .ok (.getfield 64, 3) := by decide +kernel
theorem d_M_pass_86 : decode b_M_pass 86 = .ok (.if_icmp .gt 183, 3) := by decide +kernel
theorem d_M_pass_89 : decode b_M_pass 89 = .ok (.aload_n 0, 1) := by decide +kernel
theorem d_M_pass_90 : decode b_M_pass 90 = .ok (.getfield 23, 3) := by decide +kernel
theorem d_M_pass_93 : decode b_M_pass 93 = .ok (.iload_n 3, 1) := by decide +kernel
theorem d_M_pass_94 : decode b_M_pass 94 = .ok (.iaload, 1) := by decide +kernel
theorem d_M_pass_95 : decode b_M_pass 95 = .ok (.ifCond .ge 7, 3) := by decide +kernel
theorem d_M_pass_98 : decode b_M_pass 98 = .ok (.iconst 1, 1) := by decide +kernel
theorem d_M_pass_99 : decode b_M_pass 99 = .ok (.goto 4, 3) := by decide +kernel
theorem d_M_pass_102 : decode b_M_pass 102 = .ok (.iconst 0, 1) := by decide +kernel
theorem d_M_pass_103 : decode b_M_pass 103 = .ok (.istore 4, 2) := by decide +kernel
theorem d_M_pass_105 : decode b_M_pass 105 = .ok (.iconst 0, 1) := by decide +kernel
theorem d_M_pass_106 : decode b_M_pass 106 = .ok (.istore 5, 2) := by decide +kernel
theorem d_M_pass_108 : decode b_M_pass 108 = .ok (.iload 5, 2) := by decide +kernel
theorem d_M_pass_110 : decode b_M_pass 110 = .ok (.aload_n 0, 1) := by decide +kernel
theorem d_M_pass_111 : decode b_M_pass 111 = .ok (.getfield 93, 3) := by decide +kernel
theorem d_M_pass_114 : decode b_M_pass 114 = .ok (.if_icmp .ge 32, 3) := by decide +kernel
theorem d_M_pass_117 : decode b_M_pass 117 = .ok (.iload 4, 2) := by decide +kernel
theorem d_M_pass_119 : decode b_M_pass 119 = .ok (.ifCond .ne 14, 3) := by decide +kernel
theorem d_M_pass_122 : decode b_M_pass 122 = .ok (.aload_n 0, 1) := by decide +kernel
theorem d_M_pass_123 : decode b_M_pass 123 = .ok (.getfield 54, 3) := by decide +kernel
theorem d_M_pass_126 : decode b_M_pass 126 = .ok (.iload 5, 2) := by decide +kernel
theorem d_M_pass_128 : decode b_M_pass 128 = .ok (.iaload, 1) := by decide +kernel
theorem d_M_pass_129 : decode b_M_pass 129 = .ok (.iload_n 3, 1) := by decide +kernel
theorem d_M_pass_130 : decode b_M_pass 130 = .ok (.if_icmp .ne 7, 3) := by decide +kernel
theorem d_M_pass_133 : decode b_M_pass 133 = .ok (.iconst 1, 1) := by decide +kernel
theorem d_M_pass_134 : decode b_M_pass 134 = .ok (.goto 4, 3) := by decide +kernel
theorem d_M_pass_137 : decode b_M_pass 137 = .ok (.iconst 0, 1) := by decide +kernel
theorem d_M_pass_138 : decode b_M_pass 138 = .ok (.istore 4, 2) := by decide +kernel
theorem d_M_pass_140 : decode b_M_pass 140 = .ok (.iinc 5 1, 3) := by decide +kernel
theorem d_M_pass_143 : decode b_M_pass 143 = .ok (.goto (-35), 3) := by decide +kernel
theorem d_M_pass_146 : decode b_M_pass 146 = .ok (.iload 4, 2) := by decide +kernel
theorem d_M_pass_148 : decode b_M_pass 148 = .ok (.ifCond .ne 115, 3) := by decide +kernel
theorem d_M_pass_151 : decode b_M_pass 151 = .ok (.aload_n 0, 1) := by decide +kernel
theorem d_M_pass_152 : decode b_M_pass 152 = .ok (.getfield 93, 3) := by decide +kernel
theorem d_M_pass_155 : decode b_M_pass 155 = .ok (.istore 5, 2) := by decide +kernel
theorem d_M_pass_157 : decode b_M_pass 157 = .ok (.iload 5, 2) := by decide +kernel
theorem d_M_pass_159 : decode b_M_pass 159 = .ok (.ifCond .le 86, 3) := by decide +kernel
theorem d_M_pass_162 : decode b_M_pass 162 = .ok (.aload_n 0, 1) := by decide +kernel
theorem d_M_pass_163 : decode b_M_pass 163 = .ok (.getfield 29, 3) := by decide +kernel
theorem d_M_pass_166 : decode b_M_pass 166 = .ok (.aload_n 0, 1) := by decide +kernel
theorem d_M_pass_167 : decode b_M_pass 167 = .ok (.getfield 54, 3) := by decide +kernel
theorem d_M_pass_170 : decode b_M_pass 170 = .ok (.iload 5, 2) := by decide +kernel
theorem d_M_pass_172 : decode b_M_pass 172 = .ok (.iconst 1, 1) := by decide +kernel
theorem d_M_pass_173 : decode b_M_pass 173 = .ok (.isub, 1) := by decide +kernel
theorem d_M_pass_174 : decode b_M_pass 174 = .ok (.iaload, 1) := by decide +kernel
theorem d_M_pass_175 : decode b_M_pass 175 = .ok (.laload, 1) := by decide +kernel
theorem d_M_pass_176 : decode b_M_pass 176 = .ok (.aload_n 0, 1) := by decide +kernel
theorem d_M_pass_177 : decode b_M_pass 177 = .ok (.getfield 29, 3) := by decide +kernel
theorem d_M_pass_180 : decode b_M_pass 180 = .ok (.iload_n 3, 1) := by decide +kernel
theorem d_M_pass_181 : decode b_M_pass 181 = .ok (.laload, 1) := by decide +kernel
theorem d_M_pass_182 : decode b_M_pass 182 = .ok (.lcmp, 1) := by decide +kernel
theorem d_M_pass_183 : decode b_M_pass 183 = .ok (.ifCond .gt 40, 3) := by decide +kernel
theorem d_M_pass_186 : decode b_M_pass 186 = .ok (.aload_n 0, 1) := by decide +kernel
theorem d_M_pass_187 : decode b_M_pass 187 = .ok (.getfield 29, 3) := by decide +kernel
theorem d_M_pass_190 : decode b_M_pass 190 = .ok (.aload_n 0, 1) := by decide +kernel
theorem d_M_pass_191 : decode b_M_pass 191 = .ok (.getfield 54, 3) := by decide +kernel
theorem d_M_pass_194 : decode b_M_pass 194 = .ok (.iload 5, 2) := by decide +kernel
theorem d_M_pass_196 : decode b_M_pass 196 = .ok (.iconst 1, 1) := by decide +kernel
theorem d_M_pass_197 : decode b_M_pass 197 = .ok (.isub, 1) := by decide +kernel
theorem d_M_pass_198 : decode b_M_pass 198 = .ok (.iaload, 1) := by decide +kernel
theorem d_M_pass_199 : decode b_M_pass 199 = .ok (.laload, 1) := by decide +kernel
theorem d_M_pass_200 : decode b_M_pass 200 = .ok (.aload_n 0, 1) := by decide +kernel
theorem d_M_pass_201 : decode b_M_pass 201 = .ok (.getfield 29, 3) := by decide +kernel
theorem d_M_pass_204 : decode b_M_pass 204 = .ok (.iload_n 3, 1) := by decide +kernel
theorem d_M_pass_205 : decode b_M_pass 205 = .ok (.laload, 1) := by decide +kernel
theorem d_M_pass_206 : decode b_M_pass 206 = .ok (.lcmp, 1) := by decide +kernel
theorem d_M_pass_207 : decode b_M_pass 207 = .ok (.ifCond .ne 38, 3) := by decide +kernel
theorem d_M_pass_210 : decode b_M_pass 210 = .ok (.aload_n 0, 1) := by decide +kernel
theorem d_M_pass_211 : decode b_M_pass 211 = .ok (.getfield 54, 3) := by decide +kernel
theorem d_M_pass_214 : decode b_M_pass 214 = .ok (.iload 5, 2) := by decide +kernel
theorem d_M_pass_216 : decode b_M_pass 216 = .ok (.iconst 1, 1) := by decide +kernel
theorem d_M_pass_217 : decode b_M_pass 217 = .ok (.isub, 1) := by decide +kernel
theorem d_M_pass_218 : decode b_M_pass 218 = .ok (.iaload, 1) := by decide +kernel
theorem d_M_pass_219 : decode b_M_pass 219 = .ok (.iload_n 3, 1) := by decide +kernel
theorem d_M_pass_220 : decode b_M_pass 220 = .ok (.if_icmp .le 25, 3) := by decide +kernel
theorem d_M_pass_223 : decode b_M_pass 223 = .ok (.aload_n 0, 1) := by decide +kernel
theorem d_M_pass_224 : decode b_M_pass 224 = .ok (.getfield 54, 3) := by decide +kernel
theorem d_M_pass_227 : decode b_M_pass 227 = .ok (.iload 5, 2) := by decide +kernel
theorem d_M_pass_229 : decode b_M_pass 229 = .ok (.aload_n 0, 1) := by decide +kernel
theorem d_M_pass_230 : decode b_M_pass 230 = .ok (.getfield 54, 3) := by decide +kernel
theorem d_M_pass_233 : decode b_M_pass 233 = .ok (.iload 5, 2) := by decide +kernel
theorem d_M_pass_235 : decode b_M_pass 235 = .ok (.iconst 1, 1) := by decide +kernel
theorem d_M_pass_236 : decode b_M_pass 236 = .ok (.isub, 1) := by decide +kernel
theorem d_M_pass_237 : decode b_M_pass 237 = .ok (.iaload, 1) := by decide +kernel
theorem d_M_pass_238 : decode b_M_pass 238 = .ok (.iastore, 1) := by decide +kernel
theorem d_M_pass_239 : decode b_M_pass 239 = .ok (.iinc 5 (-1), 3) := by decide +kernel
theorem d_M_pass_242 : decode b_M_pass 242 = .ok (.goto (-85), 3) := by decide +kernel
theorem d_M_pass_245 : decode b_M_pass 245 = .ok (.aload_n 0, 1) := by decide +kernel
theorem d_M_pass_246 : decode b_M_pass 246 = .ok (.getfield 54, 3) := by decide +kernel
theorem d_M_pass_249 : decode b_M_pass 249 = .ok (.iload 5, 2) := by decide +kernel
theorem d_M_pass_251 : decode b_M_pass 251 = .ok (.iload_n 3, 1) := by decide +kernel
theorem d_M_pass_252 : decode b_M_pass 252 = .ok (.iastore, 1) := by decide +kernel
theorem d_M_pass_253 : decode b_M_pass 253 = .ok (.aload_n 0, 1) := by decide +kernel
theorem d_M_pass_254 : decode b_M_pass 254 = .ok (.dup, 1) := by decide +kernel
theorem d_M_pass_255 : decode b_M_pass 255 = .ok (.getfield 93, 3) := by decide +kernel
theorem d_M_pass_258 : decode b_M_pass 258 = .ok (.iconst 1, 1) := by decide +kernel
theorem d_M_pass_259 : decode b_M_pass 259 = .ok (.iadd, 1) := by decide +kernel
theorem d_M_pass_260 : decode b_M_pass 260 = .ok (.putfield 93, 3) := by decide +kernel
theorem d_M_pass_263 : decode b_M_pass 263 = .ok (.iinc 3 1, 3) := by decide +kernel
theorem d_M_pass_266 : decode b_M_pass 266 = .ok (.goto (-185), 3) := by decide +kernel
theorem d_M_pass_269 : decode b_M_pass 269 = .ok (.return_, 1) := by decide +kernel
end
section
theorem d_M_order_0 : decode b_M_order 0 = .ok (.aload_n 0, 1) := by decide +kernel
theorem d_M_order_1 : decode b_M_order 1 = .ok (.iconst 0, 1) := by decide +kernel
theorem d_M_order_2 : decode b_M_order 2 = .ok (.putfield 61, 3) := by decide +kernel
theorem d_M_order_5 : decode b_M_order 5 = .ok (.aload_n 0, 1) := by decide +kernel
theorem d_M_order_6 : decode b_M_order 6 = .ok (.iload_n 1, 1) := by decide +kernel
theorem d_M_order_7 : decode b_M_order 7 = .ok (.invokevirtual 96, 3) := by decide +kernel
theorem d_M_order_10 : decode b_M_order 10 = .ok (.ifCond .eq 11, 3) := by decide +kernel
theorem d_M_order_13 : decode b_M_order 13 = .ok (.aload_n 0, 1) := by decide +kernel
theorem d_M_order_14 : decode b_M_order 14 = .ok (.iload_n 2, 1) := by decide +kernel
theorem d_M_order_15 : decode b_M_order 15 = .ok (.invokevirtual 100, 3) := by decide +kernel
theorem d_M_order_18 : decode b_M_order 18 = .ok (.ifCond .ne 6, 3) := by decide +kernel
theorem d_M_order_21 : decode b_M_order 21 = .ok (.bipush (-101), 2) := by decide +kernel
theorem d_M_order_23 : decode b_M_order 23 = .ok (.ireturn, 1) := by decide +kernel
theorem d_M_order_24 : decode b_M_order 24 = .ok (.lload_n 3, 1) := by decide +kernel
theorem d_M_order_25 : decode b_M_order 25 = .ok (.aload_n 0, 1) := by decide +kernel
theorem d_M_order_26 : decode b_M_order 26 = .ok (.getfield 75, 3) := by decide +kernel
theorem d_M_order_29 : decode b_M_order 29 = .ok (.ldc2_w 79, 3) := by decide +kernel
theorem d_M_order_32 : decode b_M_order 32 = .ok (.invokestatic 67, 3) := by decide +kernel
theorem d_M_order_35 : decode b_M_order 35 = .ok (.ifCond .ne 6, 3) := by decide +kernel
theorem d_M_order_38 : decode b_M_order 38 = .ok (.bipush (-102), 2) := by decide +kernel
theorem d_M_order_40 : decode b_M_order 40 = .ok (.ireturn, 1) := by decide +kernel
theorem d_M_order_41 : decode b_M_order 41 = .ok (.aload_n 0, 1) := by decide +kernel
theorem d_M_order_42 : decode b_M_order 42 = .ok (.lload_n 3, 1) := by decide +kernel
theorem d_M_order_43 : decode b_M_order 43 = .ok (.invokevirtual 103, 3) := by decide +kernel
theorem d_M_order_46 : decode b_M_order 46 = .ok (.aload_n 0, 1) := by decide +kernel
theorem d_M_order_47 : decode b_M_order 47 = .ok (.getfield 23, 3) := by decide +kernel
theorem d_M_order_50 : decode b_M_order 50 = .ok (.iload_n 1, 1) := by decide +kernel
theorem d_M_order_51 : decode b_M_order 51 = .ok (.iaload, 1) := by decide +kernel
theorem d_M_order_52 : decode b_M_order 52 = .ok (.ifCond .ge 12, 3) := by decide +kernel
theorem d_M_order_55 : decode b_M_order 55 = .ok (.aload_n 0, 1) := by decide +kernel
theorem d_M_order_56 : decode b_M_order 56 = .ok (.getfield 16, 3) := by decide +kernel
theorem d_M_order_59 : decode b_M_order 59 = .ok (.iload_n 1, 1) := by decide +kernel
theorem d_M_order_60 : decode b_M_order 60 = .ok (.iaload, 1) := by decide +kernel
theorem d_M_order_61 : decode b_M_order 61 = .ok (.ifCond .lt 18, 3) := by decide +kernel
theorem d_M_order_64 : decode b_M_order 64 = .ok (.aload_n 0, 1) := by decide +kernel
theorem d_M_order_65 : decode b_M_order 65 = .ok (.getfield 23, 3) := by decide +kernel
theorem d_M_order_68 : decode b_M_order 68 = .ok (.iload_n 1, 1) := by decide +kernel
theorem d_M_order_69 : decode b_M_order 69 = .ok (.iaload, 1) := by decide +kernel
theorem d_M_order_70 : decode b_M_order 70 = .ok (.ifCond .lt 7, 3) := by decide +kernel
theorem d_M_order_73 : decode b_M_order 73 = .ok (.iconst 0, 1) := by decide +kernel
theorem d_M_order_74 : decode b_M_order 74 = .ok (.goto 4, 3) := by decide +kernel
theorem d_M_order_77 : decode b_M_order 77 = .ok (.iconst 2, 1) := by decide +kernel
theorem d_M_order_78 : decode b_M_order 78 = .ok (.ireturn, 1) := by decide +kernel
theorem d_M_order_79 : decode b_M_order 79 = .ok (.lload_n 3, 1) := by decide +kernel
theorem d_M_order_80 : decode b_M_order 80 = .ok (.ldc2_w 87, 3) := by decide +kernel
theorem d_M_order_83 : decode b_M_order 83 = .ok (.ladd, 1) := by decide +kernel
theorem d_M_order_84 : decode b_M_order 84 = .ok (.aload_n 0, 1) := by decide +kernel
theorem d_M_order_85 : decode b_M_order 85 = .ok (.iload_n 1, 1) := by decide +kernel
theorem d_M_order_86 : decode b_M_order 86 = .ok (.iload_n 2, 1) := by decide +kernel
theorem d_M_order_87 : decode b_M_order 87 = .ok (.invokevirtual 83, 3) := by decide +kernel
theorem d_M_order_90 : decode b_M_order 90 = .ok (.lsub, 1) := by decide +kernel
theorem d_M_order_91 : decode b_M_order 91 = .ok (.lstore 5, 2) := by decide +kernel
theorem d_M_order_93 : decode b_M_order 93 = .ok (.lload 5, 2) := by decide +kernel
theorem d_M_order_95 : decode b_M_order 95 = .ok (.lconst 0, 1) := by decide +kernel
theorem d_M_order_96 : decode b_M_order 96 = .ok (.lcmp, 1) := by decide +kernel
theorem d_M_order_97 : decode b_M_order 97 = .ok (.ifCond .le 14, 3) := by decide +kernel
theorem d_M_order_100 : decode b_M_order 100 = .ok (.aload_n 0, 1) := by decide +kernel
theorem d_M_order_101 : decode b_M_order 101 = .ok (.getfield 26, 3) := by decide +kernel
theorem d_M_order_104 : decode b_M_order 104 = .ok (.iload_n 1, 1) := by decide +kernel
theorem d_M_order_105 : decode b_M_order 105 = .ok (.lload 5, 2) := by decide +kernel
theorem d_M_order_107 : decode b_M_order 107 = .ok (.l2i, 1) := by decide +kernel
theorem d_M_order_108 : decode b_M_order 108 = .ok (.iastore, 1) := by decide +kernel
theorem d_M_order_109 : decode b_M_order 109 = .ok (.iconst 0, 1) := by decide +kernel
theorem d_M_order_110 : decode b_M_order 110 = .ok (.ireturn, 1) := by decide +kernel
theorem d_M_order_111 : decode b_M_order 111 = .ok (.aload_n 0, 1) := by decide +kernel
theorem d_M_order_112 : decode b_M_order 112 = .ok (.getfield 16, 3) := by decide +kernel
theorem d_M_order_115 : decode b_M_order 115 = .ok (.iload_n 1, 1) := by decide +kernel
theorem d_M_order_116 : decode b_M_order 116 = .ok (.iload_n 2, 1) := by decide +kernel
theorem d_M_order_117 : decode b_M_order 117 = .ok (.iastore, 1) := by decide +kernel
theorem d_M_order_118 : decode b_M_order 118 = .ok (.iconst 1, 1) := by decide +kernel
theorem d_M_order_119 : decode b_M_order 119 = .ok (.ireturn, 1) := by decide +kernel
theorem d_M_step_0 : decode b_M_step 0 = .ok (.aload_n 0, 1) := by decide +kernel
theorem d_M_step_1 : decode b_M_step 1 = .ok (.iconst 0, 1) := by decide +kernel
theorem d_M_step_2 : decode b_M_step 2 = .ok (.putfield 61, 3) := by decide +kernel
theorem d_M_step_5 : decode b_M_step 5 = .ok (.lload_n 1, 1) := by decide +kernel
theorem d_M_step_6 : decode b_M_step 6 = .ok (.aload_n 0, 1) := by decide +kernel
theorem d_M_step_7 : decode b_M_step 7 = .ok (.getfield 75, 3) := by decide +kernel
theorem d_M_step_10 : decode b_M_step 10 = .ok (.ldc2_w 79, 3) := by decide +kernel
theorem d_M_step_13 : decode b_M_step 13 = .ok (.invokestatic 67, 3) := by decide +kernel
theorem d_M_step_16 : decode b_M_step 16 = .ok (.ifCond .ne 6, 3) := by decide +kernel
theorem d_M_step_19 : decode b_M_step 19 = .ok (.bipush (-102), 2) := by decide +kernel
theorem d_M_step_21 : decode b_M_step 21 = .ok (.ireturn, 1) := by decide +kernel
theorem d_M_step_22 : decode b_M_step 22 = .ok (.aload_n 0, 1) := by decide +kernel
theorem d_M_step_23 : decode b_M_step 23 = .ok (.lload_n 1, 1) := by decide +kernel
theorem d_M_step_24 : decode b_M_step 24 = .ok (.invokevirtual 103, 3) := by decide +kernel
theorem d_M_step_27 : decode b_M_step 27 = .ok (.aload_n 0, 1) := by decide +kernel
theorem d_M_step_28 : decode b_M_step 28 = .ok (.getfield 93, 3) := by decide +kernel
theorem d_M_step_31 : decode b_M_step 31 = .ok (.aload_n 0, 1) := by decide +kernel
theorem d_M_step_32 : decode b_M_step 32 = .ok (.getfield 107, 3) := by decide +kernel
theorem d_M_step_35 : decode b_M_step 35 = .ok (.isub, 1) := by decide +kernel
theorem d_M_step_36 : decode b_M_step 36 = .ok (.istore_n 3, 1) := by decide +kernel
theorem d_M_step_37 : decode b_M_step 37 = .ok (.aload_n 0, 1) := by decide +kernel
theorem d_M_step_38 : decode b_M_step 38 = .ok (.aload_n 0, 1) := by decide +kernel
theorem d_M_step_39 : decode b_M_step 39 = .ok (.getfield 93, 3) := by decide +kernel
theorem d_M_step_42 : decode b_M_step 42 = .ok (.putfield 107, 3) := by decide +kernel
theorem d_M_step_45 : decode b_M_step 45 = .ok (.iload_n 3, 1) := by decide +kernel
theorem d_M_step_46 : decode b_M_step 46 = .ok (.ireturn, 1) := by decide +kernel
theorem d_M_out_0 : decode b_M_out 0 = .ok (.aload_n 0, 1) := by decide +kernel
theorem d_M_out_1 : decode b_M_out 1 = .ok (.iconst 0, 1) := by decide +kernel
theorem d_M_out_2 : decode b_M_out 2 = .ok (.putfield 61, 3) := by decide +kernel
theorem d_M_out_5 : decode b_M_out 5 = .ok (.iload_n 1, 1) := by decide +kernel
theorem d_M_out_6 : decode b_M_out 6 = .ok (.ifCond .lt 11, 3) := by decide +kernel
theorem d_M_out_9 : decode b_M_out 9 = .ok (.iload_n 1, 1) := by decide +kernel
theorem d_M_out_10 : decode b_M_out 10 = .ok (.aload_n 0, 1) := by decide +kernel
theorem d_M_out_11 : decode b_M_out 11 = .ok (.getfield 93, 3) := by decide +kernel
theorem d_M_out_14 : decode b_M_out 14 = .ok (.if_icmp .lt 5, 3) := by decide +kernel
theorem d_M_out_17 : decode b_M_out 17 = .ok (.iconst (-1), 1) := by decide +kernel
theorem d_M_out_18 : decode b_M_out 18 = .ok (.ireturn, 1) := by decide +kernel
theorem d_M_out_19 : decode b_M_out 19 = .ok (.iload_n 2, 1) := by decide +kernel
theorem d_M_out_20 : decode b_M_out 20 = .ok (.ifCond .ne 12, 3) := by decide +kernel
theorem d_M_out_23 : decode b_M_out 23 = .ok (.aload_n 0, 1) := by decide +kernel
theorem d_M_out_24 : decode b_M_out 24 = .ok (.getfield 54, 3) := by decide +kernel
theorem d_M_out_27 : decode b_M_out 27 = .ok (.iload_n 1, 1) := by decide +kernel
theorem d_M_out_28 : decode b_M_out 28 = .ok (.iaload, 1) := by decide +kernel
theorem d_M_out_29 : decode b_M_out 29 = .ok (.goto 43, 3) := by decide +kernel
theorem d_M_out_32 : decode b_M_out 32 = .ok (.iload_n 2, 1) := by decide +kernel
theorem d_M_out_33 : decode b_M_out 33 = .ok (.iconst 1, 1) := by decide +kernel
theorem d_M_out_34 : decode b_M_out 34 = .ok (.if_icmp .ne 17, 3) := by decide +kernel
theorem d_M_out_37 : decode b_M_out 37 = .ok (.aload_n 0, 1) := by decide +kernel
theorem d_M_out_38 : decode b_M_out 38 = .ok (.getfield 23, 3) := by decide +kernel
theorem d_M_out_41 : decode b_M_out 41 = .ok (.aload_n 0, 1) := by decide +kernel
theorem d_M_out_42 : decode b_M_out 42 = .ok (.getfield 54, 3) := by decide +kernel
theorem d_M_out_45 : decode b_M_out 45 = .ok (.iload_n 1, 1) := by decide +kernel
theorem d_M_out_46 : decode b_M_out 46 = .ok (.iaload, 1) := by decide +kernel
theorem d_M_out_47 : decode b_M_out 47 = .ok (.iaload, 1) := by decide +kernel
theorem d_M_out_48 : decode b_M_out 48 = .ok (.goto 24, 3) := by decide +kernel
theorem d_M_out_51 : decode b_M_out 51 = .ok (.iload_n 2, 1) := by decide +kernel
theorem d_M_out_52 : decode b_M_out 52 = .ok (.iconst 2, 1) := by decide +kernel
theorem d_M_out_53 : decode b_M_out 53 = .ok (.if_icmp .ne 18, 3) := by decide +kernel
theorem d_M_out_56 : decode b_M_out 56 = .ok (.aload_n 0, 1) := by decide +kernel
theorem d_M_out_57 : decode b_M_out 57 = .ok (.getfield 29, 3) := by decide +kernel
theorem d_M_out_60 : decode b_M_out 60 = .ok (.aload_n 0, 1) := by decide +kernel
theorem d_M_out_61 : decode b_M_out 61 = .ok (.getfield 54, 3) := by decide +kernel
theorem d_M_out_64 : decode b_M_out 64 = .ok (.iload_n 1, 1) := by decide +kernel
theorem d_M_out_65 : decode b_M_out 65 = .ok (.iaload, 1) := by decide +kernel
theorem d_M_out_66 : decode b_M_out 66 = .ok (.laload, 1) := by decide +kernel
theorem d_M_out_67 : decode b_M_out 67 = .ok (.l2i, 1) := by decide +kernel
theorem d_M_out_68 : decode b_M_out 68 = .ok (.goto 4, 3) := by decide +kernel
theorem d_M_out_71 : decode b_M_out 71 = .ok (.iconst (-1), 1) := by decide +kernel
theorem d_M_out_72 : decode b_M_out 72 = .ok (.ireturn, 1) := by decide +kernel
theorem d_M_height_0 : decode b_M_height 0 = .ok (.aload_n 0, 1) := by decide +kernel
theorem d_M_height_1 : decode b_M_height 1 = .ok (.iconst 0, 1) := by decide +kernel
theorem d_M_height_2 : decode b_M_height 2 = .ok (.putfield 61, 3) := by decide +kernel
theorem d_M_height_5 : decode b_M_height 5 = .ok (.aload_n 0, 1) := by decide +kernel
theorem d_M_height_6 : decode b_M_height 6 = .ok (.iload_n 1, 1) := by decide +kernel
theorem d_M_height_7 : decode b_M_height 7 = .ok (.invokevirtual 100, 3) := by decide +kernel
theorem d_M_height_10 : decode b_M_height 10 = .ok (.ifCond .ne 6, 3) := by decide +kernel
theorem d_M_height_13 : decode b_M_height 13 = .ok (.bipush (-101), 2) := by decide +kernel
theorem d_M_height_15 : decode b_M_height 15 = .ok (.ireturn, 1) := by decide +kernel
theorem d_M_height_16 : decode b_M_height 16 = .ok (.iload_n 2, 1) := by decide +kernel
theorem d_M_height_17 : decode b_M_height 17 = .ok (.i2l, 1) := by decide +kernel
theorem d_M_height_18 : decode b_M_height 18 = .ok (.lconst 1, 1) := by decide +kernel
theorem d_M_height_19 : decode b_M_height 19 = .ok (.ldc2_w 81, 3) := by decide +kernel
theorem d_M_height_22 : decode b_M_height 22 = .ok (.invokestatic 67, 3) := by decide +kernel
theorem d_M_height_25 : decode b_M_height 25 = .ok (.ifCond .ne 6, 3) := by decide +kernel
theorem d_M_height_28 : decode b_M_height 28 = .ok (.bipush (-102), 2) := by decide +kernel
theorem d_M_height_30 : decode b_M_height 30 = .ok (.ireturn, 1) := by decide +kernel
theorem d_M_height_31 : decode b_M_height 31 = .ok (.aload_n 0, 1) := by decide +kernel
theorem d_M_height_32 : decode b_M_height 32 = .ok (.getfield 45, 3) := by decide +kernel
theorem d_M_height_35 : decode b_M_height 35 = .ok (.iload_n 1, 1) := by decide +kernel
theorem d_M_height_36 : decode b_M_height 36 = .ok (.iaload, 1) := by decide +kernel
theorem d_M_height_37 : decode b_M_height 37 = .ok (.istore_n 3, 1) := by decide +kernel
theorem d_M_height_38 : decode b_M_height 38 = .ok (.aload_n 0, 1) := by decide +kernel
theorem d_M_height_39 : decode b_M_height 39 = .ok (.getfield 45, 3) := by decide +kernel
theorem d_M_height_42 : decode b_M_height 42 = .ok (.iload_n 1, 1) := by decide +kernel
theorem d_M_height_43 : decode b_M_height 43 = .ok (.iload_n 2, 1) := by decide +kernel
theorem d_M_height_44 : decode b_M_height 44 = .ok (.iastore, 1) := by decide +kernel
theorem d_M_height_45 : decode b_M_height 45 = .ok (.iload_n 3, 1) := by decide +kernel
theorem d_M_height_46 : decode b_M_height 46 = .ok (.ireturn, 1) := by decide +kernel
theorem d_M_swap_0 : decode b_M_swap 0 = .ok (.aload_n 0, 1) := by decide +kernel
theorem d_M_swap_1 : decode b_M_swap 1 = .ok (.iconst 0, 1) := by decide +kernel
theorem d_M_swap_2 : decode b_M_swap 2 = .ok (.putfield 61, 3) := by decide +kernel
theorem d_M_swap_5 : decode b_M_swap 5 = .ok (.aload_n 0, 1) := by decide +kernel
theorem d_M_swap_6 : decode b_M_swap 6 = .ok (.iload_n 1, 1) := by decide +kernel
theorem d_M_swap_7 : decode b_M_swap 7 = .ok (.invokevirtual 100, 3) := by decide +kernel
theorem d_M_swap_10 : decode b_M_swap 10 = .ok (.ifCond .ne 6, 3) := by decide +kernel
theorem d_M_swap_13 : decode b_M_swap 13 = .ok (.bipush (-101), 2) := by decide +kernel
theorem d_M_swap_15 : decode b_M_swap 15 = .ok (.ireturn, 1) := by decide +kernel
theorem d_M_swap_16 : decode b_M_swap 16 = .ok (.aload_n 0, 1) := by decide +kernel
theorem d_M_swap_17 : decode b_M_swap 17 = .ok (.getfield 48, 3) := by decide +kernel
theorem d_M_swap_20 : decode b_M_swap 20 = .ok (.iload_n 1, 1) := by decide +kernel
theorem d_M_swap_21 : decode b_M_swap 21 = .ok (.iaload, 1) := by decide +kernel
theorem d_M_swap_22 : decode b_M_swap 22 = .ok (.istore_n 2, 1) := by decide +kernel
theorem d_M_swap_23 : decode b_M_swap 23 = .ok (.aload_n 0, 1) := by decide +kernel
theorem d_M_swap_24 : decode b_M_swap 24 = .ok (.getfield 48, 3) := by decide +kernel
theorem d_M_swap_27 : decode b_M_swap 27 = .ok (.iload_n 1, 1) := by decide +kernel
theorem d_M_swap_28 : decode b_M_swap 28 = .ok (.iconst 0, 1) := by decide +kernel
theorem d_M_swap_29 : decode b_M_swap 29 = .ok (.iastore, 1) := by decide +kernel
theorem d_M_swap_30 : decode b_M_swap 30 = .ok (.iload_n 2, 1) := by decide +kernel
theorem d_M_swap_31 : decode b_M_swap 31 = .ok (.ireturn, 1) := by decide +kernel
theorem d_M_stuck_0 : decode b_M_stuck 0 = .ok (.aload_n 0, 1) := by decide +kernel
theorem d_M_stuck_1 : decode b_M_stuck 1 = .ok (.iconst 0, 1) := by decide +kernel
theorem d_M_stuck_2 : decode b_M_stuck 2 = .ok (.putfield 61, 3) := by decide +kernel
theorem d_M_stuck_5 : decode b_M_stuck 5 = .ok (.aload_n 0, 1) := by decide +kernel
theorem d_M_stuck_6 : decode b_M_stuck 6 = .ok (.iload_n 1, 1) := by decide +kernel
theorem d_M_stuck_7 : decode b_M_stuck 7 = .ok (.invokevirtual 100, 3) := by decide +kernel
theorem d_M_stuck_10 : decode b_M_stuck 10 = .ok (.ifCond .ne 6, 3) := by decide +kernel
theorem d_M_stuck_13 : decode b_M_stuck 13 = .ok (.bipush (-101), 2) := by decide +kernel
theorem d_M_stuck_15 : decode b_M_stuck 15 = .ok (.ireturn, 1) := by decide +kernel
theorem d_M_stuck_16 : decode b_M_stuck 16 = .ok (.aload_n 0, 1) := by decide +kernel
theorem d_M_stuck_17 : decode b_M_stuck 17 = .ok (.getfield 36, 3) := by decide +kernel
theorem d_M_stuck_20 : decode b_M_stuck 20 = .ok (.iload_n 1, 1) := by decide +kernel
theorem d_M_stuck_21 : decode b_M_stuck 21 = .ok (.baload, 1) := by decide +kernel
theorem d_M_stuck_22 : decode b_M_stuck 22 = .ok (.istore_n 3, 1) := by decide +kernel
theorem d_M_stuck_23 : decode b_M_stuck 23 = .ok (.aload_n 0, 1) := by decide +kernel
theorem d_M_stuck_24 : decode b_M_stuck 24 = .ok (.getfield 36, 3) := by decide +kernel
theorem d_M_stuck_27 : decode b_M_stuck 27 = .ok (.iload_n 1, 1) := by decide +kernel
theorem d_M_stuck_28 : decode b_M_stuck 28 = .ok (.iload_n 2, 1) := by decide +kernel
theorem d_M_stuck_29 : decode b_M_stuck 29 = .ok (.bastore, 1) := by decide +kernel
theorem d_M_stuck_30 : decode b_M_stuck 30 = .ok (.iload_n 3, 1) := by decide +kernel
theorem d_M_stuck_31 : decode b_M_stuck 31 = .ok (.iload_n 2, 1) := by decide +kernel
theorem d_M_stuck_32 : decode b_M_stuck 32 = .ok (.if_icmp .ne 7, 3) := by decide +kernel
theorem d_M_stuck_35 : decode b_M_stuck 35 = .ok (.iconst 0, 1) := by decide +kernel
theorem d_M_stuck_36 : decode b_M_stuck 36 = .ok (.goto 4, 3) := by decide +kernel
theorem d_M_stuck_39 : decode b_M_stuck 39 = .ok (.iconst 1, 1) := by decide +kernel
theorem d_M_stuck_40 : decode b_M_stuck 40 = .ok (.ireturn, 1) := by decide +kernel
theorem d_M_late_0 : decode b_M_late 0 = .ok (.aload_n 0, 1) := by decide +kernel
theorem d_M_late_1 : decode b_M_late 1 = .ok (.iconst 0, 1) := by decide +kernel
theorem d_M_late_2 : decode b_M_late 2 = .ok (.putfield 61, 3) := by decide +kernel
theorem d_M_late_5 : decode b_M_late 5 = .ok (.aload_n 0, 1) := by decide +kernel
theorem d_M_late_6 : decode b_M_late 6 = .ok (.iload_n 1, 1) := by decide +kernel
theorem d_M_late_7 : decode b_M_late 7 = .ok (.invokevirtual 96, 3) := by decide +kernel
theorem d_M_late_10 : decode b_M_late 10 = .ok (.ifCond .eq 12, 3) := by decide +kernel
theorem d_M_late_13 : decode b_M_late 13 = .ok (.aload_n 0, 1) := by decide +kernel
theorem d_M_late_14 : decode b_M_late 14 = .ok (.getfield 26, 3) := by decide +kernel
theorem d_M_late_17 : decode b_M_late 17 = .ok (.iload_n 1, 1) := by decide +kernel
theorem d_M_late_18 : decode b_M_late 18 = .ok (.iaload, 1) := by decide +kernel
theorem d_M_late_19 : decode b_M_late 19 = .ok (.goto 5, 3) := by decide +kernel
theorem d_M_late_22 : decode b_M_late 22 = .ok (.bipush (-101), 2) := by decide +kernel
theorem d_M_late_24 : decode b_M_late 24 = .ok (.ireturn, 1) := by decide +kernel
theorem d_M_count_0 : decode b_M_count 0 = .ok (.aload_n 0, 1) := by decide +kernel
theorem d_M_count_1 : decode b_M_count 1 = .ok (.iconst 0, 1) := by decide +kernel
theorem d_M_count_2 : decode b_M_count 2 = .ok (.putfield 61, 3) := by decide +kernel
theorem d_M_count_5 : decode b_M_count 5 = .ok (.iload_n 1, 1) := by decide +kernel
theorem d_M_count_6 : decode b_M_count 6 = .ok (.i2l, 1) := by decide +kernel
theorem d_M_count_7 : decode b_M_count 7 = .ok (.lconst 0, 1) := by decide +kernel
theorem d_M_count_8 : decode b_M_count 8 = .ok (.aload_n 0, 1) := by decide +kernel
theorem d_M_count_9 : decode b_M_count 9 = .ok (.getfield 57, 3) := by decide +kernel
theorem d_M_count_12 : decode b_M_count 12 = .ok (.i2l, 1) := by decide +kernel
theorem d_M_count_13 : decode b_M_count 13 = .ok (.invokestatic 67, 3) := by decide +kernel
theorem d_M_count_16 : decode b_M_count 16 = .ok (.ifCond .eq 12, 3) := by decide +kernel
theorem d_M_count_19 : decode b_M_count 19 = .ok (.aload_n 0, 1) := by decide +kernel
theorem d_M_count_20 : decode b_M_count 20 = .ok (.getfield 51, 3) := by decide +kernel
theorem d_M_count_23 : decode b_M_count 23 = .ok (.iload_n 1, 1) := by decide +kernel
theorem d_M_count_24 : decode b_M_count 24 = .ok (.iaload, 1) := by decide +kernel
theorem d_M_count_25 : decode b_M_count 25 = .ok (.goto 5, 3) := by decide +kernel
theorem d_M_count_28 : decode b_M_count 28 = .ok (.bipush (-101), 2) := by decide +kernel
theorem d_M_count_30 : decode b_M_count 30 = .ok (.ireturn, 1) := by decide +kernel
theorem d_M_verify_0 : decode b_M_verify 0 = .ok (.aload_n 0, 1) := by decide +kernel
theorem d_M_verify_1 : decode b_M_verify 1 = .ok (.iconst 0, 1) := by decide +kernel
theorem d_M_verify_2 : decode b_M_verify 2 = .ok (.putfield 61, 3) := by decide +kernel
theorem d_M_verify_5 : decode b_M_verify 5 = .ok (.iconst 0, 1) := by decide +kernel
theorem d_M_verify_6 : decode b_M_verify 6 = .ok (.istore_n 3, 1) := by decide +kernel
theorem d_M_verify_7 : decode b_M_verify 7 = .ok (.iconst 0, 1) := by decide +kernel
theorem d_M_verify_8 : decode b_M_verify 8 = .ok (.istore 4, 2) := by decide +kernel
theorem d_M_verify_10 : decode b_M_verify 10 = .ok (.iload 4, 2) := by decide +kernel
theorem d_M_verify_12 : decode b_M_verify 12 = .ok (.aload_n 0, 1) := by decide +kernel
theorem d_M_verify_13 : decode b_M_verify 13 = .ok (.getfield 93, 3) := by decide +kernel
theorem d_M_verify_16 : decode b_M_verify 16 = .ok (.if_icmp .ge 120, 3) := by decide +kernel
theorem d_M_verify_19 : decode b_M_verify 19 = .ok (.iload_n 1, 1) := by decide +kernel
theorem d_M_verify_20 : decode b_M_verify 20 = .ok (.ifCond .lt 116, 3) := by decide +kernel
theorem d_M_verify_23 : decode b_M_verify 23 = .ok (.aload_n 0, 1) := by decide +kernel
theorem d_M_verify_24 : decode b_M_verify 24 = .ok (.getfield 54, 3) := by decide +kernel
theorem d_M_verify_27 : decode b_M_verify 27 = .ok (.iload 4, 2) := by decide +kernel
theorem d_M_verify_29 : decode b_M_verify 29 = .ok (.iaload, 1) := by decide +kernel
theorem d_M_verify_30 : decode b_M_verify 30 = .ok (.istore 5, 2) := by decide +kernel
theorem d_M_verify_32 : decode b_M_verify 32 = .ok (.aload_n 0, 1) := by decide +kernel
theorem d_M_verify_33 : decode b_M_verify 33 = .ok (.getfield 16, 3) := by decide +kernel
theorem d_M_verify_36 : decode b_M_verify 36 = .ok (.iload 5, 2) := by decide +kernel
theorem d_M_verify_38 : decode b_M_verify 38 = .ok (.iaload, 1) := by decide +kernel
theorem d_M_verify_39 : decode b_M_verify 39 = .ok (.ifCond .lt 24, 3) := by decide +kernel
theorem d_M_verify_42 : decode b_M_verify 42 = .ok (.aload_n 0, 1) := by decide +kernel
theorem d_M_verify_43 : decode b_M_verify 43 = .ok (.getfield 16, 3) := by decide +kernel
theorem d_M_verify_46 : decode b_M_verify 46 = .ok (.iload 5, 2) := by decide +kernel
theorem d_M_verify_48 : decode b_M_verify 48 = .ok (.iaload, 1) := by decide +kernel
theorem d_M_verify_49 : decode b_M_verify 49 = .ok (.aload_n 0, 1) := by decide +kernel
theorem d_M_verify_50 : decode b_M_verify 50 = .ok (.getfield 23, 3) := by decide +kernel
theorem d_M_verify_53 : decode b_M_verify 53 = .ok (.iload 5, 2) := by decide +kernel
theorem d_M_verify_55 : decode b_M_verify 55 = .ok (.iaload, 1) := by decide +kernel
theorem d_M_verify_56 : decode b_M_verify 56 = .ok (.if_icmp .eq 7, 3) := by decide +kernel
theorem d_M_verify_59 : decode b_M_verify 59 = .ok (.iconst 1, 1) := by decide +kernel
theorem d_M_verify_60 : decode b_M_verify 60 = .ok (.goto 4, 3) := by decide +kernel
theorem d_M_verify_63 : decode b_M_verify 63 = .ok (.iconst 0, 1) := by decide +kernel
theorem d_M_verify_64 : decode b_M_verify 64 = .ok (.istore 6, 2) := by decide +kernel
theorem d_M_verify_66 : decode b_M_verify 66 = .ok (.iload 6, 2) := by decide +kernel
theorem d_M_verify_68 : decode b_M_verify 68 = .ok (.ifCond .eq 49, 3) := by decide +kernel
theorem d_M_verify_71 : decode b_M_verify 71 = .ok (.iload_n 3, 1) := by decide +kernel
theorem d_M_verify_72 : decode b_M_verify 72 = .ok (.iload_n 1, 1) := by decide +kernel
theorem d_M_verify_73 : decode b_M_verify 73 = .ok (.if_icmp .ne 44, 3) := by decide +kernel
theorem d_M_verify_76 : decode b_M_verify 76 = .ok (.iload_n 2, 1) := by decide +kernel
theorem d_M_verify_77 : decode b_M_verify 77 = .ok (.ifCond .ne 8, 3) := by decide +kernel
theorem d_M_verify_80 : decode b_M_verify 80 = .ok (.iload 5, 2) := by decide +kernel
theorem d_M_verify_82 : decode b_M_verify 82 = .ok (.goto 34, 3) := by decide +kernel
theorem d_M_verify_85 : decode b_M_verify 85 = .ok (.iload_n 2, 1) := by decide +kernel
theorem d_M_verify_86 : decode b_M_verify 86 = .ok (.iconst 1, 1) := by decide +kernel
theorem d_M_verify_87 : decode b_M_verify 87 = .ok (.if_icmp .ne 13, 3) := by decide +kernel
theorem d_M_verify_90 : decode b_M_verify 90 = .ok (.aload_n 0, 1) := by decide +kernel
theorem d_M_verify_91 : decode b_M_verify 91 = .ok (.getfield 16, 3) := by decide +kernel
theorem d_M_verify_94 : decode b_M_verify 94 = .ok (.iload 5, 2) := by decide +kernel
theorem d_M_verify_96 : decode b_M_verify 96 = .ok (.iaload, 1) := by decide +kernel
theorem d_M_verify_97 : decode b_M_verify 97 = .ok (.goto 19, 3) := by decide +kernel
theorem d_M_verify_100 : decode b_M_verify 100 = .ok (.iload_n 2, 1) := by decide +kernel
theorem d_M_verify_101 : decode b_M_verify 101 = .ok (.iconst 2, 1) := by decide +kernel
theorem d_M_verify_102 : decode b_M_verify 102 = .ok (.if_icmp .ne 13, 3) := by decide +kernel
theorem d_M_verify_105 : decode b_M_verify 105 = .ok (.aload_n 0, 1) := by decide +kernel
theorem d_M_verify_106 : decode b_M_verify 106 = .ok (.getfield 23, 3) := by decide +kernel
theorem d_M_verify_109 : decode b_M_verify 109 = .ok (.iload 5, 2) := by decide +kernel
theorem d_M_verify_111 : decode b_M_verify 111 = .ok (.iaload, 1) := by decide +kernel
theorem d_M_verify_112 : decode b_M_verify 112 = .ok (.goto 4, 3) := by decide +kernel
theorem d_M_verify_115 : decode b_M_verify 115 = .ok (.iconst (-1), 1) := by decide +kernel
theorem d_M_verify_116 : decode b_M_verify 116 = .ok (.ireturn, 1) := by decide +kernel
theorem d_M_verify_117 : decode b_M_verify 117 = .ok (.iload 6, 2) := by decide +kernel
theorem d_M_verify_119 : decode b_M_verify 119 = .ok (.ifCond .eq 9, 3) := by decide +kernel
theorem d_M_verify_122 : decode b_M_verify 122 = .ok (.iload_n 3, 1) := by decide +kernel
theorem d_M_verify_123 : decode b_M_verify 123 = .ok (.iconst 1, 1) := by decide +kernel
theorem d_M_verify_124 : decode b_M_verify 124 = .ok (.iadd, 1) := by decide +kernel
theorem d_M_verify_125 : decode b_M_verify 125 = .ok (.goto 4, 3) := by decide +kernel
theorem d_M_verify_128 : decode b_M_verify 128 = .ok (.iload_n 3, 1) := by decide +kernel
theorem d_M_verify_129 : decode b_M_verify 129 = .ok (.istore_n 3, 1) := by decide +kernel
theorem d_M_verify_130 : decode b_M_verify 130 = .ok (.iinc 4 1, 3) := by decide +kernel
theorem d_M_verify_133 : decode b_M_verify 133 = .ok (.goto (-123), 3) := by decide +kernel
theorem d_M_verify_136 : decode b_M_verify 136 = .ok (.iconst (-1), 1) := by decide +kernel
theorem d_M_verify_137 : decode b_M_verify 137 = .ok (.ireturn, 1) := by decide +kernel
theorem d_L_cell_0 : decode b_L_cell 0 = .ok (.iload_n 1, 1) := by decide +kernel
theorem d_L_cell_1 : decode b_L_cell 1 = .ok (.aload_n 0, 1) := by decide +kernel
theorem d_L_cell_2 : decode b_L_cell 2 = .ok (.arraylength, 1) := by decide +kernel
theorem d_L_cell_3 : decode b_L_cell 3 = .ok (.if_icmp .ge 9, 3) := by decide +kernel
theorem d_L_cell_6 : decode b_L_cell 6 = .ok (.aload_n 0, 1) := by decide +kernel
theorem d_L_cell_7 : decode b_L_cell 7 = .ok (.iload_n 1, 1) := by decide +kernel
theorem d_L_cell_8 : decode b_L_cell 8 = .ok (.iaload, 1) := by decide +kernel
theorem d_L_cell_9 : decode b_L_cell 9 = .ok (.goto 4, 3) := by decide +kernel
theorem d_L_cell_12 : decode b_L_cell 12 = .ok (.iconst 0, 1) := by decide +kernel
theorem d_L_cell_13 : decode b_L_cell 13 = .ok (.ireturn, 1) := by decide +kernel
end
section
theorem d_L_law_0 : decode b_L_law 0 = .ok (.new 7, 3) := by decide +kernel
theorem d_L_law_3 : decode b_L_law 3 = .ok (.dup, 1) := by decide +kernel
theorem d_L_law_4 : decode b_L_law 4 = .ok (.aload_n 0, 1) := by decide +kernel
theorem d_L_law_5 : decode b_L_law 5 = .ok (.iconst 0, 1) := by decide +kernel
theorem d_L_law_6 : decode b_L_law 6 = .ok (.invokestatic 9, 3) := by decide +kernel
theorem d_L_law_9 : decode b_L_law 9 = .ok (.invokespecial 15, 3) := by decide +kernel
theorem d_L_law_12 : decode b_L_law 12 = .ok (.astore_n 1, 1) := by decide +kernel
theorem d_L_law_13 : decode b_L_law 13 = .ok (.new 18, 3) := by decide +kernel
theorem d_L_law_16 : decode b_L_law 16 = .ok (.dup, 1) := by decide +kernel
theorem d_L_law_17 : decode b_L_law 17 = .ok (.aload_n 0, 1) := by decide +kernel
theorem d_L_law_18 : decode b_L_law 18 = .ok (.iconst 0, 1) := by decide +kernel
theorem d_L_law_19 : decode b_L_law 19 = .ok (.invokestatic 9, 3) := by decide +kernel
theorem d_L_law_22 : decode b_L_law 22 = .ok (.invokespecial 20, 3) := by decide +kernel
theorem d_L_law_25 : decode b_L_law 25 = .ok (.astore_n 2, 1) := by decide +kernel
theorem d_L_law_26 : decode b_L_law 26 = .ok (.iconst 1, 1) := by decide +kernel
theorem d_L_law_27 : decode b_L_law 27 = .ok (.istore_n 3, 1) := by decide +kernel
theorem d_L_law_28 : decode b_L_law 28 = .ok (.iload_n 3, 1) := by decide +kernel
theorem d_L_law_29 : decode b_L_law 29 = .ok (.aload_n 0, 1) := by decide +kernel
theorem d_L_law_30 : decode b_L_law 30 = .ok (.arraylength, 1) := by decide +kernel
theorem d_L_law_31 : decode b_L_law 31 = .ok (.iconst 5, 1) := by decide +kernel
theorem d_L_law_32 : decode b_L_law 32 = .ok (.isub, 1) := by decide +kernel
theorem d_L_law_33 : decode b_L_law 33 = .ok (.if_icmp .gt 505, 3) := by decide +kernel
theorem d_L_law_36 : decode b_L_law 36 = .ok (.aload_n 0, 1) := by decide +kernel
theorem d_L_law_37 : decode b_L_law 37 = .ok (.iload_n 3, 1) := by decide +kernel
theorem d_L_law_38 : decode b_L_law 38 = .ok (.iaload, 1) := by decide +kernel
theorem d_L_law_39 : decode b_L_law 39 = .ok (.bipush 15, 2) := by decide +kernel
theorem d_L_law_41 : decode b_L_law 41 = .ok (.iand, 1) := by decide +kernel
theorem d_L_law_42 : decode b_L_law 42 = .ok (.tableswitch 490 0 9 #[54, 147, 220, 273, 306, 339, 362, 411, 434, 457], 54) := by decide +kernel
theorem d_L_law_96 : decode b_L_law 96 = .ok (.aload_n 1, 1) := by decide +kernel
theorem d_L_law_97 : decode b_L_law 97 = .ok (.aload_n 0, 1) := by decide +kernel
theorem d_L_law_98 : decode b_L_law 98 = .ok (.iload_n 3, 1) := by decide +kernel
theorem d_L_law_99 : decode b_L_law 99 = .ok (.iconst 1, 1) := by decide +kernel
theorem d_L_law_100 : decode b_L_law 100 = .ok (.iadd, 1) := by decide +kernel
theorem d_L_law_101 : decode b_L_law 101 = .ok (.iaload, 1) := by decide +kernel
theorem d_L_law_102 : decode b_L_law 102 = .ok (.i2l, 1) := by decide +kernel
theorem d_L_law_103 : decode b_L_law 103 = .ok (.bipush 32, 2) := by decide +kernel
theorem d_L_law_105 : decode b_L_law 105 = .ok (.lshl, 1) := by decide +kernel
theorem d_L_law_106 : decode b_L_law 106 = .ok (.aload_n 0, 1) := by decide +kernel
theorem d_L_law_107 : decode b_L_law 107 = .ok (.iload_n 3, 1) := by decide +kernel
theorem d_L_law_108 : decode b_L_law 108 = .ok (.iconst 2, 1) := by decide +kernel
theorem d_L_law_109 : decode b_L_law 109 = .ok (.iadd, 1) := by decide +kernel
theorem d_L_law_110 : decode b_L_law 110 = .ok (.iaload, 1) := by decide +kernel
theorem d_L_law_111 : decode b_L_law 111 = .ok (.i2l, 1) := by decide +kernel
theorem d_L_law_112 : decode b_L_law 112 = .ok (.ldc2_w 21, 3) := by decide +kernel
theorem d_L_law_115 : decode b_L_law 115 = .ok (.land, 1) := by decide +kernel
theorem d_L_law_116 : decode b_L_law 116 = .ok (.lor, 1) := by decide +kernel
theorem d_L_law_117 : decode b_L_law 117 = .ok (.aload_n 0, 1) := by decide +kernel
theorem d_L_law_118 : decode b_L_law 118 = .ok (.iload_n 3, 1) := by decide +kernel
theorem d_L_law_119 : decode b_L_law 119 = .ok (.iconst 3, 1) := by decide +kernel
theorem d_L_law_120 : decode b_L_law 120 = .ok (.iadd, 1) := by decide +kernel
theorem d_L_law_121 : decode b_L_law 121 = .ok (.iaload, 1) := by decide +kernel
theorem d_L_law_122 : decode b_L_law 122 = .ok (.i2l, 1) := by decide +kernel
theorem d_L_law_123 : decode b_L_law 123 = .ok (.bipush 32, 2) := by decide +kernel
theorem d_L_law_125 : decode b_L_law 125 = .ok (.lshl, 1) := by decide +kernel
theorem d_L_law_126 : decode b_L_law 126 = .ok (.aload_n 0, 1) := by decide +kernel
theorem d_L_law_127 : decode b_L_law 127 = .ok (.iload_n 3, 1) := by decide +kernel
theorem d_L_law_128 : decode b_L_law 128 = .ok (.iconst 4, 1) := by decide +kernel
theorem d_L_law_129 : decode b_L_law 129 = .ok (.iadd, 1) := by decide +kernel
theorem d_L_law_130 : decode b_L_law 130 = .ok (.iaload, 1) := by decide +kernel
theorem d_L_law_131 : decode b_L_law 131 = .ok (.i2l, 1) := by decide +kernel
theorem d_L_law_132 : decode b_L_law 132 = .ok (.ldc2_w 21, 3) := by decide +kernel
theorem d_L_law_135 : decode b_L_law 135 = .ok (.land, 1) := by decide +kernel
theorem d_L_law_136 : decode b_L_law 136 = .ok (.lor, 1) := by decide +kernel
theorem d_L_law_137 : decode b_L_law 137 = .ok (.invokevirtual 23, 3) := by decide +kernel
theorem d_L_law_140 : decode b_L_law 140 = .ok (.aload_n 2, 1) := by decide +kernel
theorem d_L_law_141 : decode b_L_law 141 = .ok (.aload_n 0, 1) := by decide +kernel
theorem d_L_law_142 : decode b_L_law 142 = .ok (.iload_n 3, 1) := by decide +kernel
theorem d_L_law_143 : decode b_L_law 143 = .ok (.iconst 1, 1) := by decide +kernel
theorem d_L_law_144 : decode b_L_law 144 = .ok (.iadd, 1) := by decide +kernel
theorem d_L_law_145 : decode b_L_law 145 = .ok (.iaload, 1) := by decide +kernel
theorem d_L_law_146 : decode b_L_law 146 = .ok (.i2l, 1) := by decide +kernel
theorem d_L_law_147 : decode b_L_law 147 = .ok (.bipush 32, 2) := by decide +kernel
theorem d_L_law_149 : decode b_L_law 149 = .ok (.lshl, 1) := by decide +kernel
theorem d_L_law_150 : decode b_L_law 150 = .ok (.aload_n 0, 1) := by decide +kernel
theorem d_L_law_151 : decode b_L_law 151 = .ok (.iload_n 3, 1) := by decide +kernel
theorem d_L_law_152 : decode b_L_law 152 = .ok (.iconst 2, 1) := by decide +kernel
theorem d_L_law_153 : decode b_L_law 153 = .ok (.iadd, 1) := by decide +kernel
theorem d_L_law_154 : decode b_L_law 154 = .ok (.iaload, 1) := by decide +kernel
theorem d_L_law_155 : decode b_L_law 155 = .ok (.i2l, 1) := by decide +kernel
theorem d_L_law_156 : decode b_L_law 156 = .ok (.ldc2_w 21, 3) := by decide +kernel
theorem d_L_law_159 : decode b_L_law 159 = .ok (.land, 1) := by decide +kernel
theorem d_L_law_160 : decode b_L_law 160 = .ok (.lor, 1) := by decide +kernel
theorem d_L_law_161 : decode b_L_law 161 = .ok (.aload_n 0, 1) := by decide +kernel
theorem d_L_law_162 : decode b_L_law 162 = .ok (.iload_n 3, 1) := by decide +kernel
theorem d_L_law_163 : decode b_L_law 163 = .ok (.iconst 3, 1) := by decide +kernel
theorem d_L_law_164 : decode b_L_law 164 = .ok (.iadd, 1) := by decide +kernel
theorem d_L_law_165 : decode b_L_law 165 = .ok (.iaload, 1) := by decide +kernel
theorem d_L_law_166 : decode b_L_law 166 = .ok (.i2l, 1) := by decide +kernel
theorem d_L_law_167 : decode b_L_law 167 = .ok (.bipush 32, 2) := by decide +kernel
theorem d_L_law_169 : decode b_L_law 169 = .ok (.lshl, 1) := by decide +kernel
theorem d_L_law_170 : decode b_L_law 170 = .ok (.aload_n 0, 1) := by decide +kernel
theorem d_L_law_171 : decode b_L_law 171 = .ok (.iload_n 3, 1) := by decide +kernel
theorem d_L_law_172 : decode b_L_law 172 = .ok (.iconst 4, 1) := by decide +kernel
theorem d_L_law_173 : decode b_L_law 173 = .ok (.iadd, 1) := by decide +kernel
theorem d_L_law_174 : decode b_L_law 174 = .ok (.iaload, 1) := by decide +kernel
theorem d_L_law_175 : decode b_L_law 175 = .ok (.i2l, 1) := by decide +kernel
theorem d_L_law_176 : decode b_L_law 176 = .ok (.ldc2_w 21, 3) := by decide +kernel
theorem d_L_law_179 : decode b_L_law 179 = .ok (.land, 1) := by decide +kernel
theorem d_L_law_180 : decode b_L_law 180 = .ok (.lor, 1) := by decide +kernel
theorem d_L_law_181 : decode b_L_law 181 = .ok (.invokevirtual 27, 3) := by decide +kernel
theorem d_L_law_184 : decode b_L_law 184 = .ok (.if_icmp .eq 348, 3) := by decide +kernel
theorem d_L_law_187 : decode b_L_law 187 = .ok (.iconst 0, 1) := by decide +kernel
theorem d_L_law_188 : decode b_L_law 188 = .ok (.ireturn, 1) := by decide +kernel
theorem d_L_law_189 : decode b_L_law 189 = .ok (.aload_n 1, 1) := by decide +kernel
theorem d_L_law_190 : decode b_L_law 190 = .ok (.aload_n 0, 1) := by decide +kernel
theorem d_L_law_191 : decode b_L_law 191 = .ok (.iload_n 3, 1) := by decide +kernel
theorem d_L_law_192 : decode b_L_law 192 = .ok (.iconst 1, 1) := by decide +kernel
theorem d_L_law_193 : decode b_L_law 193 = .ok (.iadd, 1) := by decide +kernel
theorem d_L_law_194 : decode b_L_law 194 = .ok (.iaload, 1) := by decide +kernel
theorem d_L_law_195 : decode b_L_law 195 = .ok (.aload_n 0, 1) := by decide +kernel
theorem d_L_law_196 : decode b_L_law 196 = .ok (.iload_n 3, 1) := by decide +kernel
theorem d_L_law_197 : decode b_L_law 197 = .ok (.iconst 2, 1) := by decide +kernel
theorem d_L_law_198 : decode b_L_law 198 = .ok (.iadd, 1) := by decide +kernel
theorem d_L_law_199 : decode b_L_law 199 = .ok (.iaload, 1) := by decide +kernel
theorem d_L_law_200 : decode b_L_law 200 = .ok (.aload_n 0, 1) := by decide +kernel
theorem d_L_law_201 : decode b_L_law 201 = .ok (.iload_n 3, 1) := by decide +kernel
theorem d_L_law_202 : decode b_L_law 202 = .ok (.iconst 3, 1) := by decide +kernel
theorem d_L_law_203 : decode b_L_law 203 = .ok (.iadd, 1) := by decide +kernel
theorem d_L_law_204 : decode b_L_law 204 = .ok (.iaload, 1) := by decide +kernel
theorem d_L_law_205 : decode b_L_law 205 = .ok (.i2l, 1) := by decide +kernel
theorem d_L_law_206 : decode b_L_law 206 = .ok (.bipush 32, 2) := by decide +kernel
theorem d_L_law_208 : decode b_L_law 208 = .ok (.lshl, 1) := by decide +kernel
theorem d_L_law_209 : decode b_L_law 209 = .ok (.aload_n 0, 1) := by decide +kernel
theorem d_L_law_210 : decode b_L_law 210 = .ok (.iload_n 3, 1) := by decide +kernel
theorem d_L_law_211 : decode b_L_law 211 = .ok (.iconst 4, 1) := by decide +kernel
theorem d_L_law_212 : decode b_L_law 212 = .ok (.iadd, 1) := by decide +kernel
theorem d_L_law_213 : decode b_L_law 213 = .ok (.iaload, 1) := by decide +kernel
theorem d_L_law_214 : decode b_L_law 214 = .ok (.i2l, 1) := by decide +kernel
theorem d_L_law_215 : decode b_L_law 215 = .ok (.ldc2_w 21, 3) := by decide +kernel
theorem d_L_law_218 : decode b_L_law 218 = .ok (.land, 1) := by decide +kernel
theorem d_L_law_219 : decode b_L_law 219 = .ok (.lor, 1) := by decide +kernel
theorem d_L_law_220 : decode b_L_law 220 = .ok (.invokevirtual 28, 3) := by decide +kernel
theorem d_L_law_223 : decode b_L_law 223 = .ok (.aload_n 2, 1) := by decide +kernel
theorem d_L_law_224 : decode b_L_law 224 = .ok (.aload_n 0, 1) := by decide +kernel
theorem d_L_law_225 : decode b_L_law 225 = .ok (.iload_n 3, 1) := by decide +kernel
theorem d_L_law_226 : decode b_L_law 226 = .ok (.iconst 1, 1) := by decide +kernel
theorem d_L_law_227 : decode b_L_law 227 = .ok (.iadd, 1) := by decide +kernel
theorem d_L_law_228 : decode b_L_law 228 = .ok (.iaload, 1) := by decide +kernel
theorem d_L_law_229 : decode b_L_law 229 = .ok (.aload_n 0, 1) := by decide +kernel
theorem d_L_law_230 : decode b_L_law 230 = .ok (.iload_n 3, 1) := by decide +kernel
theorem d_L_law_231 : decode b_L_law 231 = .ok (.iconst 2, 1) := by decide +kernel
theorem d_L_law_232 : decode b_L_law 232 = .ok (.iadd, 1) := by decide +kernel
theorem d_L_law_233 : decode b_L_law 233 = .ok (.iaload, 1) := by decide +kernel
theorem d_L_law_234 : decode b_L_law 234 = .ok (.aload_n 0, 1) := by decide +kernel
theorem d_L_law_235 : decode b_L_law 235 = .ok (.iload_n 3, 1) := by decide +kernel
theorem d_L_law_236 : decode b_L_law 236 = .ok (.iconst 3, 1) := by decide +kernel
theorem d_L_law_237 : decode b_L_law 237 = .ok (.iadd, 1) := by decide +kernel
theorem d_L_law_238 : decode b_L_law 238 = .ok (.iaload, 1) := by decide +kernel
theorem d_L_law_239 : decode b_L_law 239 = .ok (.i2l, 1) := by decide +kernel
theorem d_L_law_240 : decode b_L_law 240 = .ok (.bipush 32, 2) := by decide +kernel
theorem d_L_law_242 : decode b_L_law 242 = .ok (.lshl, 1) := by decide +kernel
theorem d_L_law_243 : decode b_L_law 243 = .ok (.aload_n 0, 1) := by decide +kernel
theorem d_L_law_244 : decode b_L_law 244 = .ok (.iload_n 3, 1) := by decide +kernel
theorem d_L_law_245 : decode b_L_law 245 = .ok (.iconst 4, 1) := by decide +kernel
theorem d_L_law_246 : decode b_L_law 246 = .ok (.iadd, 1) := by decide +kernel
theorem d_L_law_247 : decode b_L_law 247 = .ok (.iaload, 1) := by decide +kernel
theorem d_L_law_248 : decode b_L_law 248 = .ok (.i2l, 1) := by decide +kernel
theorem d_L_law_249 : decode b_L_law 249 = .ok (.ldc2_w 21, 3) := by decide +kernel
theorem d_L_law_252 : decode b_L_law 252 = .ok (.land, 1) := by decide +kernel
theorem d_L_law_253 : decode b_L_law 253 = .ok (.lor, 1) := by decide +kernel
theorem d_L_law_254 : decode b_L_law 254 = .ok (.invokevirtual 32, 3) := by decide +kernel
theorem d_L_law_257 : decode b_L_law 257 = .ok (.if_icmp .eq 275, 3) := by decide +kernel
theorem d_L_law_260 : decode b_L_law 260 = .ok (.iconst 0, 1) := by decide +kernel
theorem d_L_law_261 : decode b_L_law 261 = .ok (.ireturn, 1) := by decide +kernel
theorem d_L_law_262 : decode b_L_law 262 = .ok (.aload_n 1, 1) := by decide +kernel
theorem d_L_law_263 : decode b_L_law 263 = .ok (.aload_n 0, 1) := by decide +kernel
theorem d_L_law_264 : decode b_L_law 264 = .ok (.iload_n 3, 1) := by decide +kernel
theorem d_L_law_265 : decode b_L_law 265 = .ok (.iconst 1, 1) := by decide +kernel
theorem d_L_law_266 : decode b_L_law 266 = .ok (.iadd, 1) := by decide +kernel
theorem d_L_law_267 : decode b_L_law 267 = .ok (.iaload, 1) := by decide +kernel
theorem d_L_law_268 : decode b_L_law 268 = .ok (.i2l, 1) := by decide +kernel
theorem d_L_law_269 : decode b_L_law 269 = .ok (.bipush 32, 2) := by decide +kernel
theorem d_L_law_271 : decode b_L_law 271 = .ok (.lshl, 1) := by decide +kernel
theorem d_L_law_272 : decode b_L_law 272 = .ok (.aload_n 0, 1) := by decide +kernel
theorem d_L_law_273 : decode b_L_law 273 = .ok (.iload_n 3, 1) := by decide +kernel
theorem d_L_law_274 : decode b_L_law 274 = .ok (.iconst 2, 1) := by decide +kernel
theorem d_L_law_275 : decode b_L_law 275 = .ok (.iadd, 1) := by decide +kernel
theorem d_L_law_276 : decode b_L_law 276 = .ok (.iaload, 1) := by decide +kernel
theorem d_L_law_277 : decode b_L_law 277 = .ok (.i2l, 1) := by decide +kernel
theorem d_L_law_278 : decode b_L_law 278 = .ok (.ldc2_w 21, 3) := by decide +kernel
theorem d_L_law_281 : decode b_L_law 281 = .ok (.land, 1) := by decide +kernel
theorem d_L_law_282 : decode b_L_law 282 = .ok (.lor, 1) := by decide +kernel
theorem d_L_law_283 : decode b_L_law 283 = .ok (.invokevirtual 33, 3) := by decide +kernel
theorem d_L_law_286 : decode b_L_law 286 = .ok (.aload_n 2, 1) := by decide +kernel
theorem d_L_law_287 : decode b_L_law 287 = .ok (.aload_n 0, 1) := by decide +kernel
theorem d_L_law_288 : decode b_L_law 288 = .ok (.iload_n 3, 1) := by decide +kernel
theorem d_L_law_289 : decode b_L_law 289 = .ok (.iconst 1, 1) := by decide +kernel
theorem d_L_law_290 : decode b_L_law 290 = .ok (.iadd, 1) := by decide +kernel
end
section
theorem d_L_law_291 : decode b_L_law 291 = .ok (.iaload, 1) := by decide +kernel
theorem d_L_law_292 : decode b_L_law 292 = .ok (.i2l, 1) := by decide +kernel
theorem d_L_law_293 : decode b_L_law 293 = .ok (.bipush 32, 2) := by decide +kernel
theorem d_L_law_295 : decode b_L_law 295 = .ok (.lshl, 1) := by decide +kernel
theorem d_L_law_296 : decode b_L_law 296 = .ok (.aload_n 0, 1) := by decide +kernel
theorem d_L_law_297 : decode b_L_law 297 = .ok (.iload_n 3, 1) := by decide +kernel
theorem d_L_law_298 : decode b_L_law 298 = .ok (.iconst 2, 1) := by decide +kernel
theorem d_L_law_299 : decode b_L_law 299 = .ok (.iadd, 1) := by decide +kernel
theorem d_L_law_300 : decode b_L_law 300 = .ok (.iaload, 1) := by decide +kernel
theorem d_L_law_301 : decode b_L_law 301 = .ok (.i2l, 1) := by decide +kernel
theorem d_L_law_302 : decode b_L_law 302 = .ok (.ldc2_w 21, 3) := by decide +kernel
theorem d_L_law_305 : decode b_L_law 305 = .ok (.land, 1) := by decide +kernel
theorem d_L_law_306 : decode b_L_law 306 = .ok (.lor, 1) := by decide +kernel
theorem d_L_law_307 : decode b_L_law 307 = .ok (.invokevirtual 37, 3) := by decide +kernel
theorem d_L_law_310 : decode b_L_law 310 = .ok (.if_icmp .eq 222, 3) := by decide +kernel
theorem d_L_law_313 : decode b_L_law 313 = .ok (.iconst 0, 1) := by decide +kernel
theorem d_L_law_314 : decode b_L_law 314 = .ok (.ireturn, 1) := by decide +kernel
theorem d_L_law_315 : decode b_L_law 315 = .ok (.aload_n 1, 1) := by decide +kernel
theorem d_L_law_316 : decode b_L_law 316 = .ok (.aload_n 0, 1) := by decide +kernel
theorem d_L_law_317 : decode b_L_law 317 = .ok (.iload_n 3, 1) := by decide +kernel
theorem d_L_law_318 : decode b_L_law 318 = .ok (.iconst 1, 1) := by decide +kernel
theorem d_L_law_319 : decode b_L_law 319 = .ok (.iadd, 1) := by decide +kernel
theorem d_L_law_320 : decode b_L_law 320 = .ok (.iaload, 1) := by decide +kernel
theorem d_L_law_321 : decode b_L_law 321 = .ok (.aload_n 0, 1) := by decide +kernel
theorem d_L_law_322 : decode b_L_law 322 = .ok (.iload_n 3, 1) := by decide +kernel
theorem d_L_law_323 : decode b_L_law 323 = .ok (.iconst 2, 1) := by decide +kernel
theorem d_L_law_324 : decode b_L_law 324 = .ok (.iadd, 1) := by decide +kernel
theorem d_L_law_325 : decode b_L_law 325 = .ok (.iaload, 1) := by decide +kernel
theorem d_L_law_326 : decode b_L_law 326 = .ok (.invokevirtual 38, 3) := by decide +kernel
theorem d_L_law_329 : decode b_L_law 329 = .ok (.aload_n 2, 1) := by decide +kernel
theorem d_L_law_330 : decode b_L_law 330 = .ok (.aload_n 0, 1) := by decide +kernel
theorem d_L_law_331 : decode b_L_law 331 = .ok (.iload_n 3, 1) := by decide +kernel
theorem d_L_law_332 : decode b_L_law 332 = .ok (.iconst 1, 1) := by decide +kernel
theorem d_L_law_333 : decode b_L_law 333 = .ok (.iadd, 1) := by decide +kernel
theorem d_L_law_334 : decode b_L_law 334 = .ok (.iaload, 1) := by decide +kernel
theorem d_L_law_335 : decode b_L_law 335 = .ok (.aload_n 0, 1) := by decide +kernel
theorem d_L_law_336 : decode b_L_law 336 = .ok (.iload_n 3, 1) := by decide +kernel
theorem d_L_law_337 : decode b_L_law 337 = .ok (.iconst 2, 1) := by decide +kernel
theorem d_L_law_338 : decode b_L_law 338 = .ok (.iadd, 1) := by decide +kernel
theorem d_L_law_339 : decode b_L_law 339 = .ok (.iaload, 1) := by decide +kernel
theorem d_L_law_340 : decode b_L_law 340 = .ok (.invokevirtual 42, 3) := by decide +kernel
theorem d_L_law_343 : decode b_L_law 343 = .ok (.if_icmp .eq 189, 3) := by decide +kernel
theorem d_L_law_346 : decode b_L_law 346 = .ok (.iconst 0, 1) := by decide +kernel
theorem d_L_law_347 : decode b_L_law 347 = .ok (.ireturn, 1) := by decide +kernel
theorem d_L_law_348 : decode b_L_law 348 = .ok (.aload_n 1, 1) := by decide +kernel
theorem d_L_law_349 : decode b_L_law 349 = .ok (.aload_n 0, 1) := by decide +kernel
theorem d_L_law_350 : decode b_L_law 350 = .ok (.iload_n 3, 1) := by decide +kernel
theorem d_L_law_351 : decode b_L_law 351 = .ok (.iconst 1, 1) := by decide +kernel
theorem d_L_law_352 : decode b_L_law 352 = .ok (.iadd, 1) := by decide +kernel
theorem d_L_law_353 : decode b_L_law 353 = .ok (.iaload, 1) := by decide +kernel
theorem d_L_law_354 : decode b_L_law 354 = .ok (.aload_n 0, 1) := by decide +kernel
theorem d_L_law_355 : decode b_L_law 355 = .ok (.iload_n 3, 1) := by decide +kernel
theorem d_L_law_356 : decode b_L_law 356 = .ok (.iconst 2, 1) := by decide +kernel
theorem d_L_law_357 : decode b_L_law 357 = .ok (.iadd, 1) := by decide +kernel
theorem d_L_law_358 : decode b_L_law 358 = .ok (.iaload, 1) := by decide +kernel
theorem d_L_law_359 : decode b_L_law 359 = .ok (.invokevirtual 43, 3) := by decide +kernel
theorem d_L_law_362 : decode b_L_law 362 = .ok (.aload_n 2, 1) := by decide +kernel
theorem d_L_law_363 : decode b_L_law 363 = .ok (.aload_n 0, 1) := by decide +kernel
theorem d_L_law_364 : decode b_L_law 364 = .ok (.iload_n 3, 1) := by decide +kernel
theorem d_L_law_365 : decode b_L_law 365 = .ok (.iconst 1, 1) := by decide +kernel
theorem d_L_law_366 : decode b_L_law 366 = .ok (.iadd, 1) := by decide +kernel
theorem d_L_law_367 : decode b_L_law 367 = .ok (.iaload, 1) := by decide +kernel
theorem d_L_law_368 : decode b_L_law 368 = .ok (.aload_n 0, 1) := by decide +kernel
theorem d_L_law_369 : decode b_L_law 369 = .ok (.iload_n 3, 1) := by decide +kernel
theorem d_L_law_370 : decode b_L_law 370 = .ok (.iconst 2, 1) := by decide +kernel
theorem d_L_law_371 : decode b_L_law 371 = .ok (.iadd, 1) := by decide +kernel
theorem d_L_law_372 : decode b_L_law 372 = .ok (.iaload, 1) := by decide +kernel
theorem d_L_law_373 : decode b_L_law 373 = .ok (.invokevirtual 46, 3) := by decide +kernel
theorem d_L_law_376 : decode b_L_law 376 = .ok (.if_icmp .eq 156, 3) := by decide +kernel
theorem d_L_law_379 : decode b_L_law 379 = .ok (.iconst 0, 1) := by decide +kernel
theorem d_L_law_380 : decode b_L_law 380 = .ok (.ireturn, 1) := by decide +kernel
theorem d_L_law_381 : decode b_L_law 381 = .ok (.aload_n 1, 1) := by decide +kernel
theorem d_L_law_382 : decode b_L_law 382 = .ok (.aload_n 0, 1) := by decide +kernel
theorem d_L_law_383 : decode b_L_law 383 = .ok (.iload_n 3, 1) := by decide +kernel
theorem d_L_law_384 : decode b_L_law 384 = .ok (.iconst 1, 1) := by decide +kernel
theorem d_L_law_385 : decode b_L_law 385 = .ok (.iadd, 1) := by decide +kernel
theorem d_L_law_386 : decode b_L_law 386 = .ok (.iaload, 1) := by decide +kernel
theorem d_L_law_387 : decode b_L_law 387 = .ok (.invokevirtual 47, 3) := by decide +kernel
theorem d_L_law_390 : decode b_L_law 390 = .ok (.aload_n 2, 1) := by decide +kernel
theorem d_L_law_391 : decode b_L_law 391 = .ok (.aload_n 0, 1) := by decide +kernel
theorem d_L_law_392 : decode b_L_law 392 = .ok (.iload_n 3, 1) := by decide +kernel
theorem d_L_law_393 : decode b_L_law 393 = .ok (.iconst 1, 1) := by decide +kernel
theorem d_L_law_394 : decode b_L_law 394 = .ok (.iadd, 1) := by decide +kernel
theorem d_L_law_395 : decode b_L_law 395 = .ok (.iaload, 1) := by decide +kernel
theorem d_L_law_396 : decode b_L_law 396 = .ok (.invokevirtual 51, 3) := by decide +kernel
theorem d_L_law_399 : decode b_L_law 399 = .ok (.if_icmp .eq 133, 3) := by decide +kernel
theorem d_L_law_402 : decode b_L_law 402 = .ok (.iconst 0, 1) := by decide +kernel
theorem d_L_law_403 : decode b_L_law 403 = .ok (.ireturn, 1) := by decide +kernel
theorem d_L_law_404 : decode b_L_law 404 = .ok (.aload_n 1, 1) := by decide +kernel
theorem d_L_law_405 : decode b_L_law 405 = .ok (.aload_n 0, 1) := by decide +kernel
theorem d_L_law_406 : decode b_L_law 406 = .ok (.iload_n 3, 1) := by decide +kernel
theorem d_L_law_407 : decode b_L_law 407 = .ok (.iconst 1, 1) := by decide +kernel
theorem d_L_law_408 : decode b_L_law 408 = .ok (.iadd, 1) := by decide +kernel
theorem d_L_law_409 : decode b_L_law 409 = .ok (.iaload, 1) := by decide +kernel
theorem d_L_law_410 : decode b_L_law 410 = .ok (.aload_n 0, 1) := by decide +kernel
theorem d_L_law_411 : decode b_L_law 411 = .ok (.iload_n 3, 1) := by decide +kernel
theorem d_L_law_412 : decode b_L_law 412 = .ok (.iconst 2, 1) := by decide +kernel
theorem d_L_law_413 : decode b_L_law 413 = .ok (.iadd, 1) := by decide +kernel
theorem d_L_law_414 : decode b_L_law 414 = .ok (.iaload, 1) := by decide +kernel
theorem d_L_law_415 : decode b_L_law 415 = .ok (.ifCond .eq 7, 3) := by decide +kernel
theorem d_L_law_418 : decode b_L_law 418 = .ok (.iconst 1, 1) := by decide +kernel
theorem d_L_law_419 : decode b_L_law 419 = .ok (.goto 4, 3) := by decide +kernel
theorem d_L_law_422 : decode b_L_law 422 = .ok (.iconst 0, 1) := by decide +kernel
theorem d_L_law_423 : decode b_L_law 423 = .ok (.invokevirtual 52, 3) := by decide +kernel
theorem d_L_law_426 : decode b_L_law 426 = .ok (.aload_n 2, 1) := by decide +kernel
theorem d_L_law_427 : decode b_L_law 427 = .ok (.aload_n 0, 1) := by decide +kernel
theorem d_L_law_428 : decode b_L_law 428 = .ok (.iload_n 3, 1) := by decide +kernel
theorem d_L_law_429 : decode b_L_law 429 = .ok (.iconst 1, 1) := by decide +kernel
theorem d_L_law_430 : decode b_L_law 430 = .ok (.iadd, 1) := by decide +kernel
theorem d_L_law_431 : decode b_L_law 431 = .ok (.iaload, 1) := by decide +kernel
theorem d_L_law_432 : decode b_L_law 432 = .ok (.aload_n 0, 1) := by decide +kernel
theorem d_L_law_433 : decode b_L_law 433 = .ok (.iload_n 3, 1) := by decide +kernel
theorem d_L_law_434 : decode b_L_law 434 = .ok (.iconst 2, 1) := by decide +kernel
theorem d_L_law_435 : decode b_L_law 435 = .ok (.iadd, 1) := by decide +kernel
theorem d_L_law_436 : decode b_L_law 436 = .ok (.iaload, 1) := by decide +kernel
theorem d_L_law_437 : decode b_L_law 437 = .ok (.ifCond .eq 7, 3) := by decide +kernel
theorem d_L_law_440 : decode b_L_law 440 = .ok (.iconst 1, 1) := by decide +kernel
theorem d_L_law_441 : decode b_L_law 441 = .ok (.goto 4, 3) := by decide +kernel
theorem d_L_law_444 : decode b_L_law 444 = .ok (.iconst 0, 1) := by decide +kernel
theorem d_L_law_445 : decode b_L_law 445 = .ok (.invokevirtual 56, 3) := by decide +kernel
theorem d_L_law_448 : decode b_L_law 448 = .ok (.if_icmp .eq 84, 3) := by decide +kernel
theorem d_L_law_451 : decode b_L_law 451 = .ok (.iconst 0, 1) := by decide +kernel
theorem d_L_law_452 : decode b_L_law 452 = .ok (.ireturn, 1) := by decide +kernel
theorem d_L_law_453 : decode b_L_law 453 = .ok (.aload_n 1, 1) := by decide +kernel
theorem d_L_law_454 : decode b_L_law 454 = .ok (.aload_n 0, 1) := by decide +kernel
theorem d_L_law_455 : decode b_L_law 455 = .ok (.iload_n 3, 1) := by decide +kernel
theorem d_L_law_456 : decode b_L_law 456 = .ok (.iconst 1, 1) := by decide +kernel
theorem d_L_law_457 : decode b_L_law 457 = .ok (.iadd, 1) := by decide +kernel
theorem d_L_law_458 : decode b_L_law 458 = .ok (.iaload, 1) := by decide +kernel
theorem d_L_law_459 : decode b_L_law 459 = .ok (.invokevirtual 57, 3) := by decide +kernel
theorem d_L_law_462 : decode b_L_law 462 = .ok (.aload_n 2, 1) := by decide +kernel
theorem d_L_law_463 : decode b_L_law 463 = .ok (.aload_n 0, 1) := by decide +kernel
theorem d_L_law_464 : decode b_L_law 464 = .ok (.iload_n 3, 1) := by decide +kernel
theorem d_L_law_465 : decode b_L_law 465 = .ok (.iconst 1, 1) := by decide +kernel
theorem d_L_law_466 : decode b_L_law 466 = .ok (.iadd, 1) := by decide +kernel
theorem d_L_law_467 : decode b_L_law 467 = .ok (.iaload, 1) := by decide +kernel
theorem d_L_law_468 : decode b_L_law 468 = .ok (.invokevirtual 60, 3) := by decide +kernel
theorem d_L_law_471 : decode b_L_law 471 = .ok (.if_icmp .eq 61, 3) := by decide +kernel
theorem d_L_law_474 : decode b_L_law 474 = .ok (.iconst 0, 1) := by decide +kernel
theorem d_L_law_475 : decode b_L_law 475 = .ok (.ireturn, 1) := by decide +kernel
theorem d_L_law_476 : decode b_L_law 476 = .ok (.aload_n 1, 1) := by decide +kernel
theorem d_L_law_477 : decode b_L_law 477 = .ok (.aload_n 0, 1) := by decide +kernel
theorem d_L_law_478 : decode b_L_law 478 = .ok (.iload_n 3, 1) := by decide +kernel
theorem d_L_law_479 : decode b_L_law 479 = .ok (.iconst 1, 1) := by decide +kernel
theorem d_L_law_480 : decode b_L_law 480 = .ok (.iadd, 1) := by decide +kernel
theorem d_L_law_481 : decode b_L_law 481 = .ok (.iaload, 1) := by decide +kernel
theorem d_L_law_482 : decode b_L_law 482 = .ok (.invokevirtual 61, 3) := by decide +kernel
theorem d_L_law_485 : decode b_L_law 485 = .ok (.aload_n 2, 1) := by decide +kernel
theorem d_L_law_486 : decode b_L_law 486 = .ok (.aload_n 0, 1) := by decide +kernel
theorem d_L_law_487 : decode b_L_law 487 = .ok (.iload_n 3, 1) := by decide +kernel
theorem d_L_law_488 : decode b_L_law 488 = .ok (.iconst 1, 1) := by decide +kernel
theorem d_L_law_489 : decode b_L_law 489 = .ok (.iadd, 1) := by decide +kernel
theorem d_L_law_490 : decode b_L_law 490 = .ok (.iaload, 1) := by decide +kernel
theorem d_L_law_491 : decode b_L_law 491 = .ok (.invokevirtual 64, 3) := by decide +kernel
theorem d_L_law_494 : decode b_L_law 494 = .ok (.if_icmp .eq 38, 3) := by decide +kernel
theorem d_L_law_497 : decode b_L_law 497 = .ok (.iconst 0, 1) := by decide +kernel
theorem d_L_law_498 : decode b_L_law 498 = .ok (.ireturn, 1) := by decide +kernel
theorem d_L_law_499 : decode b_L_law 499 = .ok (.aload_n 1, 1) := by decide +kernel
theorem d_L_law_500 : decode b_L_law 500 = .ok (.aload_n 0, 1) := by decide +kernel
theorem d_L_law_501 : decode b_L_law 501 = .ok (.iload_n 3, 1) := by decide +kernel
theorem d_L_law_502 : decode b_L_law 502 = .ok (.iconst 1, 1) := by decide +kernel
theorem d_L_law_503 : decode b_L_law 503 = .ok (.iadd, 1) := by decide +kernel
theorem d_L_law_504 : decode b_L_law 504 = .ok (.iaload, 1) := by decide +kernel
theorem d_L_law_505 : decode b_L_law 505 = .ok (.aload_n 0, 1) := by decide +kernel
theorem d_L_law_506 : decode b_L_law 506 = .ok (.iload_n 3, 1) := by decide +kernel
theorem d_L_law_507 : decode b_L_law 507 = .ok (.iconst 2, 1) := by decide +kernel
theorem d_L_law_508 : decode b_L_law 508 = .ok (.iadd, 1) := by decide +kernel
theorem d_L_law_509 : decode b_L_law 509 = .ok (.iaload, 1) := by decide +kernel
theorem d_L_law_510 : decode b_L_law 510 = .ok (.invokevirtual 65, 3) := by decide +kernel
theorem d_L_law_513 : decode b_L_law 513 = .ok (.aload_n 2, 1) := by decide +kernel
theorem d_L_law_514 : decode b_L_law 514 = .ok (.aload_n 0, 1) := by decide +kernel
theorem d_L_law_515 : decode b_L_law 515 = .ok (.iload_n 3, 1) := by decide +kernel
theorem d_L_law_516 : decode b_L_law 516 = .ok (.iconst 1, 1) := by decide +kernel
theorem d_L_law_517 : decode b_L_law 517 = .ok (.iadd, 1) := by decide +kernel
theorem d_L_law_518 : decode b_L_law 518 = .ok (.iaload, 1) := by decide +kernel
theorem d_L_law_519 : decode b_L_law 519 = .ok (.aload_n 0, 1) := by decide +kernel
theorem d_L_law_520 : decode b_L_law 520 = .ok (.iload_n 3, 1) := by decide +kernel
theorem d_L_law_521 : decode b_L_law 521 = .ok (.iconst 2, 1) := by decide +kernel
theorem d_L_law_522 : decode b_L_law 522 = .ok (.iadd, 1) := by decide +kernel
theorem d_L_law_523 : decode b_L_law 523 = .ok (.iaload, 1) := by decide +kernel
theorem d_L_law_524 : decode b_L_law 524 = .ok (.invokevirtual 68, 3) := by decide +kernel
theorem d_L_law_527 : decode b_L_law 527 = .ok (.if_icmp .eq 5, 3) := by decide +kernel
theorem d_L_law_530 : decode b_L_law 530 = .ok (.iconst 0, 1) := by decide +kernel
theorem d_L_law_531 : decode b_L_law 531 = .ok (.ireturn, 1) := by decide +kernel
theorem d_L_law_532 : decode b_L_law 532 = .ok (.iinc 3 5, 3) := by decide +kernel
theorem d_L_law_535 : decode b_L_law 535 = .ok (.goto (-507), 3) := by decide +kernel
theorem d_L_law_538 : decode b_L_law 538 = .ok (.iconst 1, 1) := by decide +kernel
theorem d_L_law_539 : decode b_L_law 539 = .ok (.ireturn, 1) := by decide +kernel
end
section
/-! BASE: pools by keys; the frame; rows with indices that are numbers. -/
def gt_pl (ad : Nat → Nat) (K : List Nat) (f : Nat → va_E) : va_W := K.map (fun k => (ad k, f k))
theorem gt_pl_get {X : va_W} {ad : Nat → Nat} {K : List Nat} {f : Nat → va_E} {k : Nat} (h : k ∈ K) : ∃ j : Nat, (X ++ gt_pl ad K f)[j]? = some (ad k, f k) := by
  apply List.getElem?_of_mem
  exact List.mem_append_right _ (List.mem_map.mpr ⟨k, h, rfl⟩)
theorem gt_pl_at {X : va_W} {ad : Nat → Nat} {K : List Nat} {f : Nat → va_E} {i b : Nat} (hb : K[i]? = some b) : (X ++ gt_pl ad K f)[X.length + i]? = some (ad b, f b) := by
  rw [List.getElem?_append_right (by omega), Nat.add_sub_cancel_left]
  simp only [gt_pl, List.getElem?_map, hb]
  rfl
theorem gt_pl_set {A : Nat → Prop} {X : va_W} {ad : Nat → Nat} {K : List Nat} {f : Nat → va_E} {k j : Nat} {e : va_E} (hD : va_D A (X ++ gt_pl ad K f)) (h : k ∈ K) (hj : (X ++ gt_pl ad K f)[j]? = some (ad k, f k)) : (X ++ gt_pl ad K f).set j (ad k, e) = X ++ gt_pl ad K (va_up f k e) := by
  have hl := (List.getElem?_eq_some_iff.mp hj).1
  obtain ⟨i0, hi0⟩ := List.getElem?_of_mem h
  have hji : j = X.length + i0 := hD.1 j (X.length + i0) _ _ hj (gt_pl_at hi0) rfl
  apply List.ext_getElem?
  intro q
  by_cases hq : q = j
  · subst hq
    rw [List.getElem?_set_self hl, List.getElem?_append_right (by omega), show q - X.length = i0 by omega]
    simp only [gt_pl, List.getElem?_map, hi0, Option.map_some, va_up_self]
  · rw [List.getElem?_set_ne (Ne.symm hq)]
    by_cases hx : q < X.length
    · rw [List.getElem?_append_left hx, List.getElem?_append_left hx]
    · rw [List.getElem?_append_right (by omega), List.getElem?_append_right (by omega)]
      simp only [gt_pl, List.getElem?_map]
      cases hb : K[q - X.length]? with
      | none => rfl
      | some b =>
        have hbk : b ≠ k := by
          intro e
          subst e
          have h2 := gt_pl_at (X := X) (ad := ad) (f := f) hb
          rw [show X.length + (q - X.length) = q by omega] at h2
          exact hq (hD.1 q j _ _ h2 hj rfl)
        simp [va_up_ne _ _ hbk]
theorem gt_pl_push {ad : Nat → Nat} {K : List Nat} {f : Nat → va_E} {k q : Nat} {e : va_E} (h : k ∉ K) : gt_pl ad K f ++ [(q, e)] = gt_pl (va_up ad k q) (K ++ [k]) (va_up f k e) := by
  simp only [gt_pl, List.map_append, List.map_cons, List.map_nil, va_up_self]
  congr 1
  apply List.map_congr_left
  intro b hb
  have : b ≠ k := fun z => h (z ▸ hb)
  rw [va_up_ne _ _ this, va_up_ne _ _ this]
theorem gt_pl_one {D : va_G} {cl : List vw_C} {X : va_W} {ad : Nat → Nat} {K : List Nat} {f : Nat → va_E} {H : Heap} {k : Nat} {e : va_E} (hP : va_P D cl (X ++ gt_pl ad K f) H) (h : k ∈ K) (he : f k = e) : va_P D cl [(ad k, e)] H := by
  obtain ⟨j, hj⟩ := gt_pl_get (X := X) (ad := ad) (f := f) h
  intro i q hi
  have hz : i < 1 := (List.getElem?_eq_some_iff.mp hi).1
  rw [show i = 0 by omega] at hi
  cases hi
  rw [← he]
  exact hP j _ hj
theorem gt_D1 {A : Nat → Prop} {a : Nat} {e : va_E} (h : A a) : va_D A [(a, e)] := by
  refine ⟨fun i j p q hi hj _ => ?_, fun k q hk => ?_⟩
  · have h1 : i < 1 := (List.getElem?_eq_some_iff.mp hi).1
    have h2 : j < 1 := (List.getElem?_eq_some_iff.mp hj).1
    omega
  · have h1 : k < 1 := (List.getElem?_eq_some_iff.mp hk).1
    rw [show k = 0 by omega] at hk
    cases hk
    exact h
theorem gt_pl_free {A0 : Nat → Prop} {X : va_W} {ad : Nat → Nat} {K : List Nat} {f : Nat → va_E} {H0 H : Heap} {locs : List Loc} {k : Nat} {e : va_E} (hD : va_D A0 (X ++ gt_pl ad K f)) (hS : va_S A0 H0 H locs) (hA : ∀ q, H0.size ≤ q → A0 q) (h : k ∈ K) : ∀ q, va_A [(ad k, e)] H.size q → A0 q := by
  intro q hq
  rcases hq with ⟨i, e2, hi⟩ | hq
  · have h1 : i < 1 := (List.getElem?_eq_some_iff.mp hi).1
    rw [show i = 0 by omega] at hi
    cases hi
    obtain ⟨j, hj⟩ := gt_pl_get (X := X) (ad := ad) (f := f) h
    exact hD.2 j _ hj
  · exact hA q (Nat.le_trans hS.1 hq)
/-- behind a call that had one pooled cell -/
theorem gt_join1 {A0 : Nat → Prop} {D : va_G} {cl : List vw_C} {X : va_W} {ad : Nat → Nat} {K : List Nat} {f : Nat → va_E} {H H1 : Heap} {k : Nat} {e e' : va_E} (hP : va_P D cl (X ++ gt_pl ad K f) H) (hD : va_D A0 (X ++ gt_pl ad K f)) (h : k ∈ K)
    (hk : ∀ q : Nat, q < H.size → ¬ va_A [(ad k, e)] H.size q → H1[q]? = H[q]?) (hP1 : va_P D cl [(ad k, e')] H1) : va_P D cl (X ++ gt_pl ad K (va_up f k e')) H1 ∧ va_D A0 (X ++ gt_pl ad K (va_up f k e')) := by
  obtain ⟨j, hj⟩ := gt_pl_get (X := X) (ad := ad) (f := f) h
  rw [← gt_pl_set hD h hj]
  have hl := (List.getElem?_eq_some_iff.mp hj).1
  refine ⟨fun i q hi => ?_, hD.set hj⟩
  by_cases hij : i = j
  · subst hij
    rw [List.getElem?_set_self hl] at hi
    cases hi
    exact hP1 0 _ rfl
  · rw [List.getElem?_set_ne (Ne.symm hij)] at hi
    have hlt := (hP i q hi).lt
    refine (hP i q hi).kept (hk q.1 hlt fun hz => ?_)
    rcases hz with ⟨i2, e2, h2⟩ | hz
    · have h1 : i2 < 1 := (List.getElem?_eq_some_iff.mp h2).1
      rw [show i2 = 0 by omega] at h2
      have h3 : ad k = q.1 := congrArg Prod.fst (Option.some.inj h2)
      exact hij (hD.1 i j q _ hi hj h3.symm)
    · omega
theorem gt_D_tail {A0 : Nat → Prop} {w1 w2 : va_W} (hD : va_D A0 (w1 ++ w2)) : va_D A0 w2 :=
  hD.by (fun k => w1.length + k) (fun k q hk => by rw [List.getElem?_append_right (by omega), Nat.add_sub_cancel_left]; exact hk) (fun i j _ _ e => by omega)
theorem gt_D_head {A0 : Nat → Prop} {w1 w2 : va_W} (hD : va_D A0 (w1 ++ w2)) : va_D A0 w1 :=
  hD.by id (fun k q hk => by show (w1 ++ w2)[k]? = some q; rw [List.getElem?_append_left (List.getElem?_eq_some_iff.mp hk).1]; exact hk) (fun i j _ _ e => e)
theorem gt_P_tail {D : va_G} {cl : List vw_C} {w1 w2 : va_W} {H : Heap} (hP : va_P D cl (w1 ++ w2) H) : va_P D cl w2 H :=
  hP.by (fun k => w1.length + k) (fun k q hk => by rw [List.getElem?_append_right (by omega), Nat.add_sub_cancel_left]; exact hk)
theorem gt_P_head {D : va_G} {cl : List vw_C} {w1 w2 : va_W} {H : Heap} (hP : va_P D cl (w1 ++ w2) H) : va_P D cl w1 H :=
  hP.by id (fun k q hk => by show (w1 ++ w2)[k]? = some q; rw [List.getElem?_append_left (List.getElem?_eq_some_iff.mp hk).1]; exact hk)
theorem gt_freeL {A0 : Nat → Prop} {w1 w2 : va_W} {H0 H : Heap} {locs : List Loc} (hD : va_D A0 (w1 ++ w2)) (hS : va_S A0 H0 H locs) (hA : ∀ q, H0.size ≤ q → A0 q) : ∀ q, va_A w1 H.size q → A0 q := by
  intro q hq
  rcases hq with ⟨i, e, hi⟩ | hq
  · exact (gt_D_head hD).2 i _ hi
  · exact hA q (Nat.le_trans hS.1 hq)
theorem gt_freeR {A0 : Nat → Prop} {w1 w2 : va_W} {H0 H : Heap} {locs : List Loc} (hD : va_D A0 (w1 ++ w2)) (hS : va_S A0 H0 H locs) (hA : ∀ q, H0.size ≤ q → A0 q) : ∀ q, va_A w2 H.size q → A0 q := by
  intro q hq
  rcases hq with ⟨i, e, hi⟩ | hq
  · exact (gt_D_tail hD).2 i _ hi
  · exact hA q (Nat.le_trans hS.1 hq)
theorem gt_out {A0 : Nat → Prop} {D : va_G} {cl : List vw_C} {w1 w2 : va_W} {H : Heap} (hP : va_P D cl (w1 ++ w2) H) (hD : va_D A0 (w1 ++ w2)) : (∀ (k : Nat) (q : Nat × va_E), w2[k]? = some q → q.1 < H.size ∧ ¬ va_A w1 H.size q.1) ∧ ∀ (k : Nat) (q : Nat × va_E), w1[k]? = some q → q.1 < H.size ∧ ¬ va_A w2 H.size q.1 := by
  have e1 : ∀ (k : Nat) (q : Nat × va_E), w1[k]? = some q → (w1 ++ w2)[k]? = some q ∧ k < w1.length := fun k q hk => ⟨by rw [List.getElem?_append_left (List.getElem?_eq_some_iff.mp hk).1]; exact hk, (List.getElem?_eq_some_iff.mp hk).1⟩
  have e2 : ∀ (k : Nat) (q : Nat × va_E), w2[k]? = some q → (w1 ++ w2)[w1.length + k]? = some q := fun k q hk => by rw [List.getElem?_append_right (by omega), Nat.add_sub_cancel_left]; exact hk
  refine ⟨fun k q hk => ⟨(gt_P_tail hP k q hk).lt, fun hz => ?_⟩, fun k q hk => ⟨(gt_P_head hP k q hk).lt, fun hz => ?_⟩⟩
  · rcases hz with ⟨i, e, hi⟩ | hz
    · obtain ⟨g1, g2⟩ := e1 i _ hi
      have := hD.1 i (w1.length + k) _ q g1 (e2 k q hk) rfl
      omega
    · have := (gt_P_tail hP k q hk).lt
      omega
  · rcases hz with ⟨i, e, hi⟩ | hz
    · obtain ⟨g1, g2⟩ := e1 k q hk
      have := hD.1 k (w1.length + i) q _ g1 (e2 i _ hi) rfl
      omega
    · have := (gt_P_head hP k q hk).lt
      omega
/-- behind a call that had the first part of the world; .. the second -/
theorem gt_joinL {A0 : Nat → Prop} {D : va_G} {cl : List vw_C} {w1 w2 w3 : va_W} {H H1 : Heap} (hP : va_P D cl (w1 ++ w2) H) (hD : va_D A0 (w1 ++ w2)) (hk : ∀ q : Nat, q < H.size → ¬ va_A w1 H.size q → H1[q]? = H[q]?) (hF : ∀ q, va_A w1 H.size q → A0 q) (hP1 : va_P D cl w3 H1) (hD1 : va_D (va_A w1 H.size) w3) : va_P D cl (w3 ++ w2) H1 ∧ va_D A0 (w3 ++ w2) := by
  have ap := (gt_out hP hD).1
  refine ⟨va_P.app hP1 (fun k q hq => (gt_P_tail hP k q hq).kept (hk q.1 (ap k q hq).1 (ap k q hq).2)), va_D.app (hD1.weaken (fun k q _ h => hF q.1 h)) (gt_D_tail hD) (fun i j x y hx hy hxy => ?_)⟩
  exact (ap j y hy).2 (by rw [← hxy]; exact hD1.2 i x hx)
theorem gt_joinR {A0 : Nat → Prop} {D : va_G} {cl : List vw_C} {w1 w2 w3 : va_W} {H H1 : Heap} (hP : va_P D cl (w1 ++ w2) H) (hD : va_D A0 (w1 ++ w2)) (hk : ∀ q : Nat, q < H.size → ¬ va_A w2 H.size q → H1[q]? = H[q]?) (hF : ∀ q, va_A w2 H.size q → A0 q) (hP1 : va_P D cl w3 H1) (hD1 : va_D (va_A w2 H.size) w3) : va_P D cl (w1 ++ w3) H1 ∧ va_D A0 (w1 ++ w3) := by
  have ap := (gt_out hP hD).2
  refine ⟨va_P.app (fun k q hq => (gt_P_head hP k q hq).kept (hk q.1 (ap k q hq).1 (ap k q hq).2)) hP1, va_D.app (gt_D_head hD) (hD1.weaken (fun k q _ h => hF q.1 h)) (fun i j x y hx hy hxy => ?_)⟩
  exact (ap i x hx).2 (by rw [hxy]; exact hD1.2 j y hy)
theorem gt_bool {x : Int32} (h : x = 0 ∨ x = 1) : narrow .boolean (.int x) = .int x ∧ fits .boolean (.int x) = true ∧ vp_nar .boolean x = x := by
  rcases h with rfl | rfl <;> exact ⟨by decide, by decide, by decide⟩
section GB
variable {p : Program} {l : Launch} {e : Env} {R : Room} {s : State} {m : MethodId} {args : Array Value} {below : List Frame} {meth : Method} {c : Code} {H : Heap} {locs : List Loc} {cells slots : Nat} {Q : State → Prop}
variable {cc : ByteArray} {pc : Nat} {ls : Array Slot} {rest : List Value} {D : va_G} {cl : List vw_C} {A : Nat → Prop} {a : Nat} {tys : List (ClassId × FieldType)} {ws : va_W} {H0 : Heap}
theorem gt_iald (hexec : p.tables.exec = Jvm.exec) (hb : c.code = cc) (hK : va_K D cl tys s) (hP : va_P D cl ws H) (q0 t0 : Nat) {cA : ClassId} {n : Nat} {f : Nat → Int32} (ha : ws[q0]? = some (a, .inl (cA, n, .inl f))) (ht : tys[t0]? = some (cA, .int)) {k : Nat} (hk : k < n) (hn : n < 2 ^ 31) (hdg : decode cc pc = .ok (.iaload, 1))
    (kk : W p l e R s m args below meth c H locs cells slots Q (F0 m (pc + 1) ls (.int (f k) :: rest))) : W p l e R s m args below meth c H locs cells slots Q (F0 m pc ls (.int (nI k) :: .ref a :: rest)) :=
  va_iald hexec hb hK hP q0 t0 ha ht (vp_in_nI hk hn) hdg (by rw [nI_clamp (by omega)]; exact kk)
theorem gt_lald (hexec : p.tables.exec = Jvm.exec) (hb : c.code = cc) (hK : va_K D cl tys s) (hP : va_P D cl ws H) (q0 t0 : Nat) {cA : ClassId} {n : Nat} {f : Nat → Int64} (ha : ws[q0]? = some (a, .inl (cA, n, .inr (.inl f)))) (ht : tys[t0]? = some (cA, .long)) {k : Nat} (hk : k < n) (hn : n < 2 ^ 31) (hdg : decode cc pc = .ok (.laload, 1))
    (kk : W p l e R s m args below meth c H locs cells slots Q (F0 m (pc + 1) ls (.long (f k) :: rest))) : W p l e R s m args below meth c H locs cells slots Q (F0 m pc ls (.int (nI k) :: .ref a :: rest)) :=
  va_lald hexec hb hK hP q0 t0 ha ht (vp_in_nI hk hn) hdg (by rw [nI_clamp (by omega)]; exact kk)
theorem gt_zald (hexec : p.tables.exec = Jvm.exec) (hb : c.code = cc) (hK : va_K D cl tys s) (hP : va_P D cl ws H) (q0 t0 : Nat) {cA : ClassId} {n : Nat} {f : Nat → Int32} (ha : ws[q0]? = some (a, .inl (cA, n, .inl f))) (ht : tys[t0]? = some (cA, .boolean)) {k : Nat} (hk : k < n) (hn : n < 2 ^ 31) (hdg : decode cc pc = .ok (.baload, 1))
    (kk : W p l e R s m args below meth c H locs cells slots Q (F0 m (pc + 1) ls (.int (f k) :: rest))) : W p l e R s m args below meth c H locs cells slots Q (F0 m pc ls (.int (nI k) :: .ref a :: rest)) :=
  va_zald hexec hb hK hP q0 t0 ha ht (vp_in_nI hk hn) hdg (by rw [nI_clamp (by omega)]; exact kk)
theorem gt_qald (hexec : p.tables.exec = Jvm.exec) (hb : c.code = cc) (hK : va_K D cl tys s) (hP : va_P D cl ws H) (q0 t0 : Nat) {cA : ClassId} {C : String} {n b : Nat} {f : Nat → Option Nat} (ha : ws[q0]? = some (a, .inl (cA, n, .inr (.inr (.inr (.inr f)))))) (ht : tys[t0]? = some (cA, .object C)) {k : Nat} (hk : k < n) (hn : n < 2 ^ 31) (hf : f k = some b) (hdg : decode cc pc = .ok (.aaload, 1))
    (kk : W p l e R s m args below meth c H locs cells slots Q (F0 m (pc + 1) ls (.ref b :: rest))) : W p l e R s m args below meth c H locs cells slots Q (F0 m pc ls (.int (nI k) :: .ref a :: rest)) :=
  va_aldq hexec hb hK hP q0 t0 ha ht (vp_in_nI hk hn) hdg (by rw [nI_clamp (by omega), hf]; exact kk)
theorem gt_iast (hexec : p.tables.exec = Jvm.exec) (hb : c.code = cc) (hK : va_K D cl tys s) (hP : va_P D cl ws H) (hD : va_D A ws) (hS : va_S A H0 H locs) (q0 t0 : Nat) {cA : ClassId} {n : Nat} {f : Nat → Int32} (ha : ws[q0]? = some (a, .inl (cA, n, .inl f))) (ht : tys[t0]? = some (cA, .int)) {k : Nat} {x : Int32} (hk : k < n) (hn : n < 2 ^ 31) (hdg : decode cc pc = .ok (.iastore, 1))
    (kk : ∀ (H1 : Heap) (locs1 : List Loc), va_P D cl (ws.set q0 (a, .inl (cA, n, .inl (upd f k x)))) H1 → va_D A (ws.set q0 (a, .inl (cA, n, .inl (upd f k x)))) → va_S A H0 H1 locs1 → W p l e R s m args below meth c H1 locs1 cells slots Q (F0 m (pc + 1) ls rest)) : W p l e R s m args below meth c H locs cells slots Q (F0 m pc ls (.int x :: .int (nI k) :: .ref a :: rest)) := by
  refine va_iast hexec hb hK hP hD hS q0 t0 ha ht (vp_in_nI hk hn) hdg (fun H1 locs1 h1 h2 h3 => ?_)
  rw [nI_clamp (by omega)] at h1 h2
  exact kk H1 locs1 h1 h2 h3
theorem gt_last (hexec : p.tables.exec = Jvm.exec) (hb : c.code = cc) (hK : va_K D cl tys s) (hP : va_P D cl ws H) (hD : va_D A ws) (hS : va_S A H0 H locs) (q0 t0 : Nat) {cA : ClassId} {n : Nat} {f : Nat → Int64} (ha : ws[q0]? = some (a, .inl (cA, n, .inr (.inl f)))) (ht : tys[t0]? = some (cA, .long)) {k : Nat} {x : Int64} (hk : k < n) (hn : n < 2 ^ 31) (hdg : decode cc pc = .ok (.lastore, 1))
    (kk : ∀ (H1 : Heap) (locs1 : List Loc), va_P D cl (ws.set q0 (a, .inl (cA, n, .inr (.inl (vp_updL f k x))))) H1 → va_D A (ws.set q0 (a, .inl (cA, n, .inr (.inl (vp_updL f k x))))) → va_S A H0 H1 locs1 → W p l e R s m args below meth c H1 locs1 cells slots Q (F0 m (pc + 1) ls rest)) : W p l e R s m args below meth c H locs cells slots Q (F0 m pc ls (.long x :: .int (nI k) :: .ref a :: rest)) := by
  refine va_last hexec hb hK hP hD hS q0 t0 ha ht (vp_in_nI hk hn) hdg (fun H1 locs1 h1 h2 h3 => ?_)
  rw [nI_clamp (by omega)] at h1 h2
  exact kk H1 locs1 h1 h2 h3
theorem gt_zast (hexec : p.tables.exec = Jvm.exec) (hb : c.code = cc) (hK : va_K D cl tys s) (hP : va_P D cl ws H) (hD : va_D A ws) (hS : va_S A H0 H locs) (q0 t0 : Nat) {cA : ClassId} {n : Nat} {f : Nat → Int32} (ha : ws[q0]? = some (a, .inl (cA, n, .inl f))) (ht : tys[t0]? = some (cA, .boolean)) {k : Nat} {x : Int32} (hk : k < n) (hn : n < 2 ^ 31) (hx : x = 0 ∨ x = 1) (hdg : decode cc pc = .ok (.bastore, 1))
    (kk : ∀ (H1 : Heap) (locs1 : List Loc), va_P D cl (ws.set q0 (a, .inl (cA, n, .inl (upd f k x)))) H1 → va_D A (ws.set q0 (a, .inl (cA, n, .inl (upd f k x)))) → va_S A H0 H1 locs1 → W p l e R s m args below meth c H1 locs1 cells slots Q (F0 m (pc + 1) ls rest)) : W p l e R s m args below meth c H locs cells slots Q (F0 m pc ls (.int x :: .int (nI k) :: .ref a :: rest)) := by
  refine va_zast hexec hb hK hP hD hS q0 t0 ha ht (vp_in_nI hk hn) hdg (fun H1 locs1 h1 h2 h3 => ?_)
  rw [nI_clamp (by omega), (gt_bool hx).2.2] at h1 h2
  exact kk H1 locs1 h1 h2 h3
/-- a field of a pooled object: read by its own class' rows, or by a nest mate's -/
theorem gt_getP {X : va_W} {ad : Nat → Nat} {K : List Nat} {f : Nat → va_E} {key : Nat} (hexec : p.tables.exec = Jvm.exec) (hb : c.code = cc) {own ref C host : String} {T : u_T} {N ci index : Nat} {Ts : List Cond} (hts : ∀ w ∈ Ts, w.before args s = true) (hin : ∀ w ∈ u_ws C T N, w ∈ Ts) (hown : s.vm.findClass own = some m.cls) (hK : va_K D cl tys s) (hP : va_P D cl (X ++ gt_pl ad K f) H) (hkey : key ∈ K) {fs : List Value} (he : f key = .inr (ci, fs)) (hc : cl[ci]? = some (C, T, N)) (k : Nat) (hk : k < N) (hlink : (Cond.fieldLinkNest own index ref (T k).2.1 (T k).2.2.1 host).before args s = true) (hsame : ∀ x, s.fieldFound? (T k).1 (T k).2.1 (T k).2.2.1 = some x → s.fieldFound? ref (T k).2.1 (T k).2.2.1 = some x) {v : Value} (hv : fs[k]? = some v) (hdg : decode cc pc = .ok (.getfield index, 3))
    (kk : W p l e R s m args below meth c H locs cells slots Q (F0 m (pc + 3) ls (v :: rest))) : W p l e R s m args below meth c H locs cells slots Q (F0 m pc ls (.ref (ad key) :: rest)) := by
  obtain ⟨j, hj⟩ := gt_pl_get (X := X) (ad := ad) (f := f) hkey
  exact va_getN hexec hb hts hin hown hK hP j (by rw [hj, he]) hc k hk hlink hsame hv hdg kk
theorem gt_putP {X : va_W} {ad : Nat → Nat} {K : List Nat} {f : Nat → va_E} {key : Nat} (hexec : p.tables.exec = Jvm.exec) (hb : c.code = cc) {own ref C host : String} {T : u_T} {N ci index : Nat} {Ts : List Cond} (hts : ∀ w ∈ Ts, w.before args s = true) (hin : ∀ w ∈ u_ws C T N, w ∈ Ts) (ty0 : Nat → FieldType) (hty : ∀ k, k < N → parseFieldDescriptor (T k).2.2.1 = some (ty0 k)) (hnm : ∀ a, a < N → ∀ b, b < N → a ≠ b → (T a).2.1 ≠ (T b).2.1) (hown : s.vm.findClass own = some m.cls) (hK : va_K D cl tys s) (hP : va_P D cl (X ++ gt_pl ad K f) H) (hD : va_D A (X ++ gt_pl ad K f)) (hS0 : va_S A H0 H locs) (hkey : key ∈ K) {fs : List Value} (he : f key = .inr (ci, fs)) (hc : cl[ci]? = some (C, T, N)) (k : Nat) (hk : k < N) (hlink : (Cond.fieldLinkNest own index ref (T k).2.1 (T k).2.2.1 host).before args s = true) (hsame : ∀ x, s.fieldFound? (T k).1 (T k).2.1 (T k).2.2.1 = some x → s.fieldFound? ref (T k).2.1 (T k).2.2.1 = some x) (hfin : (T k).2.2.2 = false) {ty : FieldType} {v : Value} (hd : parseFieldDescriptor (T k).2.2.1 = some ty) (hn : narrow ty v = v) (hfit : fits ty v = true) (hl : k < fs.length)
    (hdg : decode cc pc = .ok (.putfield index, 3)) (kk : ∀ (H1 : Heap) (locs1 : List Loc), va_P D cl (X ++ gt_pl ad K (va_up f key (.inr (ci, fs.set k v)))) H1 → va_D A (X ++ gt_pl ad K (va_up f key (.inr (ci, fs.set k v)))) → va_S A H0 H1 locs1 → W p l e R s m args below meth c H1 locs1 cells slots Q (F0 m (pc + 3) ls rest)) : W p l e R s m args below meth c H locs cells slots Q (F0 m pc ls (v :: .ref (ad key) :: rest)) := by
  obtain ⟨j, hj⟩ := gt_pl_get (X := X) (ad := ad) (f := f) hkey
  refine va_putN hexec hb hts hin ty0 hty hnm hown hK hP hD hS0 j (by rw [hj, he]) hc k hk hlink hsame hfin hd hn hfit hl hdg (fun H1 locs1 h1 h2 h3 => ?_)
  rw [gt_pl_set hD hkey hj] at h1 h2
  exact kk H1 locs1 h1 h2 h3
end GB
/-! arrays of records: one part of one record is written -/
theorem gt_upM {α : Type} (p : α → Int32) (f : Nat → α) (k : Nat) (x : α) (v : Int32) (h : p x = v) : upd (fun j => p (f j)) k v = fun j => p (va_up f k x j) := by
  funext j
  unfold upd va_up
  by_cases e : j = k
  · simp [e, h]
  · simp [e]
theorem gt_upL {α : Type} (p : α → Int64) (f : Nat → α) (k : Nat) (x : α) (v : Int64) (h : p x = v) : vp_updL (fun j => p (f j)) k v = fun j => p (va_up f k x j) := by
  funext j
  unfold vp_updL va_up
  by_cases e : j = k
  · simp [e, h]
  · simp [e]
theorem gt_upK {α β : Type} (p : α → β) (f : Nat → α) (k : Nat) (x : α) (h : p x = p (f k)) : (fun j => p (f j)) = fun j => p (va_up f k x j) := by
  funext j
  unfold va_up
  by_cases e : j = k
  · simp [e, h]
  · simp [e]
end
section
/-! THE WORLDS of the class and of the reference; how a contract begins and ends. -/
def gt_fg (G : Nat) (ad : Nat → Nat) : Nat → Option Nat := fun g => if g < G then some (ad g) else none
def gt_fi (n : Nat) (ad : Nat → Nat) : Nat → Option Nat := fun i => if 1 ≤ i ∧ i ≤ n then some (ad (100 + i)) else none
theorem gt_fg_at {G : Nat} {ad : Nat → Nat} {g : Nat} (h : g < G) : gt_fg G ad g = some (ad g) := if_pos h
theorem gt_fi_at {n : Nat} {ad : Nat → Nat} {i : Nat} (h1 : 1 ≤ i) (h2 : i ≤ n) : gt_fi n ad i = some (ad (100 + i)) := if_pos ⟨h1, h2⟩
/-- a gate, an item, as cells -/
def gt_gC (S : gt_SS) (gs : Nat → gt_GS) (g : Nat) : va_E := .inr (1, [.int (gs g).1, .int (S.2.2.2.2.1 g), .int (gs g).2.1, .long (lN (gs g).2.2.1), .int (S.2.2.2.2.2 g), .int (gs g).2.2.2.1, .int (gs g).2.2.2.2])
def gt_oI (p : gt_IS) : Int32 := if p.2.1 < 0 then 0 else 1
def gt_iC (S : gt_SS) (lt : Nat → Int32) (it : Nat → gt_IS) (i : Nat) : va_E := .inr (2, [.long (lN (S.2.1 i)), .long (lN (S.2.2.1 i)), .int (S.2.2.2.1 i), .int (lt i), .int (nI (it i).1), .int (gt_oI (it i))])
def gt_pf (S : gt_SS) (lt : Nat → Int32) (d : gt_Dy) : Nat → va_E := fun k => if k < 100 then gt_gC S d.2 k else gt_iC S lt d.1 (k - 100)
def gt_pk (G n : Nat) : List Nat := List.range G ++ (List.range n).map (fun i => 101 + i)
theorem gt_pk_g {G n g : Nat} (h : g < G) : g ∈ gt_pk G n := List.mem_append_left _ (List.mem_range.mpr h)
theorem gt_pk_i {G n i : Nat} (h1 : 1 ≤ i) (h2 : i ≤ n) : 100 + i ∈ gt_pk G n := List.mem_append_right _ (List.mem_map.mpr ⟨i - 1, List.mem_range.mpr (by omega), by omega⟩)
theorem gt_pk_n {G n k : Nat} (hG : G ≤ 100) (h : k ∈ gt_pk G n) : k < G ∨ (101 ≤ k ∧ k ≤ 100 + n) := by
  rcases List.mem_append.mp h with q | q
  · exact Or.inl (List.mem_range.mp q)
  · obtain ⟨i, h1, h2⟩ := List.mem_map.mp q
    have := List.mem_range.mp h1
    exact Or.inr (by omega)
theorem gt_pk_snoc (G n : Nat) : gt_pk G (n + 1) = gt_pk G n ++ [100 + (n + 1)] := by
  unfold gt_pk
  rw [List.range_succ, List.map_append, List.append_assoc]
  simp only [List.map_cons, List.map_nil]
  rw [show 101 + n = 100 + (n + 1) by omega]
theorem gt_pf_g {S : gt_SS} {lt : Nat → Int32} {d : gt_Dy} {g : Nat} (h : g < 100) : gt_pf S lt d g = gt_gC S d.2 g := if_pos h
theorem gt_pf_i (S : gt_SS) (lt : Nat → Int32) (d : gt_Dy) (i : Nat) : gt_pf S lt d (100 + i) = gt_iC S lt d.1 i := by
  unfold gt_pf
  rw [if_neg (by omega), Nat.add_sub_cancel_left]
/-- one gate is written; one item -/
theorem gt_pf_setg {S S' : gt_SS} {lt : Nat → Int32} {d d' : gt_Dy} {g : Nat} {e : va_E} (hg : g < 100) (he : e = gt_gC S' d'.2 g) (h1 : ∀ j, j ≠ g → gt_gC S d.2 j = gt_gC S' d'.2 j) (h2 : ∀ i, gt_iC S lt d.1 i = gt_iC S' lt d'.1 i) : va_up (gt_pf S lt d) g e = gt_pf S' lt d' := by
  subst he
  funext k
  unfold va_up gt_pf
  by_cases hk : k = g
  · subst hk
    rw [if_pos rfl, if_pos hg]
  · rw [if_neg hk]
    by_cases q : k < 100
    · rw [if_pos q, if_pos q, h1 k hk]
    · rw [if_neg q, if_neg q, h2]
theorem gt_pf_seti {S S' : gt_SS} {lt lt' : Nat → Int32} {d d' : gt_Dy} {i : Nat} {e : va_E} (he : e = gt_iC S' lt' d'.1 i) (h1 : ∀ j, j ≠ i → gt_iC S lt d.1 j = gt_iC S' lt' d'.1 j) (h2 : ∀ g, gt_gC S d.2 g = gt_gC S' d'.2 g) : va_up (gt_pf S lt d) (100 + i) e = gt_pf S' lt' d' := by
  subst he
  funext k
  unfold va_up gt_pf
  by_cases hk : k = 100 + i
  · subst hk
    rw [if_pos rfl, if_neg (by omega), Nat.add_sub_cancel_left]
  · rw [if_neg hk]
    by_cases q : k < 100
    · rw [if_pos q, if_pos q, h2]
    · rw [if_neg q, if_neg q, h1 (k - 100) (by omega)]
def gt_XH (xa : Nat → Nat) (xc : Nat → ClassId) (ad : Nat → Nat) (S : gt_SS) (n F now c : Nat) (told rej : Int32) (oI oB : Nat → Int32) (oT : Nat → Int64) : va_W :=
  [(xa 0, .inr (0, [.int (nI S.1), .ref (xa 1), .ref (xa 2), .int (nI n), .int (nI F), .long (lN now), .ref (xa 3), .ref (xa 4), .ref (xa 5), .int (nI c), .int told, .int rej])),
   (xa 1, .inl (xc 1, S.1, .inr (.inr (.inr (.inr (gt_fg S.1 ad)))))),
   (xa 2, .inl (xc 2, 401, .inr (.inr (.inr (.inr (gt_fi n ad)))))),
   (xa 3, .inl (xc 3, 400, .inl oI)), (xa 4, .inl (xc 4, 400, .inl oB)), (xa 5, .inl (xc 5, 400, .inr (.inl oT)))]
def gt_XW (xa : Nat → Nat) (xc : Nat → ClassId) (ad : Nat → Nat) (S : gt_SS) (lt : Nat → Int32) (d : gt_Dy) (n F now c : Nat) (told rej : Int32) (oI oB : Nat → Int32) (oT : Nat → Int64) : va_W :=
  gt_XH xa xc ad S n F now c told rej oI oB oT ++ gt_pl ad (gt_pk S.1 n) (gt_pf S lt d)
theorem gt_pl_congr {ad : Nat → Nat} {K : List Nat} {f g : Nat → va_E} (h : ∀ k ∈ K, f k = g k) : gt_pl ad K f = gt_pl ad K g := List.map_congr_left (fun k hk => by rw [h k hk])
/-- the pool holds no gate but those below G -/
theorem gt_pl_gates {ad : Nat → Nat} {S : gt_SS} {lt : Nat → Int32} {d d' : gt_Dy} {n : Nat} (hG : S.1 ≤ 100) (h1 : d.1 = d'.1) (h2 : ∀ g, g < S.1 → d.2 g = d'.2 g) : gt_pl ad (gt_pk S.1 n) (gt_pf S lt d) = gt_pl ad (gt_pk S.1 n) (gt_pf S lt d') := by
  refine gt_pl_congr (fun k hk => ?_)
  unfold gt_pf
  rw [h1]
  rcases gt_pk_n hG hk with q | q
  · rw [if_pos (by omega), if_pos (by omega)]
    unfold gt_gC
    rw [h2 k q]
  · rw [if_neg (by omega), if_neg (by omega)]
def gt_MW (ma : Nat → Nat) (mc : Nat → ClassId) (thr : Int32) (G n now c : Nat) (told : Int32) (ats lens : Nat → Int64) (ords nxts bins lats : Nat → Int32) (tims : Nat → Int64) (opn stk usd : Nat → Int32) (ends : Nat → Int64) (hgts hlds cnts out : Nat → Int32) : va_W :=
  [(ma 0, .inr (3, [.int thr, .int (nI G), .int (nI n), .ref (ma 1), .ref (ma 2), .ref (ma 3), .ref (ma 4), .ref (ma 5), .ref (ma 6), .ref (ma 7), .ref (ma 8), .ref (ma 9), .ref (ma 10), .ref (ma 11), .ref (ma 12), .ref (ma 13), .ref (ma 14), .long (lN now), .int (nI c), .ref (ma 15), .int told])),
   (ma 1, .inl (mc 1, 401, .inr (.inl ats))), (ma 2, .inl (mc 2, 401, .inr (.inl lens))), (ma 3, .inl (mc 3, 401, .inl ords)), (ma 4, .inl (mc 4, 401, .inl nxts)), (ma 5, .inl (mc 5, 401, .inl bins)), (ma 6, .inl (mc 6, 401, .inl lats)), (ma 7, .inl (mc 7, 401, .inr (.inl tims))),
   (ma 8, .inl (mc 8, 13, .inl opn)), (ma 9, .inl (mc 9, 13, .inl stk)), (ma 10, .inl (mc 10, 13, .inl usd)), (ma 11, .inl (mc 11, 13, .inr (.inl ends))), (ma 12, .inl (mc 12, 13, .inl hgts)), (ma 13, .inl (mc 13, 13, .inl hlds)), (ma 14, .inl (mc 14, 13, .inl cnts)), (ma 15, .inl (mc 15, 400, .inl out))]
def gt_lf (ol : List Nat) : Nat → Int32 := fun k => nI (ol.getD k 0)
/-- the reference's world by the same words as the class' -/
def gt_MS (ma : Nat → Nat) (mc : Nat → ClassId) (thr : Int32) (S : gt_SS) (lt : Nat → Int32) (d : gt_Dy) (n now : Nat) (ol : List Nat) (told : Int32) : va_W :=
  gt_MW ma mc thr S.1 n now ol.length told (fun i => lN (S.2.1 i)) (fun i => lN (S.2.2.1 i)) S.2.2.2.1 (fun i => nI (d.1 i).1) (fun i => (d.1 i).2.1) lt (fun i => lN (d.1 i).2.2) (fun g => (d.2 g).1) S.2.2.2.2.1 (fun g => (d.2 g).2.1) (fun g => lN (d.2 g).2.2.1) S.2.2.2.2.2 (fun g => (d.2 g).2.2.2.1) (fun g => (d.2 g).2.2.2.2) (gt_lf ol)
/-! what the tables say, beside the words that stay: private members of nest mates -/
def gt_nest : List Cond := [.fieldLinkNest "GateTimes" 153 "GateTimes$Gate" "stuck" "Z" "GateTimes", .fieldLinkNest "GateTimes" 147 "GateTimes$Gate" "height" "I" "GateTimes", .fieldLinkNest "GateTimes" 150 "GateTimes$Gate" "holds" "I" "GateTimes", .fieldLinkNest "GateTimes" 156 "GateTimes$Gate" "count" "I" "GateTimes", .fieldLinkNest "GateTimes" 64 "GateTimes$Item" "at" "J" "GateTimes", .fieldLinkNest "GateTimes" 67 "GateTimes$Item" "length" "J" "GateTimes", .fieldLinkNest "GateTimes" 96 "GateTimes$Item" "order" "I" "GateTimes", .fieldLinkNest "GateTimes" 139 "GateTimes$Item" "late" "I" "GateTimes", .fieldLinkNest "GateTimes" 86 "GateTimes$Item" "next" "I" "GateTimes", .fieldLinkNest "GateTimes" 75 "GateTimes$Item" "isOut" "Z" "GateTimes"]
def gt_N (U : State) : Prop := ∀ w ∈ gt_nest, va_Nw w U
def gt_mv (K : State → Prop) : Prop := (∀ s U : State, s.WarmedH U.vm → K s → K U) ∧ ∀ s U : State, s.vm = U.vm → K s → K U
theorem gt_N_all {P : Cond → Prop} (h : ∀ i c n d, P (.fieldLinkNest "GateTimes" i c n d "GateTimes")) : ∀ w ∈ gt_nest, P w := by
  intro w hw
  simp only [gt_nest, List.mem_cons, List.not_mem_nil, or_false] at hw
  rcases hw with rfl | rfl | rfl | rfl | rfl | rfl | rfl | rfl | rfl | rfl <;> exact h _ _ _ _
theorem gt_N_mv : gt_mv gt_N :=
  ⟨fun s U hW h w hw => gt_N_all (P := fun w => va_Nw w s → va_Nw w U) (fun _ _ _ _ hz => va_Nw.warmF hW hz) w hw (h w hw),
   fun s U e h w hw => gt_N_all (P := fun w => va_Nw w s → va_Nw w U) (fun _ _ _ _ hz => va_Nw.same rfl e hz) w hw (h w hw)⟩
theorem gt_K_mv {D : va_G} {tys : List (ClassId × FieldType)} : gt_mv (va_K D gt_cl tys) :=
  ⟨fun s U hW h => va_K.moved hW.alike h, fun s U e h => va_K.moved (by rw [e]; exact Vm.Alike.refl U.vm) h⟩
theorem gt_and_mv {K1 K2 : State → Prop} (h1 : gt_mv K1) (h2 : gt_mv K2) : gt_mv (fun U => K1 U ∧ K2 U) :=
  ⟨fun s U hW h => ⟨h1.1 s U hW h.1, h2.1 s U hW h.2⟩, fun s U e h => ⟨h1.2 s U e h.1, h2.2 s U e h.2⟩⟩
def gt_Xt (xc : Nat → ClassId) : List (ClassId × FieldType) := [(xc 1, .object "GateTimes$Gate"), (xc 2, .object "GateTimes$Item"), (xc 3, .int), (xc 4, .int), (xc 5, .long)]
def gt_Mt (mc : Nat → ClassId) : List (ClassId × FieldType) := [(mc 1, .long), (mc 2, .long), (mc 3, .int), (mc 4, .int), (mc 5, .int), (mc 6, .int), (mc 7, .long), (mc 8, .boolean), (mc 9, .boolean), (mc 10, .boolean), (mc 11, .long), (mc 12, .int), (mc 13, .int), (mc 14, .int), (mc 15, .int)]
def gt_XK (D : va_G) (xc : Nat → ClassId) : State → Prop := fun U => va_K D gt_cl (gt_Xt xc) U ∧ gt_N U
theorem gt_XK_mv {D : va_G} {xc : Nat → ClassId} : gt_mv (gt_XK D xc) := gt_and_mv gt_K_mv gt_N_mv
def gt_Pre (D : va_G) (K : State → Prop) (av : List Value) (w : va_W) (sz : Nat) : Array Value → State → Prop := va_Pc av (fun U => U.heap.size = sz ∧ va_P D gt_cl w U.heap ∧ K U ∧ va_D (fun _ => True) w)
def gt_PreP (D : va_G) (K : State → Prop) (av : List Value) (w : va_W) : Array Value → State → Prop := va_Pc av (fun U => va_P D gt_cl w U.heap ∧ K U)
theorem gt_PreP_bl {D : va_G} {K : State → Prop} {av : List Value} {w : va_W} (hm : gt_mv K) : FrameBlind (gt_PreP D K av w) := fun a U g mk q => ⟨q.1, q.2.1, hm.2 U (U.calling g mk a) rfl q.2.2⟩
theorem gt_Pre_bl {D : va_G} {K : State → Prop} {av : List Value} {w : va_W} {sz : Nat} (hm : gt_mv K) : FrameBlind (gt_Pre D K av w sz) := fun a U g mk q => ⟨q.1, q.2.1, q.2.2.1, hm.2 U (U.calling g mk a) rfl q.2.2.2.1, q.2.2.2.2⟩
theorem gt_PreP_S {D : va_G} {K : State → Prop} {av : List Value} {w : va_W} {s : State} {H : Heap} (hm : gt_mv K) (hP : va_P D gt_cl w H) (hK : K s) : PreS s H (gt_PreP D K av w) av :=
  ⟨gt_PreP_bl hm, fun U hU hW => ⟨rfl, by rw [hU]; exact hP, hm.1 s U hW hK⟩⟩
theorem gt_PreP_V {D : va_G} {K : State → Prop} {b : Addr} {As : List Value} {w : va_W} {s : State} {H : Heap} {C : String} (hm : gt_mv K) (hR : ∃ cellB : Cell, H[b]? = some cellB ∧ cellB.vm.isStatics = false ∧ s.vm.findClass C = some cellB.cls) (hP : va_P D gt_cl w H) (hK : K s) : PreV s H C b (gt_PreP D K (.ref b :: As) w) As :=
  ⟨gt_PreP_bl hm, hR, fun U hU hW => ⟨rfl, by rw [hU]; exact hP, hm.1 s U hW hK⟩⟩
theorem gt_Pre_S {D : va_G} {K : State → Prop} {av : List Value} {w : va_W} {s : State} {H : Heap} {A : Nat → Prop} (hm : gt_mv K) (hP : va_P D gt_cl w H) (hK : K s) (hD : va_D A w) : PreS s H (gt_Pre D K av w H.size) av :=
  ⟨gt_Pre_bl hm, fun U hU hW => ⟨rfl, by rw [hU], by rw [hU]; exact hP, hm.1 s U hW hK, hD.weaken (fun _ _ _ _ => trivial)⟩⟩
theorem gt_Pre_V {D : va_G} {K : State → Prop} {b : Addr} {As : List Value} {w : va_W} {s : State} {H : Heap} {C : String} {A : Nat → Prop} (hm : gt_mv K) (hR : ∃ cellB : Cell, H[b]? = some cellB ∧ cellB.vm.isStatics = false ∧ s.vm.findClass C = some cellB.cls) (hP : va_P D gt_cl w H) (hK : K s) (hD : va_D A w) : PreV s H C b (gt_Pre D K (.ref b :: As) w H.size) As :=
  ⟨gt_Pre_bl hm, hR, fun U hU hW => ⟨rfl, by rw [hU], by rw [hU]; exact hP, hm.1 s U hW hK, hD.weaken (fun _ _ _ _ => trivial)⟩⟩
/-- a pooled receiver -/
theorem gt_recvP {s : State} {H : Heap} {D : va_G} {X : va_W} {ad : Nat → Nat} {K : List Nat} {f : Nat → va_E} {key ci : Nat} {q : vw_C} {fs : List Value} {tys : List (ClassId × FieldType)} (hK : va_K D gt_cl tys s) (hP : va_P D gt_cl (X ++ gt_pl ad K f) H) (hkey : key ∈ K) (he : f key = .inr (ci, fs)) (hc : gt_cl[ci]? = some q) : ∃ cell : Cell, H[ad key]? = some cell ∧ cell.vm.isStatics = false ∧ s.vm.findClass q.1 = some cell.cls := by
  obtain ⟨j, hj⟩ := gt_pl_get (X := X) (ad := ad) (f := f) hkey
  exact va_recv hK hP (ci := ci) (q0 := j) hc (by rw [hj, he])
abbrev gt_Qi {σ : Type} (D : va_G) (w : va_W) (sz : Nat) (post : Int32 → σ → Prop) (f : σ → va_W) : Array Value → State → Outcome → State → Prop := va_Qi post (fun u t => va_P D gt_cl (f u) t.heap ∧ va_D (va_A w sz) (f u)) (va_A w sz)
abbrev gt_Qv {σ : Type} (D : va_G) (w : va_W) (sz : Nat) (post : σ → Prop) (f : σ → va_W) : Array Value → State → Outcome → State → Prop := va_Qv post (fun u t => va_P D gt_cl (f u) t.heap ∧ va_D (va_A w sz) (f u)) (va_A w sz)
section GS
variable {l : Launch} {y : MethodName} {cc : ByteArray} {maxL mc ms sz : Nat} {rm : Room} {D : va_G} {K : State → Prop} {av : List Value} {w : va_W} {own : String}
theorem gt_pure_i {post : Int32 → Prop} (hy : plainName y.cls = true) (hcls : y.cls = own) (hle : (lg_sl av).length ≤ maxL)
    (body : ∀ (p : Program) (e : Env) (s : State) (m : MethodId) (below : List Frame) (meth : Method) (c : Code) (args : Array Value), p.tables.exec = Jvm.exec → c.code = cc → c.maxLocals = maxL → s.vm.findClass own = some m.cls → (∀ w ∈ tb, w.before args s = true) → va_P D gt_cl w s.heap → K s → ∀ Q : State → Prop,
      (∀ (pc : Nat) (ls : Array Slot) (v : Int32), decode cc pc = .ok (.ireturn, 1) → post v → W p l e rm s m args below meth c s.heap [] 0 0 Q (F0 m pc ls [.int v])) → ∀ ls : Array Slot, lv_has ls maxL (lv_args 0 av) → W p l e rm s m args below meth c s.heap [] 0 0 Q (F0 m 0 ls [])) :
    Met l y (.code y cc maxL (some .int) :: tb) rm (gt_PreP D K av w) (vp_Si post) 0 0 (fun _ => False) := by
  refine Met.ofW (cc := cc) (maxL := maxL) (ret := some .int) hy rfl ?_
  intro p e s m args below meth c s₁ B hml hv
  obtain ⟨rfl, hP, hK⟩ := hv
  have hlocks := B.notSynchronized
  rw [lg_entry_eq]
  exact body p e s m below meth c _ B.exec B.bytes hml (by rw [← hcls]; exact findClass_of_methodNamed B.named) (fun w h => atoms_spec (ws := .code y cc maxL (some .int) :: tb) B.pre w (List.mem_cons_of_mem _ h)) hP hK _ (fun pc ls v hd hp => W.iret B.exec B.bytes B.returns (fun t ht _ => ⟨v, rfl, hp, ht⟩) (fun q hq => by cases hq) hd) _ (lv_entry av hle)
theorem gt_pure_z {post : Int32 → Prop} (hy : plainName y.cls = true) (hcls : y.cls = own) (hle : (lg_sl av).length ≤ maxL)
    (body : ∀ (p : Program) (e : Env) (s : State) (m : MethodId) (below : List Frame) (meth : Method) (c : Code) (args : Array Value), p.tables.exec = Jvm.exec → c.code = cc → c.maxLocals = maxL → s.vm.findClass own = some m.cls → (∀ w ∈ tb, w.before args s = true) → va_P D gt_cl w s.heap → K s → ∀ Q : State → Prop,
      (∀ (pc : Nat) (ls : Array Slot) (v : Int32), decode cc pc = .ok (.ireturn, 1) → (v = 0 ∨ v = 1) → post v → W p l e rm s m args below meth c s.heap [] 0 0 Q (F0 m pc ls [.int v])) → ∀ ls : Array Slot, lv_has ls maxL (lv_args 0 av) → W p l e rm s m args below meth c s.heap [] 0 0 Q (F0 m 0 ls [])) :
    Met l y (.code y cc maxL (some .boolean) :: tb) rm (gt_PreP D K av w) (vp_Si post) 0 0 (fun _ => False) := by
  refine Met.ofW (cc := cc) (maxL := maxL) (ret := some .boolean) hy rfl ?_
  intro p e s m args below meth c s₁ B hml hv
  obtain ⟨rfl, hP, hK⟩ := hv
  have hlocks := B.notSynchronized
  rw [lg_entry_eq]
  exact body p e s m below meth c _ B.exec B.bytes hml (by rw [← hcls]; exact findClass_of_methodNamed B.named) (fun w h => atoms_spec (ws := .code y cc maxL (some .boolean) :: tb) B.pre w (List.mem_cons_of_mem _ h)) hP hK _ (fun pc ls v hd hz hp => W.zret (ty := .boolean) B.exec B.bytes B.returns (gt_bool hz).1 (fun t ht _ => ⟨v, rfl, hp, ht⟩) (fun q hq => by cases hq) hd) _ (lv_entry av hle)
theorem gt_pure_l {post : Int64 → Prop} (hy : plainName y.cls = true) (hcls : y.cls = own) (hle : (lg_sl av).length ≤ maxL)
    (body : ∀ (p : Program) (e : Env) (s : State) (m : MethodId) (below : List Frame) (meth : Method) (c : Code) (args : Array Value), p.tables.exec = Jvm.exec → c.code = cc → c.maxLocals = maxL → s.vm.findClass own = some m.cls → (∀ w ∈ tb, w.before args s = true) → va_P D gt_cl w s.heap → K s → ∀ Q : State → Prop,
      (∀ (pc : Nat) (ls : Array Slot) (v : Int64), decode cc pc = .ok (.lreturn, 1) → post v → W p l e rm s m args below meth c s.heap [] 0 0 Q (F0 m pc ls [.long v])) → ∀ ls : Array Slot, lv_has ls maxL (lv_args 0 av) → W p l e rm s m args below meth c s.heap [] 0 0 Q (F0 m 0 ls [])) :
    Met l y (.code y cc maxL (some .long) :: tb) rm (gt_PreP D K av w) (vp_Sl post) 0 0 (fun _ => False) := by
  refine Met.ofW (cc := cc) (maxL := maxL) (ret := some .long) hy rfl ?_
  intro p e s m args below meth c s₁ B hml hv
  obtain ⟨rfl, hP, hK⟩ := hv
  have hlocks := B.notSynchronized
  rw [lg_entry_eq]
  exact body p e s m below meth c _ B.exec B.bytes hml (by rw [← hcls]; exact findClass_of_methodNamed B.named) (fun w h => atoms_spec (ws := .code y cc maxL (some .long) :: tb) B.pre w (List.mem_cons_of_mem _ h)) hP hK _ (fun pc ls v hd hp => W.lret B.exec B.bytes B.returns (fun t ht _ => ⟨v, rfl, hp, ht⟩) (fun q hq => by cases hq) hd) _ (lv_entry av hle)
theorem gt_mut_i {σ : Type} {post : Int32 → σ → Prop} {f : σ → va_W} (hy : plainName y.cls = true) (hcls : y.cls = own) (hle : (lg_sl av).length ≤ maxL)
    (body : ∀ (p : Program) (e : Env) (s : State) (m : MethodId) (below : List Frame) (meth : Method) (c : Code) (args : Array Value) (A : Nat → Prop), p.tables.exec = Jvm.exec → c.code = cc → c.maxLocals = maxL → s.vm.findClass own = some m.cls → (∀ w ∈ tb, w.before args s = true) → va_P D gt_cl w s.heap → K s → va_D A w → (∀ q : Nat, s.heap.size ≤ q → A q) → ∀ Q : State → Prop,
      (∀ (H : Heap) (locs : List Loc) (pc : Nat) (ls : Array Slot) (v : Int32) (u : σ), decode cc pc = .ok (.ireturn, 1) → post v u → va_P D gt_cl (f u) H → va_D A (f u) → va_S A s.heap H locs → W p l e rm s m args below meth c H locs mc ms Q (F0 m pc ls [.int v])) → ∀ ls : Array Slot, lv_has ls maxL (lv_args 0 av) → W p l e rm s m args below meth c s.heap [] 0 0 Q (F0 m 0 ls [])) :
    Met l y (.code y cc maxL (some .int) :: tb) rm (gt_Pre D K av w sz) (gt_Qi D w sz post f) mc ms (va_A w sz) := by
  refine Met.ofW (cc := cc) (maxL := maxL) (ret := some .int) hy rfl ?_
  intro p e s m args below meth c s₁ B hml hv
  obtain ⟨rfl, hsz, hP, hK, hD0⟩ := hv
  subst hsz
  have hlocks := B.notSynchronized
  rw [lg_entry_eq]
  exact body p e s m below meth c _ (va_A w s.heap.size) B.exec B.bytes hml (by rw [← hcls]; exact findClass_of_methodNamed B.named) (fun w h => atoms_spec (ws := .code y cc maxL (some .int) :: tb) B.pre w (List.mem_cons_of_mem _ h)) hP hK (hD0.self (sz := s.heap.size)) (fun q h => Or.inr h) _ (fun H locs pc ls v u hd hp hP1 hD1 hS => W.iret B.exec B.bytes B.returns (fun t ht _ => ⟨⟨v, u, rfl, hp, by rw [ht]; exact hP1, hD1⟩, hS.F ht⟩) hS.2.2 hd) _ (lv_entry av hle)
theorem gt_mut_z {σ : Type} {post : Int32 → σ → Prop} {f : σ → va_W} (hy : plainName y.cls = true) (hcls : y.cls = own) (hle : (lg_sl av).length ≤ maxL)
    (body : ∀ (p : Program) (e : Env) (s : State) (m : MethodId) (below : List Frame) (meth : Method) (c : Code) (args : Array Value) (A : Nat → Prop), p.tables.exec = Jvm.exec → c.code = cc → c.maxLocals = maxL → s.vm.findClass own = some m.cls → (∀ w ∈ tb, w.before args s = true) → va_P D gt_cl w s.heap → K s → va_D A w → (∀ q : Nat, s.heap.size ≤ q → A q) → ∀ Q : State → Prop,
      (∀ (H : Heap) (locs : List Loc) (pc : Nat) (ls : Array Slot) (v : Int32) (u : σ), decode cc pc = .ok (.ireturn, 1) → (v = 0 ∨ v = 1) → post v u → va_P D gt_cl (f u) H → va_D A (f u) → va_S A s.heap H locs → W p l e rm s m args below meth c H locs mc ms Q (F0 m pc ls [.int v])) → ∀ ls : Array Slot, lv_has ls maxL (lv_args 0 av) → W p l e rm s m args below meth c s.heap [] 0 0 Q (F0 m 0 ls [])) :
    Met l y (.code y cc maxL (some .boolean) :: tb) rm (gt_Pre D K av w sz) (gt_Qi D w sz post f) mc ms (va_A w sz) := by
  refine Met.ofW (cc := cc) (maxL := maxL) (ret := some .boolean) hy rfl ?_
  intro p e s m args below meth c s₁ B hml hv
  obtain ⟨rfl, hsz, hP, hK, hD0⟩ := hv
  subst hsz
  have hlocks := B.notSynchronized
  rw [lg_entry_eq]
  exact body p e s m below meth c _ (va_A w s.heap.size) B.exec B.bytes hml (by rw [← hcls]; exact findClass_of_methodNamed B.named) (fun w h => atoms_spec (ws := .code y cc maxL (some .boolean) :: tb) B.pre w (List.mem_cons_of_mem _ h)) hP hK (hD0.self (sz := s.heap.size)) (fun q h => Or.inr h) _ (fun H locs pc ls v u hd hz hp hP1 hD1 hS => W.zret (ty := .boolean) B.exec B.bytes B.returns (gt_bool hz).1 (fun t ht _ => ⟨⟨v, u, rfl, hp, by rw [ht]; exact hP1, hD1⟩, hS.F ht⟩) hS.2.2 hd) _ (lv_entry av hle)
theorem gt_mut_v {σ : Type} {post : σ → Prop} {f : σ → va_W} (hy : plainName y.cls = true) (hcls : y.cls = own) (hle : (lg_sl av).length ≤ maxL)
    (body : ∀ (p : Program) (e : Env) (s : State) (m : MethodId) (below : List Frame) (meth : Method) (c : Code) (args : Array Value) (A : Nat → Prop), p.tables.exec = Jvm.exec → c.code = cc → c.maxLocals = maxL → s.vm.findClass own = some m.cls → meth.name = y.name → (∀ w ∈ tb, w.before args s = true) → va_P D gt_cl w s.heap → K s → va_D A w → (∀ q : Nat, s.heap.size ≤ q → A q) → ∀ Q : State → Prop,
      (∀ (H : Heap) (locs : List Loc) (pc : Nat) (ls : Array Slot) (u : σ), decode cc pc = .ok (.return_, 1) → post u → va_P D gt_cl (f u) H → va_D A (f u) → va_S A s.heap H locs → W p l e rm s m args below meth c H locs mc ms Q (F0 m pc ls [])) → ∀ ls : Array Slot, lv_has ls maxL (lv_args 0 av) → W p l e rm s m args below meth c s.heap [] 0 0 Q (F0 m 0 ls [])) :
    Met l y (.code y cc maxL none :: tb) rm (gt_Pre D K av w sz) (gt_Qv D w sz post f) mc ms (va_A w sz) := by
  refine Met.ofW (cc := cc) (maxL := maxL) (ret := none) hy rfl ?_
  intro p e s m args below meth c s₁ B hml hv
  obtain ⟨rfl, hsz, hP, hK, hD0⟩ := hv
  subst hsz
  have hlocks := B.notSynchronized
  rw [lg_entry_eq]
  exact body p e s m below meth c _ (va_A w s.heap.size) B.exec B.bytes hml (by rw [← hcls]; exact findClass_of_methodNamed B.named) (name_of_methodNamed B.named B.method).1 (fun w h => atoms_spec (ws := .code y cc maxL none :: tb) B.pre w (List.mem_cons_of_mem _ h)) hP hK (hD0.self (sz := s.heap.size)) (fun q h => Or.inr h) _ (fun H locs pc ls u hd hp hP1 hD1 hS => W.vret B.exec B.bytes B.returns (fun t ht _ => ⟨⟨u, rfl, hp, by rw [ht]; exact hP1, hD1⟩, hS.F ht⟩) hS.2.2 hd) _ (lv_entry av hle)
end GS
end
section
/-! LEAVES: the small methods. -/
def gt_Bit (r : Int32) (P : Prop) : Prop := (r = 1 ∧ P) ∨ (r = 0 ∧ ¬ P)
theorem gt_Bit.t {P : Prop} (h : P) : gt_Bit 1 P := Or.inl ⟨rfl, h⟩
theorem gt_Bit.f {P : Prop} (h : ¬ P) : gt_Bit 0 P := Or.inr ⟨rfl, h⟩
theorem gt_Bit.zo {r : Int32} {P : Prop} (h : gt_Bit r P) : r = 0 ∨ r = 1 := h.elim (fun q => Or.inr q.1) (fun q => Or.inl q.1)
theorem gt_Bit.yes {r : Int32} {P : Prop} (h : gt_Bit r P) (hr : ¬ r = 0) : P := h.elim (fun q => q.2) (fun q => absurd q.1 hr)
theorem gt_Bit.no {r : Int32} {P : Prop} (h : gt_Bit r P) (hr : r = 0) : ¬ P := h.elim (fun q => absurd (q.1.symm.trans hr) (by decide)) (fun q => q.2)
theorem gt_T_mv : gt_mv (fun _ => True) := ⟨fun _ _ _ _ => trivial, fun _ _ _ _ => trivial⟩
theorem gt_P0 {D : va_G} {H : Heap} : va_P D gt_cl [] H := fun k q h => by simp at h
abbrev rm_X_outside : Room := { frames := 0, cells := 0, slots := 0, locals := 0 }
set_option maxHeartbeats 4000000 in
set_option maxRecDepth 100000 in
/-- outside(v, lo, hi) -/
theorem c_X_outside (l : Launch) (D : va_G) (v lo hi : Int64) : Met l y_X_outside w_X_outside rm_X_outside (gt_PreP D (fun _ => True) [.long v, .long lo, .long hi] ([])) (vp_Si (fun r => gt_Bit r (v < lo ∨ hi < v))) 0 0 (fun _ => False) := by
  refine gt_pure_z (own := R_X) (by decide) rfl (Nat.le_of_ble_eq_true rfl) ?_
  intro p e s m below meth c args hx hb hml hown hts hP hK0 Q hret ls hl
  have hl : lv_has ls 6 [(0, .long v), (2, .long lo), (4, .long hi)] := hl
  refine lv_lload_n hx hb d_X_outside_0 rfl (lv_at hl 0 rfl) ?_
  refine lv_lload_n hx hb d_X_outside_1 rfl (lv_at hl 1 rfl) ?_
  refine W.lcmp hx hb d_X_outside_2 ?_
  refine lv_if_lt (tgt := 13) hx hb d_X_outside_3 (by decide) (fun c1 => ?_) (fun c1 => ?_)
  · have c1 := (lg_cmp_lt _ _).mp c1
    refine lv_iconst (v := 1) hx hb d_X_outside_13 (by decide) ?_
    refine lv_goto (tgt := 18) hx hb d_X_outside_14 (by decide) ?_
    exact hret _ _ _ d_X_outside_18 (Or.inr rfl) (gt_Bit.t (Or.inl c1))
  · have c1 : ¬ _ := fun q => c1 ((lg_cmp_lt _ _).mpr q)
    refine lv_lload_n hx hb d_X_outside_6 rfl (lv_at hl 0 rfl) ?_
    refine lv_lload hx hb d_X_outside_7 (lv_at hl 2 rfl) ?_
    refine W.lcmp hx hb d_X_outside_9 ?_
    refine lv_if_le (tgt := 17) hx hb d_X_outside_10 (by decide) (fun c2 => ?_) (fun c2 => ?_)
    · have c2 := (lg_cmp_le _ _).mp c2
      refine lv_iconst (v := 0) hx hb d_X_outside_17 (by decide) ?_
      exact hret _ _ _ d_X_outside_18 (Or.inl rfl) (gt_Bit.f (fun q => q.elim c1 (fun z => absurd c2 (Int64.not_le.mpr z))))
    · have c2 : ¬ _ := fun q => c2 ((lg_cmp_le _ _).mpr q)
      refine lv_iconst (v := 1) hx hb d_X_outside_13 (by decide) ?_
      refine lv_goto (tgt := 18) hx hb d_X_outside_14 (by decide) ?_
      exact hret _ _ _ d_X_outside_18 (Or.inr rfl) (gt_Bit.t (Or.inr (Int64.not_le.mp c2)))
abbrev rm_M_isIn : Room := { frames := 0, cells := 0, slots := 0, locals := 0 }
set_option maxHeartbeats 4000000 in
set_option maxRecDepth 100000 in
/-- isIn(v, lo, hi) -/
theorem c_M_isIn (l : Launch) (D : va_G) (v lo hi : Int64) : Met l y_M_isIn w_M_isIn rm_M_isIn (gt_PreP D (fun _ => True) [.long v, .long lo, .long hi] ([])) (vp_Si (fun r => gt_Bit r (¬ (v < lo ∨ hi < v)))) 0 0 (fun _ => False) := by
  refine gt_pure_z (own := R_M) (by decide) rfl (Nat.le_of_ble_eq_true rfl) ?_
  intro p e s m below meth c args hx hb hml hown hts hP hK0 Q hret ls hl
  have hl : lv_has ls 6 [(0, .long v), (2, .long lo), (4, .long hi)] := hl
  refine lv_lload_n hx hb d_M_isIn_0 rfl (lv_at hl 0 rfl) ?_
  refine lv_lload_n hx hb d_M_isIn_1 rfl (lv_at hl 1 rfl) ?_
  refine W.lcmp hx hb d_M_isIn_2 ?_
  refine lv_if_lt (tgt := 17) hx hb d_M_isIn_3 (by decide) (fun c1 => ?_) (fun c1 => ?_)
  · have c1 := (lg_cmp_lt _ _).mp c1
    refine lv_iconst (v := 0) hx hb d_M_isIn_17 (by decide) ?_
    exact hret _ _ _ d_M_isIn_18 (Or.inl rfl) (gt_Bit.f (fun q => q (Or.inl c1)))
  · have c1 : ¬ _ := fun q => c1 ((lg_cmp_lt _ _).mpr q)
    refine lv_lload_n hx hb d_M_isIn_6 rfl (lv_at hl 0 rfl) ?_
    refine lv_lload hx hb d_M_isIn_7 (lv_at hl 2 rfl) ?_
    refine W.lcmp hx hb d_M_isIn_9 ?_
    refine lv_if_gt (tgt := 17) hx hb d_M_isIn_10 (by decide) (fun c2 => ?_) (fun c2 => ?_)
    · have c2 := (lg_cmp_gt _ _).mp c2
      refine lv_iconst (v := 0) hx hb d_M_isIn_17 (by decide) ?_
      exact hret _ _ _ d_M_isIn_18 (Or.inl rfl) (gt_Bit.f (fun q => q (Or.inr c2)))
    · have c2 : ¬ _ := fun q => c2 ((lg_cmp_gt _ _).mpr q)
      refine lv_iconst (v := 1) hx hb d_M_isIn_13 (by decide) ?_
      refine lv_goto (tgt := 18) hx hb d_M_isIn_14 (by decide) ?_
      exact hret _ _ _ d_M_isIn_18 (Or.inr rfl) (gt_Bit.t (fun q => q.elim c1 c2))
abbrev rm_I_front : Room := { frames := 0, cells := 0, slots := 0, locals := 0 }
set_option maxHeartbeats 4000000 in
set_option maxRecDepth 100000 in
/-- front(k) -/
theorem c_I_front (l : Launch) (D : va_G) (h0 a : Nat) (b : Int64) (od lt nx ou : Int32) (k : Nat) (hk : k ≤ 100) : Met l y_I_front w_I_front rm_I_front (gt_PreP D (va_K D gt_cl []) [.ref h0, .int (nI k)] ([(h0, .inr (2, [.long (lN a), .long b, .int od, .int lt, .int nx, .int ou]))])) (vp_Sl (fun r => r = lN (a + 1000 * (k + 1)))) 0 0 (fun _ => False) := by
  refine gt_pure_l (own := R_I) (by decide) rfl (Nat.le_of_ble_eq_true rfl) ?_
  intro p e s m below meth c args hx hb hml hown hts hP hK0 Q hret ls hl
  have hl : lv_has ls 2 [(0, .ref h0), (1, .int (nI k))] := hl
  have hK := hK0
  refine lv_aload_n hx hb d_I_front_0 rfl (lv_at hl 0 rfl) ?_
  refine va_get (D := D) (ci := 2) (v := .long (lN a)) (C := R_I) (T := F_I) (N := 6) hx hb hts i_I hown hK hP 0 rfl rfl 0 (by decide) (hts _ kw_109) (fun _ h9 => h9) rfl d_I_front_1 ?_
  refine lv_ldc2 (v := lN 1000) hx hb hown (hts _ kw_164) d_I_front_4 ?_
  refine lv_iload_n hx hb d_I_front_7 rfl (lv_at hl 1 rfl) ?_
  refine lv_iconst (v := 1) hx hb d_I_front_8 (by decide) ?_
  refine lv_iadd hx hb d_I_front_9 ?_
  rw [nI_1]
  refine lv_i2l (v := lN (k + 1)) hx hb d_I_front_10 (nI_l (by omega)) ?_
  refine lv_lmul hx hb d_I_front_11 ?_
  refine lv_ladd hx hb d_I_front_12 ?_
  exact hret _ _ _ d_I_front_13 (by rw [lN_mul, lN_add])
abbrev rm_I_time : Room := { frames := 1, cells := 0, slots := 0, locals := 21 }
set_option maxHeartbeats 4000000 in
set_option maxRecDepth 100000 in
/-- time() -/
theorem c_I_time (l : Launch) (D : va_G) (h0 a : Nat) (b : Int64) (od lt : Int32) (k : Nat) (ou : Int32) (hk : k ≤ 100) : Met l y_I_time w_I_time rm_I_time (gt_PreP D (va_K D gt_cl []) [.ref h0] ([(h0, .inr (2, [.long (lN a), .long b, .int od, .int lt, .int (nI k), .int ou]))])) (vp_Sl (fun r => r = lN (a + 1000 * (k + 1)))) 0 0 (fun _ => False) := by
  refine gt_pure_l (own := R_I) (by decide) rfl (Nat.le_of_ble_eq_true rfl) ?_
  intro p e s m below meth c args hx hb hml hown hts hP hK0 Q hret ls hl
  have hl : lv_has ls 1 [(0, .ref h0)] := hl
  have hK := hK0
  refine lv_aload_n hx hb d_I_time_0 rfl (lv_at hl 0 rfl) ?_
  refine lv_aload_n hx hb d_I_time_1 rfl (lv_at hl 0 rfl) ?_
  refine va_get (D := D) (ci := 2) (v := .int (nI k)) (C := R_I) (T := F_I) (N := 6) hx hb hts i_I hown hK hP 0 rfl rfl 4 (by decide) (hts _ kw_116) (fun _ h9 => h9) rfl d_I_time_2 ?_
  refine vp_callSl (va_runV (As := [.int (nI k)]) (rest := []) ⟨hx, hb, hml, hown, hts⟩ (c_I_front l D h0 a b od lt (nI k) ou k hk) (cwV 1 hts (tb_inV kw_160 kw_161 kw_162 kw_5 kw_163) rfl rfl rfl (by decide +kernel) ⟨Nat.le_of_ble_eq_true rfl, Nat.le_of_ble_eq_true rfl⟩) (gt_PreP_V gt_K_mv (va_recv hK hP (ci := 2) (q0 := 0) rfl rfl) hP hK) rfl rfl hl.1 rfl (lv_room (Nat.le_of_ble_eq_true rfl)) d_I_time_5 ⟨Nat.zero_le _, Nat.zero_le _⟩).run (fun r hr => ?_)
  exact hret _ _ _ d_I_time_8 hr
abbrev rm_I_isWrong : Room := { frames := 0, cells := 0, slots := 0, locals := 0 }
set_option maxHeartbeats 4000000 in
set_option maxRecDepth 100000 in
/-- isWrong(bin) -/
theorem c_I_isWrong (l : Launch) (D : va_G) (h0 a : Nat) (b : Int64) (od lt nx ou : Int32) (bin : Int32) : Met l y_I_isWrong w_I_isWrong rm_I_isWrong (gt_PreP D (va_K D gt_cl []) [.ref h0, .int bin] ([(h0, .inr (2, [.long (lN a), .long b, .int od, .int lt, .int nx, .int ou]))])) (vp_Si (fun r => gt_Bit r (¬ od = -1 ∧ ¬ od = bin))) 0 0 (fun _ => False) := by
  refine gt_pure_z (own := R_I) (by decide) rfl (Nat.le_of_ble_eq_true rfl) ?_
  intro p e s m below meth c args hx hb hml hown hts hP hK0 Q hret ls hl
  have hl : lv_has ls 2 [(0, .ref h0), (1, .int bin)] := hl
  have hK := hK0
  refine lv_aload_n hx hb d_I_isWrong_0 rfl (lv_at hl 0 rfl) ?_
  refine va_get (D := D) (ci := 2) (v := .int od) (C := R_I) (T := F_I) (N := 6) hx hb hts i_I hown hK hP 0 rfl rfl 2 (by decide) (hts _ kw_113) (fun _ h9 => h9) rfl d_I_isWrong_1 ?_
  refine lv_iconst (v := (-1)) hx hb d_I_isWrong_4 (by decide) ?_
  refine lv_icmp_eq (tgt := 20) hx hb d_I_isWrong_5 (by decide) (fun c1 => ?_) (fun c1 => ?_)
  · refine lv_iconst (v := 0) hx hb d_I_isWrong_20 (by decide) ?_
    exact hret _ _ _ d_I_isWrong_21 (Or.inl rfl) (gt_Bit.f (fun q => q.1 c1))
  · refine lv_aload_n hx hb d_I_isWrong_8 rfl (lv_at hl 0 rfl) ?_
    refine va_get (D := D) (ci := 2) (v := .int od) (C := R_I) (T := F_I) (N := 6) hx hb hts i_I hown hK hP 0 rfl rfl 2 (by decide) (hts _ kw_113) (fun _ h9 => h9) rfl d_I_isWrong_9 ?_
    refine lv_iload_n hx hb d_I_isWrong_12 rfl (lv_at hl 1 rfl) ?_
    refine lv_icmp_eq (tgt := 20) hx hb d_I_isWrong_13 (by decide) (fun c2 => ?_) (fun c2 => ?_)
    · refine lv_iconst (v := 0) hx hb d_I_isWrong_20 (by decide) ?_
      exact hret _ _ _ d_I_isWrong_21 (Or.inl rfl) (gt_Bit.f (fun q => q.2 c2))
    · refine lv_iconst (v := 1) hx hb d_I_isWrong_16 (by decide) ?_
      refine lv_goto (tgt := 21) hx hb d_I_isWrong_17 (by decide) ?_
      exact hret _ _ _ d_I_isWrong_21 (Or.inr rfl) (gt_Bit.t ⟨c1, c2⟩)
abbrev rm_I_init : Room := { frames := 1, cells := 0, slots := 0, locals := 12 }
set_option maxHeartbeats 4000000 in
set_option maxRecDepth 100000 in
/-- Item(at, length) -/
theorem c_I_init (l : Launch) (D : va_G) (sz : Nat) (h0 : Nat) (a b : Int64) : Met l y_I_init w_I_init rm_I_init (gt_Pre D (va_K D gt_cl []) [.ref h0, .long a, .long b] ([(h0, .inr (2, [.long 0, .long 0, .int 0, .int 0, .int 0, .int 0]))]) sz) (gt_Qv D ([(h0, .inr (2, [.long 0, .long 0, .int 0, .int 0, .int 0, .int 0]))]) sz (fun _ : Unit => True) (fun _ : Unit => [(h0, .inr (2, [.long a, .long b, .int (-1), .int 0, .int 0, .int 0]))])) 0 0 (va_A ([(h0, .inr (2, [.long 0, .long 0, .int 0, .int 0, .int 0, .int 0]))]) sz) := by
  refine gt_mut_v (own := R_I) (by decide) rfl (Nat.le_of_ble_eq_true rfl) ?_
  intro p e s m below meth c args A hx hb hml hown hnm hts hP hK0 hD hA Q hret ls hl
  have hS : va_S A s.heap s.heap [] := va_S.rf
  have hl : lv_has ls 5 [(0, .ref h0), (1, .long a), (3, .long b)] := hl
  have hK := hK0
  have hin : meth.name = "<init>" := hnm
  refine lv_aload_n hx hb d_I_init_0 rfl (lv_at hl 0 rfl) ?_
  refine W.objInit hx hb hown (hts _ kw_108) (hts _ kw_12) (hts _ kw_13) rfl (by rw [hml]; exact hl.1) rfl d_I_init_1 (Nat.le_of_ble_eq_true rfl) (Nat.le_of_ble_eq_true rfl) ?_
  refine W.eq (g2 := F0 m 4 ls []) rfl ?_
  refine lv_aload_n hx hb d_I_init_4 rfl (lv_at hl 0 rfl) ?_
  refine lv_iconst (v := (-1)) hx hb d_I_init_5 (by decide) ?_
  refine va_put (D := D) (ci := 2) (v := .int (-1)) (ty := .int) (C := R_I) (T := F_I) (N := 6) hx hb hts i_I t_I t_I_ok n_I hown hK hP hD hS 0 rfl rfl 2 (by decide) (hts _ kw_113) (fun _ h9 => h9) rfl (by decide +kernel) rfl rfl (Nat.le_of_ble_eq_true rfl) d_I_init_6 (fun H locs hP hD hS => ?_)
  have hP : va_P D gt_cl ([(h0, .inr (2, [.long 0, .long 0, .int (-1), .int 0, .int 0, .int 0]))]) H := hP
  have hD : va_D A ([(h0, .inr (2, [.long 0, .long 0, .int (-1), .int 0, .int 0, .int 0]))]) := hD
  refine lv_aload_n hx hb d_I_init_9 rfl (lv_at hl 0 rfl) ?_
  refine lv_lload_n hx hb d_I_init_10 rfl (lv_at hl 1 rfl) ?_
  refine va_putF (D := D) (ci := 2) (v := .long a) (ty := .long) (C := R_I) (T := F_I) (N := 6) hx hb hts i_I t_I t_I_ok n_I hown hK hP hD hS 0 rfl rfl 0 (by decide) (hts _ kw_109) (fun _ h9 => h9) rfl hin rfl (by decide +kernel) rfl rfl (Nat.le_of_ble_eq_true rfl) d_I_init_11 (fun H locs hP hD hS => ?_)
  have hP : va_P D gt_cl ([(h0, .inr (2, [.long a, .long 0, .int (-1), .int 0, .int 0, .int 0]))]) H := hP
  have hD : va_D A ([(h0, .inr (2, [.long a, .long 0, .int (-1), .int 0, .int 0, .int 0]))]) := hD
  refine lv_aload_n hx hb d_I_init_14 rfl (lv_at hl 0 rfl) ?_
  refine lv_lload_n hx hb d_I_init_15 rfl (lv_at hl 2 rfl) ?_
  refine va_putF (D := D) (ci := 2) (v := .long b) (ty := .long) (C := R_I) (T := F_I) (N := 6) hx hb hts i_I t_I t_I_ok n_I hown hK hP hD hS 0 rfl rfl 1 (by decide) (hts _ kw_111) (fun _ h9 => h9) rfl hin rfl (by decide +kernel) rfl rfl (Nat.le_of_ble_eq_true rfl) d_I_init_16 (fun H locs hP hD hS => ?_)
  have hP : va_P D gt_cl ([(h0, .inr (2, [.long a, .long b, .int (-1), .int 0, .int 0, .int 0]))]) H := hP
  have hD : va_D A ([(h0, .inr (2, [.long a, .long b, .int (-1), .int 0, .int 0, .int 0]))]) := hD
  exact hret _ _ _ _ () d_I_init_19 trivial hP hD hS
abbrev rm_G_init : Room := { frames := 1, cells := 0, slots := 0, locals := 12 }
set_option maxHeartbeats 4000000 in
set_option maxRecDepth 100000 in
/-- Gate() -/
theorem c_G_init (l : Launch) (D : va_G) (sz : Nat) (h0 : Nat) : Met l y_G_init w_G_init rm_G_init (gt_Pre D (va_K D gt_cl []) [.ref h0] ([(h0, .inr (1, [.int 0, .int 0, .int 0, .long 0, .int 0, .int 0, .int 0]))]) sz) (gt_Qv D ([(h0, .inr (1, [.int 0, .int 0, .int 0, .long 0, .int 0, .int 0, .int 0]))]) sz (fun _ : Unit => True) (fun _ : Unit => [(h0, .inr (1, [.int 0, .int 0, .int 0, .long 0, .int 1000, .int 0, .int 0]))])) 0 0 (va_A ([(h0, .inr (1, [.int 0, .int 0, .int 0, .long 0, .int 0, .int 0, .int 0]))]) sz) := by
  refine gt_mut_v (own := R_G) (by decide) rfl (Nat.le_of_ble_eq_true rfl) ?_
  intro p e s m below meth c args A hx hb hml hown hnm hts hP hK0 hD hA Q hret ls hl
  have hS : va_S A s.heap s.heap [] := va_S.rf
  have hl : lv_has ls 1 [(0, .ref h0)] := hl
  have hK := hK0
  refine lv_aload_n hx hb d_G_init_0 rfl (lv_at hl 0 rfl) ?_
  refine W.objInit hx hb hown (hts _ kw_28) (hts _ kw_12) (hts _ kw_13) rfl (by rw [hml]; exact hl.1) rfl d_G_init_1 (Nat.le_of_ble_eq_true rfl) (Nat.le_of_ble_eq_true rfl) ?_
  refine W.eq (g2 := F0 m 4 ls []) rfl ?_
  refine lv_aload_n hx hb d_G_init_4 rfl (lv_at hl 0 rfl) ?_
  refine lv_sipush (v := 1000) hx hb d_G_init_5 (by decide) ?_
  refine va_put (D := D) (ci := 1) (v := .int 1000) (ty := .int) (C := R_G) (T := F_G) (N := 7) hx hb hts i_G t_G t_G_ok n_G hown hK hP hD hS 0 rfl rfl 4 (by decide) (hts _ kw_34) (fun _ h9 => h9) rfl (by decide +kernel) rfl rfl (Nat.le_of_ble_eq_true rfl) d_G_init_8 (fun H locs hP hD hS => ?_)
  have hP : va_P D gt_cl ([(h0, .inr (1, [.int 0, .int 0, .int 0, .long 0, .int 1000, .int 0, .int 0]))]) H := hP
  have hD : va_D A ([(h0, .inr (1, [.int 0, .int 0, .int 0, .long 0, .int 1000, .int 0, .int 0]))]) := hD
  exact hret _ _ _ _ () d_G_init_11 trivial hP hD hS
abbrev rm_G_isFull : Room := { frames := 0, cells := 0, slots := 0, locals := 0 }
set_option maxHeartbeats 4000000 in
set_option maxRecDepth 100000 in
/-- isFull() -/
theorem c_G_isFull (l : Launch) (D : va_G) (h0 : Nat) (op sk us : Int32) (f : Nat) (ht ho ct : Int32) : Met l y_G_isFull w_G_isFull rm_G_isFull (gt_PreP D (va_K D gt_cl []) [.ref h0] ([(h0, .inr (1, [.int op, .int sk, .int us, .long (lN f), .int ht, .int ho, .int ct]))])) (vp_Si (fun r => gt_Bit r (¬ ho < ht))) 0 0 (fun _ => False) := by
  refine gt_pure_z (own := R_G) (by decide) rfl (Nat.le_of_ble_eq_true rfl) ?_
  intro p e s m below meth c args hx hb hml hown hts hP hK0 Q hret ls hl
  have hl : lv_has ls 1 [(0, .ref h0)] := hl
  have hK := hK0
  refine lv_aload_n hx hb d_G_isFull_0 rfl (lv_at hl 0 rfl) ?_
  refine va_get (D := D) (ci := 1) (v := .int ho) (C := R_G) (T := F_G) (N := 7) hx hb hts i_G hown hK hP 0 rfl rfl 5 (by decide) (hts _ kw_36) (fun _ h9 => h9) rfl d_G_isFull_1 ?_
  refine lv_aload_n hx hb d_G_isFull_4 rfl (lv_at hl 0 rfl) ?_
  refine va_get (D := D) (ci := 1) (v := .int ht) (C := R_G) (T := F_G) (N := 7) hx hb hts i_G hown hK hP 0 rfl rfl 4 (by decide) (hts _ kw_34) (fun _ h9 => h9) rfl d_G_isFull_5 ?_
  refine lv_icmp_lt (tgt := 15) hx hb d_G_isFull_8 (by decide) (fun c1 => ?_) (fun c1 => ?_)
  · refine lv_iconst (v := 0) hx hb d_G_isFull_15 (by decide) ?_
    exact hret _ _ _ d_G_isFull_16 (Or.inl rfl) (gt_Bit.f (fun q => q c1))
  · refine lv_iconst (v := 1) hx hb d_G_isFull_11 (by decide) ?_
    refine lv_goto (tgt := 16) hx hb d_G_isFull_12 (by decide) ?_
    exact hret _ _ _ d_G_isFull_16 (Or.inr rfl) (gt_Bit.t c1)
abbrev rm_G_mayTurn : Room := { frames := 0, cells := 0, slots := 0, locals := 0 }
set_option maxHeartbeats 4000000 in
set_option maxRecDepth 100000 in
/-- mayTurn(t) -/
theorem c_G_mayTurn (l : Launch) (D : va_G) (h0 : Nat) (op sk us : Int32) (f : Nat) (ht ho ct : Int32) (t : Nat) (hf : f ≤ 2000000000) (hT : t ≤ 2000000000) : Met l y_G_mayTurn w_G_mayTurn rm_G_mayTurn (gt_PreP D (va_K D gt_cl []) [.ref h0, .long (lN t)] ([(h0, .inr (1, [.int op, .int sk, .int us, .long (lN f), .int ht, .int ho, .int ct]))])) (vp_Si (fun r => gt_Bit r (sk = 0 ∧ (us = 0 ∨ f + 200 ≤ t)))) 0 0 (fun _ => False) := by
  refine gt_pure_z (own := R_G) (by decide) rfl (Nat.le_of_ble_eq_true rfl) ?_
  intro p e s m below meth c args hx hb hml hown hts hP hK0 Q hret ls hl
  have hl : lv_has ls 3 [(0, .ref h0), (1, .long (lN t))] := hl
  have hK := hK0
  refine lv_aload_n hx hb d_G_mayTurn_0 rfl (lv_at hl 0 rfl) ?_
  refine va_get (D := D) (ci := 1) (v := .int sk) (C := R_G) (T := F_G) (N := 7) hx hb hts i_G hown hK hP 0 rfl rfl 1 (by decide) (hts _ kw_30) (fun _ h9 => h9) rfl d_G_mayTurn_1 ?_
  refine lv_if_ne (tgt := 31) hx hb d_G_mayTurn_4 (by decide) (fun c1 => ?_) (fun c1 => ?_)
  · refine lv_iconst (v := 0) hx hb d_G_mayTurn_31 (by decide) ?_
    exact hret _ _ _ d_G_mayTurn_32 (Or.inl rfl) (gt_Bit.f (fun q => c1 q.1))
  · refine lv_aload_n hx hb d_G_mayTurn_7 rfl (lv_at hl 0 rfl) ?_
    refine va_get (D := D) (ci := 1) (v := .int us) (C := R_G) (T := F_G) (N := 7) hx hb hts i_G hown hK hP 0 rfl rfl 2 (by decide) (hts _ kw_32) (fun _ h9 => h9) rfl d_G_mayTurn_8 ?_
    refine lv_if_eq (tgt := 27) hx hb d_G_mayTurn_11 (by decide) (fun c2 => ?_) (fun c2 => ?_)
    · refine lv_iconst (v := 1) hx hb d_G_mayTurn_27 (by decide) ?_
      refine lv_goto (tgt := 32) hx hb d_G_mayTurn_28 (by decide) ?_
      exact hret _ _ _ d_G_mayTurn_32 (Or.inr rfl) (gt_Bit.t ⟨c1, Or.inl c2⟩)
    · refine lv_aload_n hx hb d_G_mayTurn_14 rfl (lv_at hl 0 rfl) ?_
      refine va_get (D := D) (ci := 1) (v := .long (lN f)) (C := R_G) (T := F_G) (N := 7) hx hb hts i_G hown hK hP 0 rfl rfl 3 (by decide) (hts _ kw_33) (fun _ h9 => h9) rfl d_G_mayTurn_15 ?_
      refine lv_ldc2 (v := lN 200) hx hb hown (hts _ kw_185) d_G_mayTurn_18 ?_
      refine lv_ladd hx hb d_G_mayTurn_21 ?_
      refine lv_lload_n hx hb d_G_mayTurn_22 rfl (lv_at hl 1 rfl) ?_
      refine W.lcmp hx hb d_G_mayTurn_23 ?_
      refine lv_if_gt (tgt := 31) hx hb d_G_mayTurn_24 (by decide) (fun c3 => ?_) (fun c3 => ?_)
      · have c3 := (lg_cmp_gt _ _).mp c3
        rw [lN_add, pk_lLT (by omega) (by omega)] at c3
        refine lv_iconst (v := 0) hx hb d_G_mayTurn_31 (by decide) ?_
        exact hret _ _ _ d_G_mayTurn_32 (Or.inl rfl) (gt_Bit.f (fun q => q.2.elim c2 (fun z => by omega)))
      · have c3 : ¬ _ := fun q => c3 ((lg_cmp_gt _ _).mpr q)
        rw [lN_add, pk_lLT (by omega) (by omega)] at c3
        refine lv_iconst (v := 1) hx hb d_G_mayTurn_27 (by decide) ?_
        refine lv_goto (tgt := 32) hx hb d_G_mayTurn_28 (by decide) ?_
        exact hret _ _ _ d_G_mayTurn_32 (Or.inr rfl) (gt_Bit.t ⟨c1, Or.inr (by omega)⟩)
abbrev rm_G_take : Room := { frames := 1, cells := 0, slots := 0, locals := 22 }
set_option maxHeartbeats 4000000 in
set_option maxRecDepth 100000 in
/-- take(wants, t, length) -/
theorem c_G_take (l : Launch) (D : va_G) (sz : Nat) (h0 : Nat) (op sk us : Int32) (f : Nat) (ht ho ct : Int32) (wa : Int32) (t ln : Nat) (hop : op = 0 ∨ op = 1) (hwa : wa = 0 ∨ wa = 1) (hf : f ≤ 2000000000) (hT : t ≤ 2000000000) : Met l y_G_take w_G_take rm_G_take (gt_Pre D (va_K D gt_cl []) [.ref h0, .int wa, .long (lN t), .long (lN ln)] ([(h0, .inr (1, [.int op, .int sk, .int us, .long (lN f), .int ht, .int ho, .int ct]))]) sz) (gt_Qi D ([(h0, .inr (1, [.int op, .int sk, .int us, .long (lN f), .int ht, .int ho, .int ct]))]) sz (fun (r u : Int32) => r = u ∧ ((sk = 0 ∧ (us = 0 ∨ f + 200 ≤ t)) → u = wa) ∧ (¬ (sk = 0 ∧ (us = 0 ∨ f + 200 ≤ t)) → u = op)) (fun u : Int32 => [(h0, .inr (1, [.int u, .int sk, .int 1, .long (lN (t + ln)), .int ht, .int ho, .int ct]))])) 0 0 (va_A ([(h0, .inr (1, [.int op, .int sk, .int us, .long (lN f), .int ht, .int ho, .int ct]))]) sz) := by
  refine gt_mut_z (own := R_G) (by decide) rfl (Nat.le_of_ble_eq_true rfl) ?_
  intro p e s m below meth c args A hx hb hml hown hts hP hK0 hD hA Q hret ls hl
  have hS : va_S A s.heap s.heap [] := va_S.rf
  have hl : lv_has ls 6 [(0, .ref h0), (1, .int wa), (2, .long (lN t)), (4, .long (lN ln))] := hl
  have hK := hK0
  refine lv_aload_n hx hb d_G_take_0 rfl (lv_at hl 0 rfl) ?_
  refine va_get (D := D) (ci := 1) (v := .int op) (C := R_G) (T := F_G) (N := 7) hx hb hts i_G hown hK hP 0 rfl rfl 0 (by decide) (hts _ kw_29) (fun _ h9 => h9) rfl d_G_take_1 ?_
  refine lv_iload_n hx hb d_G_take_4 rfl (lv_at hl 1 rfl) ?_
  refine lv_icmp_eq (tgt := 21) hx hb d_G_take_5 (by decide) (fun c1 => ?_) (fun c1 => ?_)
  · refine lv_aload_n hx hb d_G_take_21 rfl (lv_at hl 0 rfl) ?_
    refine lv_iconst (v := 1) hx hb d_G_take_22 (by decide) ?_
    refine va_put (D := D) (ci := 1) (v := .int 1) (ty := .boolean) (C := R_G) (T := F_G) (N := 7) hx hb hts i_G t_G t_G_ok n_G hown hK hP hD hS 0 rfl rfl 2 (by decide) (hts _ kw_32) (fun _ h9 => h9) rfl (by decide +kernel) rfl rfl (Nat.le_of_ble_eq_true rfl) d_G_take_23 (fun H locs hP hD hS => ?_)
    have hP : va_P D gt_cl ([(h0, .inr (1, [.int op, .int sk, .int 1, .long (lN f), .int ht, .int ho, .int ct]))]) H := hP
    have hD : va_D A ([(h0, .inr (1, [.int op, .int sk, .int 1, .long (lN f), .int ht, .int ho, .int ct]))]) := hD
    refine lv_aload_n hx hb d_G_take_26 rfl (lv_at hl 0 rfl) ?_
    refine lv_lload_n hx hb d_G_take_27 rfl (lv_at hl 2 rfl) ?_
    refine lv_lload hx hb d_G_take_28 (lv_at hl 3 rfl) ?_
    refine lv_ladd hx hb d_G_take_30 ?_
    rw [lN_add]
    refine va_put (D := D) (ci := 1) (v := .long (lN (t + ln))) (ty := .long) (C := R_G) (T := F_G) (N := 7) hx hb hts i_G t_G t_G_ok n_G hown hK hP hD hS 0 rfl rfl 3 (by decide) (hts _ kw_33) (fun _ h9 => h9) rfl (by decide +kernel) rfl rfl (Nat.le_of_ble_eq_true rfl) d_G_take_31 (fun H locs hP hD hS => ?_)
    have hP : va_P D gt_cl ([(h0, .inr (1, [.int op, .int sk, .int 1, .long (lN (t + ln)), .int ht, .int ho, .int ct]))]) H := hP
    have hD : va_D A ([(h0, .inr (1, [.int op, .int sk, .int 1, .long (lN (t + ln)), .int ht, .int ho, .int ct]))]) := hD
    refine lv_aload_n hx hb d_G_take_34 rfl (lv_at hl 0 rfl) ?_
    refine va_get (D := D) (ci := 1) (v := .int op) (C := R_G) (T := F_G) (N := 7) hx hb hts i_G hown hK hP 0 rfl rfl 0 (by decide) (hts _ kw_29) (fun _ h9 => h9) rfl d_G_take_35 ?_
    exact hret _ _ _ _ _ _ d_G_take_38 hop ⟨rfl, fun _ => c1, fun _ => rfl⟩ hP hD hS
  · refine lv_aload_n hx hb d_G_take_8 rfl (lv_at hl 0 rfl) ?_
    refine lv_lload_n hx hb d_G_take_9 rfl (lv_at hl 2 rfl) ?_
    refine vp_callSi (va_runV (As := [.long (lN t)]) (rest := []) ⟨hx, hb, hml, hown, hts⟩ (c_G_mayTurn l D h0 op sk us f ht ho ct t hf hT) (cwV 1 hts (tb_inV kw_181 kw_183 ks_G_mayTurn kw_3 kw_184) rfl rfl rfl (by decide +kernel) ⟨Nat.le_of_ble_eq_true rfl, Nat.le_of_ble_eq_true rfl⟩) (gt_PreP_V gt_K_mv (va_recv hK hP (ci := 1) (q0 := 0) rfl rfl) hP hK) rfl rfl hl.1 rfl (lv_room (Nat.le_of_ble_eq_true rfl)) d_G_take_10 ⟨Nat.zero_le _, Nat.zero_le _⟩).run (fun r hr => ?_)
    refine lv_if_eq (tgt := 21) hx hb d_G_take_13 (by decide) (fun c2 => ?_) (fun c2 => ?_)
    · refine lv_aload_n hx hb d_G_take_21 rfl (lv_at hl 0 rfl) ?_
      refine lv_iconst (v := 1) hx hb d_G_take_22 (by decide) ?_
      refine va_put (D := D) (ci := 1) (v := .int 1) (ty := .boolean) (C := R_G) (T := F_G) (N := 7) hx hb hts i_G t_G t_G_ok n_G hown hK hP hD hS 0 rfl rfl 2 (by decide) (hts _ kw_32) (fun _ h9 => h9) rfl (by decide +kernel) rfl rfl (Nat.le_of_ble_eq_true rfl) d_G_take_23 (fun H locs hP hD hS => ?_)
      have hP : va_P D gt_cl ([(h0, .inr (1, [.int op, .int sk, .int 1, .long (lN f), .int ht, .int ho, .int ct]))]) H := hP
      have hD : va_D A ([(h0, .inr (1, [.int op, .int sk, .int 1, .long (lN f), .int ht, .int ho, .int ct]))]) := hD
      refine lv_aload_n hx hb d_G_take_26 rfl (lv_at hl 0 rfl) ?_
      refine lv_lload_n hx hb d_G_take_27 rfl (lv_at hl 2 rfl) ?_
      refine lv_lload hx hb d_G_take_28 (lv_at hl 3 rfl) ?_
      refine lv_ladd hx hb d_G_take_30 ?_
      rw [lN_add]
      refine va_put (D := D) (ci := 1) (v := .long (lN (t + ln))) (ty := .long) (C := R_G) (T := F_G) (N := 7) hx hb hts i_G t_G t_G_ok n_G hown hK hP hD hS 0 rfl rfl 3 (by decide) (hts _ kw_33) (fun _ h9 => h9) rfl (by decide +kernel) rfl rfl (Nat.le_of_ble_eq_true rfl) d_G_take_31 (fun H locs hP hD hS => ?_)
      have hP : va_P D gt_cl ([(h0, .inr (1, [.int op, .int sk, .int 1, .long (lN (t + ln)), .int ht, .int ho, .int ct]))]) H := hP
      have hD : va_D A ([(h0, .inr (1, [.int op, .int sk, .int 1, .long (lN (t + ln)), .int ht, .int ho, .int ct]))]) := hD
      refine lv_aload_n hx hb d_G_take_34 rfl (lv_at hl 0 rfl) ?_
      refine va_get (D := D) (ci := 1) (v := .int op) (C := R_G) (T := F_G) (N := 7) hx hb hts i_G hown hK hP 0 rfl rfl 0 (by decide) (hts _ kw_29) (fun _ h9 => h9) rfl d_G_take_35 ?_
      exact hret _ _ _ _ _ _ d_G_take_38 hop ⟨rfl, fun q => absurd q (hr.no c2), fun _ => rfl⟩ hP hD hS
    · refine lv_aload_n hx hb d_G_take_16 rfl (lv_at hl 0 rfl) ?_
      refine lv_iload_n hx hb d_G_take_17 rfl (lv_at hl 1 rfl) ?_
      refine va_put (D := D) (ci := 1) (v := .int wa) (ty := .boolean) (C := R_G) (T := F_G) (N := 7) hx hb hts i_G t_G t_G_ok n_G hown hK hP hD hS 0 rfl rfl 0 (by decide) (hts _ kw_29) (fun _ h9 => h9) rfl (by decide +kernel) (gt_bool hwa).1 (gt_bool hwa).2.1 (Nat.le_of_ble_eq_true rfl) d_G_take_18 (fun H locs hP hD hS => ?_)
      have hP : va_P D gt_cl ([(h0, .inr (1, [.int wa, .int sk, .int us, .long (lN f), .int ht, .int ho, .int ct]))]) H := hP
      have hD : va_D A ([(h0, .inr (1, [.int wa, .int sk, .int us, .long (lN f), .int ht, .int ho, .int ct]))]) := hD
      refine lv_aload_n hx hb d_G_take_21 rfl (lv_at hl 0 rfl) ?_
      refine lv_iconst (v := 1) hx hb d_G_take_22 (by decide) ?_
      refine va_put (D := D) (ci := 1) (v := .int 1) (ty := .boolean) (C := R_G) (T := F_G) (N := 7) hx hb hts i_G t_G t_G_ok n_G hown hK hP hD hS 0 rfl rfl 2 (by decide) (hts _ kw_32) (fun _ h9 => h9) rfl (by decide +kernel) rfl rfl (Nat.le_of_ble_eq_true rfl) d_G_take_23 (fun H locs hP hD hS => ?_)
      have hP : va_P D gt_cl ([(h0, .inr (1, [.int wa, .int sk, .int 1, .long (lN f), .int ht, .int ho, .int ct]))]) H := hP
      have hD : va_D A ([(h0, .inr (1, [.int wa, .int sk, .int 1, .long (lN f), .int ht, .int ho, .int ct]))]) := hD
      refine lv_aload_n hx hb d_G_take_26 rfl (lv_at hl 0 rfl) ?_
      refine lv_lload_n hx hb d_G_take_27 rfl (lv_at hl 2 rfl) ?_
      refine lv_lload hx hb d_G_take_28 (lv_at hl 3 rfl) ?_
      refine lv_ladd hx hb d_G_take_30 ?_
      rw [lN_add]
      refine va_put (D := D) (ci := 1) (v := .long (lN (t + ln))) (ty := .long) (C := R_G) (T := F_G) (N := 7) hx hb hts i_G t_G t_G_ok n_G hown hK hP hD hS 0 rfl rfl 3 (by decide) (hts _ kw_33) (fun _ h9 => h9) rfl (by decide +kernel) rfl rfl (Nat.le_of_ble_eq_true rfl) d_G_take_31 (fun H locs hP hD hS => ?_)
      have hP : va_P D gt_cl ([(h0, .inr (1, [.int wa, .int sk, .int 1, .long (lN (t + ln)), .int ht, .int ho, .int ct]))]) H := hP
      have hD : va_D A ([(h0, .inr (1, [.int wa, .int sk, .int 1, .long (lN (t + ln)), .int ht, .int ho, .int ct]))]) := hD
      refine lv_aload_n hx hb d_G_take_34 rfl (lv_at hl 0 rfl) ?_
      refine va_get (D := D) (ci := 1) (v := .int wa) (C := R_G) (T := F_G) (N := 7) hx hb hts i_G hown hK hP 0 rfl rfl 0 (by decide) (hts _ kw_29) (fun _ h9 => h9) rfl d_G_take_35 ?_
      exact hret _ _ _ _ _ _ d_G_take_38 hwa ⟨rfl, fun _ => rfl, fun q => absurd (hr.yes c2) q⟩ hP hD hS
abbrev rm_G_add : Room := { frames := 0, cells := 0, slots := 0, locals := 0 }
set_option maxHeartbeats 4000000 in
set_option maxRecDepth 100000 in
/-- add() -/
theorem c_G_add (l : Launch) (D : va_G) (sz : Nat) (h0 : Nat) (op sk us : Int32) (f : Nat) (ht ho ct : Int32) : Met l y_G_add w_G_add rm_G_add (gt_Pre D (va_K D gt_cl []) [.ref h0] ([(h0, .inr (1, [.int op, .int sk, .int us, .long (lN f), .int ht, .int ho, .int ct]))]) sz) (gt_Qv D ([(h0, .inr (1, [.int op, .int sk, .int us, .long (lN f), .int ht, .int ho, .int ct]))]) sz (fun _ : Unit => True) (fun _ : Unit => [(h0, .inr (1, [.int op, .int sk, .int us, .long (lN f), .int ht, .int (ho + 1), .int (ct + 1)]))])) 0 0 (va_A ([(h0, .inr (1, [.int op, .int sk, .int us, .long (lN f), .int ht, .int ho, .int ct]))]) sz) := by
  refine gt_mut_v (own := R_G) (by decide) rfl (Nat.le_of_ble_eq_true rfl) ?_
  intro p e s m below meth c args A hx hb hml hown hnm hts hP hK0 hD hA Q hret ls hl
  have hS : va_S A s.heap s.heap [] := va_S.rf
  have hl : lv_has ls 1 [(0, .ref h0)] := hl
  have hK := hK0
  refine lv_aload_n hx hb d_G_add_0 rfl (lv_at hl 0 rfl) ?_
  refine lv_dup hx hb d_G_add_1 rfl ?_
  refine va_get (D := D) (ci := 1) (v := .int ho) (C := R_G) (T := F_G) (N := 7) hx hb hts i_G hown hK hP 0 rfl rfl 5 (by decide) (hts _ kw_36) (fun _ h9 => h9) rfl d_G_add_2 ?_
  refine lv_iconst (v := 1) hx hb d_G_add_5 (by decide) ?_
  refine lv_iadd hx hb d_G_add_6 ?_
  refine va_put (D := D) (ci := 1) (v := .int (ho + 1)) (ty := .int) (C := R_G) (T := F_G) (N := 7) hx hb hts i_G t_G t_G_ok n_G hown hK hP hD hS 0 rfl rfl 5 (by decide) (hts _ kw_36) (fun _ h9 => h9) rfl (by decide +kernel) rfl rfl (Nat.le_of_ble_eq_true rfl) d_G_add_7 (fun H locs hP hD hS => ?_)
  have hP : va_P D gt_cl ([(h0, .inr (1, [.int op, .int sk, .int us, .long (lN f), .int ht, .int (ho + 1), .int ct]))]) H := hP
  have hD : va_D A ([(h0, .inr (1, [.int op, .int sk, .int us, .long (lN f), .int ht, .int (ho + 1), .int ct]))]) := hD
  refine lv_aload_n hx hb d_G_add_10 rfl (lv_at hl 0 rfl) ?_
  refine lv_dup hx hb d_G_add_11 rfl ?_
  refine va_get (D := D) (ci := 1) (v := .int ct) (C := R_G) (T := F_G) (N := 7) hx hb hts i_G hown hK hP 0 rfl rfl 6 (by decide) (hts _ kw_38) (fun _ h9 => h9) rfl d_G_add_12 ?_
  refine lv_iconst (v := 1) hx hb d_G_add_15 (by decide) ?_
  refine lv_iadd hx hb d_G_add_16 ?_
  refine va_put (D := D) (ci := 1) (v := .int (ct + 1)) (ty := .int) (C := R_G) (T := F_G) (N := 7) hx hb hts i_G t_G t_G_ok n_G hown hK hP hD hS 0 rfl rfl 6 (by decide) (hts _ kw_38) (fun _ h9 => h9) rfl (by decide +kernel) rfl rfl (Nat.le_of_ble_eq_true rfl) d_G_add_17 (fun H locs hP hD hS => ?_)
  have hP : va_P D gt_cl ([(h0, .inr (1, [.int op, .int sk, .int us, .long (lN f), .int ht, .int (ho + 1), .int (ct + 1)]))]) H := hP
  have hD : va_D A ([(h0, .inr (1, [.int op, .int sk, .int us, .long (lN f), .int ht, .int (ho + 1), .int (ct + 1)]))]) := hD
  exact hret _ _ _ _ () d_G_add_20 trivial hP hD hS
end
section
/-! NUMBERS: what the checks of arguments say. -/
theorem gt_num_item {x : Int32} {n : Nat} (hn : n < 2 ^ 31) (h1 : ¬ x ≤ 0) (h2 : ¬ nI n < x) : ∃ k, 1 ≤ k ∧ k ≤ n ∧ x = nI k := by
  obtain ⟨j, hj, rfl⟩ := nI_of (x := x) (fun q => h1 (by rw [Int32.lt_iff_toInt_lt] at q; rw [Int32.le_iff_toInt_le]; omega))
  rw [nI_ltI hn hj] at h2
  refine ⟨j, ?_, by omega, rfl⟩
  rcases Nat.eq_zero_or_pos j with q | q
  · subst q
    exact absurd (by decide) h1
  · exact q
theorem gt_num_item0 {x : Int32} {n : Nat} (hn : n < 2 ^ 31) (h : x ≤ 0) : ¬ ∃ k, 1 ≤ k ∧ k ≤ n ∧ x = nI k := by
  rintro ⟨k, h1, h2, rfl⟩
  exact nI_nle (by omega) (by omega) h
theorem gt_num_item1 {x : Int32} {n : Nat} (hn : n < 2 ^ 31) (h : nI n < x) : ¬ ∃ k, 1 ≤ k ∧ k ≤ n ∧ x = nI k := by
  rintro ⟨k, h1, h2, rfl⟩
  rw [nI_ltI hn (by omega)] at h
  omega
theorem gt_num_bin {x : Int32} {n : Nat} (hn : n < 2 ^ 31) (h1 : ¬ x < 0) (h2 : ¬ nI n ≤ x) : ∃ k, k < n ∧ x = nI k := by
  obtain ⟨j, hj, rfl⟩ := nI_of h1
  rw [nI_leI hn hj] at h2
  exact ⟨j, by omega, rfl⟩
theorem gt_num_bin0 {x : Int32} {n : Nat} (hn : n < 2 ^ 31) (h : x < 0) : ¬ ∃ k, k < n ∧ x = nI k := by
  rintro ⟨k, h1, rfl⟩
  exact nI_pos (by omega) h
theorem gt_num_bin1 {x : Int32} {n : Nat} (hn : n < 2 ^ 31) (h : nI n ≤ x) : ¬ ∃ k, k < n ∧ x = nI k := by
  rintro ⟨k, h1, rfl⟩
  rw [nI_leI hn (by omega)] at h
  omega
theorem gt_num_in {x : Int32} {a b : Nat} (ha : a < 2 ^ 31) (hb : b < 2 ^ 31) : ¬ (x.toInt64 < lN a ∨ lN b < x.toInt64) ↔ ∃ k, a ≤ k ∧ k ≤ b ∧ x = nI k := by
  rw [Int64.lt_iff_toInt_lt, Int64.lt_iff_toInt_lt, Int32.toInt_toInt64, lN_toInt ha, lN_toInt hb]
  constructor
  · intro h
    refine ⟨x.toInt.toNat, by omega, by omega, Int32.toInt_inj.mp ?_⟩
    rw [nI_toInt (by omega)]
    omega
  · rintro ⟨k, h1, h2, rfl⟩
    rw [nI_toInt (by omega)]
    omega
theorem gt_num_time {t : Int64} {a b : Nat} (ha : a < 2 ^ 31) (hb : b < 2 ^ 31) : ¬ (t < lN a ∨ lN b < t) ↔ ∃ k, a ≤ k ∧ k ≤ b ∧ t = lN k := by
  rw [Int64.lt_iff_toInt_lt, Int64.lt_iff_toInt_lt, lN_toInt ha, lN_toInt hb]
  constructor
  · intro h
    refine ⟨t.toInt.toNat, by omega, by omega, Int64.toInt_inj.mp ?_⟩
    rw [lN_toInt (by omega)]
    omega
  · rintro ⟨k, h1, h2, rfl⟩
    rw [lN_toInt (by omega)]
    omega
theorem gt_oI_0 {p : gt_IS} : gt_oI p = 0 ↔ p.2.1 < 0 := by
  unfold gt_oI
  split
  · simp [*]
  · simp [*]
theorem gt_oI_b (p : gt_IS) : gt_oI p = 0 ∨ gt_oI p = 1 := by
  unfold gt_oI
  split <;> simp
end
section
/-! THE CLASS: checks, the next item, an item leaves. -/
abbrev rm_X_isItem : Room := { frames := 0, cells := 0, slots := 0, locals := 0 }
set_option maxHeartbeats 4000000 in
set_option maxRecDepth 100000 in
/-- isItem(x) -/
theorem c_X_isItem (l : Launch) (D : va_G) (xa : Nat → Nat) (xc : Nat → ClassId) (ad : Nat → Nat) (S : gt_SS) (lt : Nat → Int32) (d : gt_Dy) (n F now co : Nat) (told rej : Int32) (oI oB : Nat → Int32) (oT : Nat → Int64) (x : Int32) (hn : n ≤ 400) : Met l y_X_isItem w_X_isItem rm_X_isItem (gt_PreP D (gt_XK D xc) [.ref (xa 0), .int x] (gt_XW xa xc ad S lt d n F now co told rej oI oB oT)) (vp_Si (fun r => gt_Bit r (∃ k, 1 ≤ k ∧ k ≤ n ∧ x = nI k))) 0 0 (fun _ => False) := by
  refine gt_pure_z (own := R_X) (by decide) rfl (Nat.le_of_ble_eq_true rfl) ?_
  intro p e s m below meth c args hx hb hml hown hts hP hK0 Q hret ls hl
  have hl : lv_has ls 2 [(0, .ref (xa 0)), (1, .int x)] := hl
  have hK : va_K D gt_cl (gt_Xt xc) s := hK0.1
  have hN := hK0.2
  refine lv_iload_n hx hb d_X_isItem_0 rfl (lv_at hl 1 rfl) ?_
  refine lv_if_le (tgt := 16) hx hb d_X_isItem_1 (by decide) (fun c1 => ?_) (fun c1 => ?_)
  · refine lv_iconst (v := 0) hx hb d_X_isItem_16 (by decide) ?_
    exact hret _ _ _ d_X_isItem_17 (Or.inl rfl) (gt_Bit.f (gt_num_item0 (by omega) c1))
  · refine lv_iload_n hx hb d_X_isItem_4 rfl (lv_at hl 1 rfl) ?_
    refine lv_aload_n hx hb d_X_isItem_5 rfl (lv_at hl 0 rfl) ?_
    refine va_get (D := D) (ci := 0) (v := .int (nI n)) (C := R_X) (T := F_X) (N := 12) hx hb hts i_X hown hK hP 0 rfl rfl 3 (by decide) (hts _ kw_60) (fun _ h9 => h9) rfl d_X_isItem_6 ?_
    refine lv_icmp_gt (tgt := 16) hx hb d_X_isItem_9 (by decide) (fun c2 => ?_) (fun c2 => ?_)
    · refine lv_iconst (v := 0) hx hb d_X_isItem_16 (by decide) ?_
      exact hret _ _ _ d_X_isItem_17 (Or.inl rfl) (gt_Bit.f (gt_num_item1 (by omega) c2))
    · refine lv_iconst (v := 1) hx hb d_X_isItem_12 (by decide) ?_
      refine lv_goto (tgt := 17) hx hb d_X_isItem_13 (by decide) ?_
      exact hret _ _ _ d_X_isItem_17 (Or.inr rfl) (gt_Bit.t (gt_num_item (by omega) c1 c2))
abbrev rm_X_isBin : Room := { frames := 0, cells := 0, slots := 0, locals := 0 }
set_option maxHeartbeats 4000000 in
set_option maxRecDepth 100000 in
/-- isBin(x) -/
theorem c_X_isBin (l : Launch) (D : va_G) (xa : Nat → Nat) (xc : Nat → ClassId) (ad : Nat → Nat) (S : gt_SS) (lt : Nat → Int32) (d : gt_Dy) (n F now co : Nat) (told rej : Int32) (oI oB : Nat → Int32) (oT : Nat → Int64) (x : Int32) (hG : S.1 ≤ 12) : Met l y_X_isBin w_X_isBin rm_X_isBin (gt_PreP D (gt_XK D xc) [.ref (xa 0), .int x] (gt_XW xa xc ad S lt d n F now co told rej oI oB oT)) (vp_Si (fun r => gt_Bit r (∃ k, k < S.1 ∧ x = nI k))) 0 0 (fun _ => False) := by
  refine gt_pure_z (own := R_X) (by decide) rfl (Nat.le_of_ble_eq_true rfl) ?_
  intro p e s m below meth c args hx hb hml hown hts hP hK0 Q hret ls hl
  have hl : lv_has ls 2 [(0, .ref (xa 0)), (1, .int x)] := hl
  have hK : va_K D gt_cl (gt_Xt xc) s := hK0.1
  have hN := hK0.2
  refine lv_iload_n hx hb d_X_isBin_0 rfl (lv_at hl 1 rfl) ?_
  refine lv_if_lt (tgt := 16) hx hb d_X_isBin_1 (by decide) (fun c1 => ?_) (fun c1 => ?_)
  · refine lv_iconst (v := 0) hx hb d_X_isBin_16 (by decide) ?_
    exact hret _ _ _ d_X_isBin_17 (Or.inl rfl) (gt_Bit.f (gt_num_bin0 (by omega) c1))
  · refine lv_iload_n hx hb d_X_isBin_4 rfl (lv_at hl 1 rfl) ?_
    refine lv_aload_n hx hb d_X_isBin_5 rfl (lv_at hl 0 rfl) ?_
    refine va_get (D := D) (ci := 0) (v := .int (nI S.1)) (C := R_X) (T := F_X) (N := 12) hx hb hts i_X hown hK hP 0 rfl rfl 0 (by decide) (hts _ kw_57) (fun _ h9 => h9) rfl d_X_isBin_6 ?_
    refine lv_icmp_ge (tgt := 16) hx hb d_X_isBin_9 (by decide) (fun c2 => ?_) (fun c2 => ?_)
    · refine lv_iconst (v := 0) hx hb d_X_isBin_16 (by decide) ?_
      exact hret _ _ _ d_X_isBin_17 (Or.inl rfl) (gt_Bit.f (gt_num_bin1 (by omega) c2))
    · refine lv_iconst (v := 1) hx hb d_X_isBin_12 (by decide) ?_
      refine lv_goto (tgt := 17) hx hb d_X_isBin_13 (by decide) ?_
      exact hret _ _ _ d_X_isBin_17 (Or.inr rfl) (gt_Bit.t (gt_num_bin (by omega) c1 c2))
abbrev rm_X_isNoTime : Room := { frames := 1, cells := 0, slots := 0, locals := 25 }
set_option maxHeartbeats 4000000 in
set_option maxRecDepth 100000 in
/-- isNoTime(t) -/
theorem c_X_isNoTime (l : Launch) (D : va_G) (xa : Nat → Nat) (xc : Nat → ClassId) (ad : Nat → Nat) (S : gt_SS) (lt : Nat → Int32) (d : gt_Dy) (n F now co : Nat) (told rej : Int32) (oI oB : Nat → Int32) (oT : Nat → Int64) (t : Int64) : Met l y_X_isNoTime w_X_isNoTime rm_X_isNoTime (gt_PreP D (gt_XK D xc) [.ref (xa 0), .long t] (gt_XW xa xc ad S lt d n F now co told rej oI oB oT)) (vp_Si (fun r => gt_Bit r (t < lN now ∨ lN 1000000000 < t))) 0 0 (fun _ => False) := by
  refine gt_pure_z (own := R_X) (by decide) rfl (Nat.le_of_ble_eq_true rfl) ?_
  intro p e s m below meth c args hx hb hml hown hts hP hK0 Q hret ls hl
  have hl : lv_has ls 3 [(0, .ref (xa 0)), (1, .long t)] := hl
  have hK : va_K D gt_cl (gt_Xt xc) s := hK0.1
  have hN := hK0.2
  refine lv_lload_n hx hb d_X_isNoTime_0 rfl (lv_at hl 1 rfl) ?_
  refine lv_aload_n hx hb d_X_isNoTime_1 rfl (lv_at hl 0 rfl) ?_
  refine va_get (D := D) (ci := 0) (v := .long (lN now)) (C := R_X) (T := F_X) (N := 12) hx hb hts i_X hown hK hP 0 rfl rfl 5 (by decide) (hts _ kw_62) (fun _ h9 => h9) rfl d_X_isNoTime_2 ?_
  refine lv_ldc2 (v := lN 1000000000) hx hb hown (hts _ kw_102) d_X_isNoTime_5 ?_
  refine vp_callSi (va_runS (As := [.long t, .long (lN now), .long (lN 1000000000)]) (rest := []) ⟨hx, hb, hml, hown, hts⟩ (c_X_outside l D t (lN now) (lN 1000000000)) (cwS 3 hts (tb_inS kw_99 kw_100 kw_1 kw_101) rfl rfl rfl (by decide +kernel) ⟨Nat.le_of_ble_eq_true rfl, Nat.le_of_ble_eq_true rfl⟩) (gt_PreP_S gt_T_mv gt_P0 trivial) rfl rfl hl.1 rfl (lv_room (Nat.le_of_ble_eq_true rfl)) d_X_isNoTime_8 ⟨Nat.zero_le _, Nat.zero_le _⟩).run (fun r hr => ?_)
  exact hret _ _ _ d_X_isNoTime_11 hr.zo hr
/-- the first of those that come first, among the items from F on and below k -/
def gt_NI (S : gt_SS) (d : gt_Dy) (F k b : Nat) : Prop := (b = 0 ∧ ∀ i, F ≤ i → i < k → ¬ (d.1 i).2.1 < 0) ∨ (F ≤ b ∧ b < k ∧ (d.1 b).2.1 < 0 ∧ ∀ i, F ≤ i → i < k → (d.1 i).2.1 < 0 → i ≠ b → gt_fr S.2.1 b (d.1 b).1 < gt_fr S.2.1 i (d.1 i).1 ∨ (gt_fr S.2.1 b (d.1 b).1 = gt_fr S.2.1 i (d.1 i).1 ∧ b < i))
theorem gt_NI_0 (S : gt_SS) (d : gt_Dy) (F : Nat) : gt_NI S d F F 0 := Or.inl ⟨rfl, fun i h1 h2 => by omega⟩
theorem gt_NI_skip {S : gt_SS} {d : gt_Dy} {F k b : Nat} (h : gt_NI S d F k b) (hk : ¬ (d.1 k).2.1 < 0) : gt_NI S d F (k + 1) b := by
  rcases h with ⟨h1, h2⟩ | ⟨h1, h2, h3, h4⟩
  · refine Or.inl ⟨h1, fun i a b => ?_⟩
    by_cases e : i = k
    · rw [e]; exact hk
    · exact h2 i a (by omega)
  · refine Or.inr ⟨h1, by omega, h3, fun i a b c => ?_⟩
    by_cases e : i = k
    · subst e; exact absurd c hk
    · exact h4 i a (by omega) c
theorem gt_NI_first {S : gt_SS} {d : gt_Dy} {F k : Nat} (h : gt_NI S d F k 0) (hF : 1 ≤ F) (hk : (d.1 k).2.1 < 0) (h2 : F ≤ k) : gt_NI S d F (k + 1) k := by
  rcases h with ⟨-, h3⟩ | ⟨h1, -⟩
  · exact Or.inr ⟨h2, by omega, hk, fun i a b c e => absurd c (h3 i a (by omega))⟩
  · omega
theorem gt_NI_less {S : gt_SS} {d : gt_Dy} {F k b : Nat} (h : gt_NI S d F k b) (hb : ¬ b = 0) (hk : (d.1 k).2.1 < 0) (h2 : F ≤ k) (hl : gt_fr S.2.1 k (d.1 k).1 < gt_fr S.2.1 b (d.1 b).1) : gt_NI S d F (k + 1) k := by
  rcases h with ⟨h1, -⟩ | ⟨h1, h3, h4, h5⟩
  · exact absurd h1 hb
  · refine Or.inr ⟨h2, by omega, hk, fun i a c e f => Or.inl ?_⟩
    by_cases q : i = b
    · subst q; exact hl
    · have := h5 i a (by omega) e q
      omega
theorem gt_NI_keep {S : gt_SS} {d : gt_Dy} {F k b : Nat} (h : gt_NI S d F k b) (hb : ¬ b = 0) (hl : ¬ gt_fr S.2.1 k (d.1 k).1 < gt_fr S.2.1 b (d.1 b).1) : gt_NI S d F (k + 1) b := by
  rcases h with ⟨h1, -⟩ | ⟨h1, h3, h4, h5⟩
  · exact absurd h1 hb
  · refine Or.inr ⟨h1, by omega, h4, fun i a c e f => ?_⟩
    by_cases q : i = k
    · subst q; omega
    · exact h5 i a (by omega) e f
abbrev rm_X_nextItem : Room := { frames := 2, cells := 0, slots := 0, locals := 41 }
set_option maxHeartbeats 4000000 in
set_option maxRecDepth 100000 in
/-- nextItem() -/
theorem c_X_nextItem (l : Launch) (D : va_G) (xa : Nat → Nat) (xc : Nat → ClassId) (ad : Nat → Nat) (S : gt_SS) (lt : Nat → Int32) (d : gt_Dy) (n F now co : Nat) (told rej : Int32) (oI oB : Nat → Int32) (oT : Nat → Int64) (hF1 : 1 ≤ F) (hF2 : F ≤ n + 1) (hn : n ≤ 400) (hI : ∀ i, 1 ≤ i → i ≤ n → (d.1 i).1 ≤ 12 ∧ S.2.1 i ≤ 1000000000) : Met l y_X_nextItem w_X_nextItem rm_X_nextItem (gt_PreP D (gt_XK D xc) [.ref (xa 0)] (gt_XW xa xc ad S lt d n F now co told rej oI oB oT)) (vp_Si (fun r => ∃ b, b ≤ n ∧ r = nI b ∧ gt_NI S d F (n + 1) b)) 0 0 (fun _ => False) := by
  refine gt_pure_i (own := R_X) (by decide) rfl (Nat.le_of_ble_eq_true rfl) ?_
  intro p e s m below meth c args hx hb hml hown hts hP hK0 Q hret ls hl
  have hl : lv_has ls 3 [(0, .ref (xa 0))] := hl
  have hK : va_K D gt_cl (gt_Xt xc) s := hK0.1
  have hN := hK0.2
  have loop : ∀ (q k b : Nat), F ≤ k → k ≤ n + 1 → n + 1 < k + q → b ≤ n → gt_NI S d F k b → ∀ ls, lv_has ls 3 [(2, .int (nI k)), (1, .int (nI b)), (0, .ref (xa 0))] → W p l e rm_X_nextItem s m args below meth c s.heap [] 0 0 Q (F0 m 7 ls []) := by
    intro q
    induction q with
    | zero => intro k b h1 h2 h3; omega
    | succ q ih =>
      intro k b h1 h2 h3 hbn hNI ls hl
      refine lv_iload_n hx hb d_X_nextItem_7 rfl (lv_at hl 0 rfl) ?_
      refine lv_aload_n hx hb d_X_nextItem_8 rfl (lv_at hl 2 rfl) ?_
      refine va_get (D := D) (ci := 0) (v := .int (nI n)) (C := R_X) (T := F_X) (N := 12) hx hb hts i_X hown hK hP 0 rfl rfl 3 (by decide) (hts _ kw_60) (fun _ h9 => h9) rfl d_X_nextItem_9 ?_
      refine lv_icmp_gt (tgt := 68) hx hb d_X_nextItem_12 (by decide) (fun c1 => ?_) (fun c1 => ?_)
      · rw [nI_ltI (by omega) (by omega)] at c1
        obtain rfl : k = n + 1 := by omega
        refine lv_iload_n hx hb d_X_nextItem_68 rfl (lv_at hl 1 rfl) ?_
        exact hret _ _ _ d_X_nextItem_69 ⟨b, hbn, rfl, hNI⟩
      · rw [nI_ltI (by omega) (by omega)] at c1
        have hk := hI k (by omega) (by omega)
        refine lv_aload_n hx hb d_X_nextItem_15 rfl (lv_at hl 2 rfl) ?_
        refine va_get (D := D) (ci := 0) (v := .ref (xa 2)) (C := R_X) (T := F_X) (N := 12) hx hb hts i_X hown hK hP 0 rfl rfl 2 (by decide) (hts _ kw_59) (fun _ h9 => h9) rfl d_X_nextItem_16 ?_
        refine lv_iload_n hx hb d_X_nextItem_19 rfl (lv_at hl 0 rfl) ?_
        refine gt_qald (k := k) (b := ad (100 + k)) (C := "GateTimes$Item") hx hb hK hP 2 1 rfl rfl (by omega) (by decide) (gt_fi_at (by omega) (by omega)) d_X_nextItem_20 ?_
        refine gt_getP (X := gt_XH xa xc ad S n F now co told rej oI oB oT) (ad := ad) (K := gt_pk S.1 n) (f := gt_pf S lt d) (key := 100 + k) (D := D) (ci := 2) (v := .int (gt_oI (d.1 k))) (C := R_I) (T := F_I) (N := 6) hx hb hts i_I hown hK hP (gt_pk_i (by omega) (by omega)) (gt_pf_i S lt d k) rfl 5 (by decide) (va_Nw.use rfl (hN (.fieldLinkNest "GateTimes" 75 "GateTimes$Item" "isOut" "Z" "GateTimes") (by decide +kernel))) (fun _ h9 => h9) rfl d_X_nextItem_21 ?_
        refine lv_if_eq (tgt := 30) hx hb d_X_nextItem_24 (by decide) (fun c2 => ?_) (fun c2 => ?_)
        · rw [gt_oI_0] at c2
          refine lv_iload_n hx hb d_X_nextItem_30 rfl (lv_at hl 1 rfl) ?_
          refine lv_if_eq (tgt := 56) hx hb d_X_nextItem_31 (by decide) (fun c3 => ?_) (fun c3 => ?_)
          · have hb0 : b = 0 := by
              rcases Nat.eq_zero_or_pos b with q | q
              · exact q
              · exact absurd c3 (nI_ne0 q (by omega))
            subst hb0
            refine lv_iload_n hx hb d_X_nextItem_56 rfl (lv_at hl 0 rfl) ?_
            refine lv_goto (tgt := 61) hx hb d_X_nextItem_57 (by decide) ?_
            refine lv_istore_n (lv' := [(1, .int (nI k)), (2, .int (nI k)), (0, .ref (xa 0))]) hx hb d_X_nextItem_61 rfl hl (by decide) rfl (fun ls hl => ?_)
            refine lv_iinc (v := nI (k + 1)) (lv' := [(2, .int (nI (k + 1))), (1, .int (nI k)), (0, .ref (xa 0))]) hx hb d_X_nextItem_62 hl (k := 1) rfl (nI_1 _) (by decide) rfl (fun ls hl => ?_)
            refine lv_goto (tgt := 7) hx hb d_X_nextItem_65 (by decide) ?_
            exact ih (k + 1) k (by omega) (by omega) (by omega) (by omega) (gt_NI_first hNI hF1 c2 h1) ls (lv_sub hl [0, 1, 2] rfl)
          · have hb0 : ¬ b = 0 := fun q => c3 (by rw [q]; exact nI_0)
            have hb1 : 1 ≤ b := by omega
            have hbI := hI b hb1 (by omega)
            refine lv_aload_n hx hb d_X_nextItem_34 rfl (lv_at hl 2 rfl) ?_
            refine va_get (D := D) (ci := 0) (v := .ref (xa 2)) (C := R_X) (T := F_X) (N := 12) hx hb hts i_X hown hK hP 0 rfl rfl 2 (by decide) (hts _ kw_59) (fun _ h9 => h9) rfl d_X_nextItem_35 ?_
            refine lv_iload_n hx hb d_X_nextItem_38 rfl (lv_at hl 0 rfl) ?_
            refine gt_qald (k := k) (b := ad (100 + k)) (C := "GateTimes$Item") hx hb hK hP 2 1 rfl rfl (by omega) (by decide) (gt_fi_at (by omega) (by omega)) d_X_nextItem_39 ?_
            refine vp_callSl (va_runV (As := []) (rest := []) ⟨hx, hb, hml, hown, hts⟩ (c_I_time l D (ad (100 + k)) (S.2.1 k) (lN (S.2.2.1 k)) (S.2.2.2.1 k) (lt k) (d.1 k).1 (gt_oI (d.1 k)) (by omega)) (cwV 0 hts (tb_inV kw_156 kw_157 kw_158 kw_5 kw_159) rfl rfl rfl (by decide +kernel) ⟨Nat.le_of_ble_eq_true rfl, Nat.le_of_ble_eq_true rfl⟩) (gt_PreP_V gt_K_mv (gt_recvP (X := gt_XH xa xc ad S n F now co told rej oI oB oT) (ad := ad) (K := gt_pk S.1 n) (f := gt_pf S lt d) (key := 100 + k) hK hP (gt_pk_i (by omega) (by omega)) (gt_pf_i S lt d k) rfl) (gt_pl_one (X := gt_XH xa xc ad S n F now co told rej oI oB oT) (ad := ad) (K := gt_pk S.1 n) (f := gt_pf S lt d) (k := 100 + k) hP (gt_pk_i (by omega) (by omega)) (gt_pf_i S lt d k)) (hK.sub [] rfl)) rfl rfl hl.1 rfl (lv_room (Nat.le_of_ble_eq_true rfl)) d_X_nextItem_40 ⟨Nat.zero_le _, Nat.zero_le _⟩).run (fun r1 hr1 => ?_)
            have hr1 : r1 = lN (gt_fr S.2.1 k (d.1 k).1) := hr1
            subst hr1
            refine lv_aload_n hx hb d_X_nextItem_43 rfl (lv_at hl 2 rfl) ?_
            refine va_get (D := D) (ci := 0) (v := .ref (xa 2)) (C := R_X) (T := F_X) (N := 12) hx hb hts i_X hown hK hP 0 rfl rfl 2 (by decide) (hts _ kw_59) (fun _ h9 => h9) rfl d_X_nextItem_44 ?_
            refine lv_iload_n hx hb d_X_nextItem_47 rfl (lv_at hl 1 rfl) ?_
            refine gt_qald (k := b) (b := ad (100 + b)) (C := "GateTimes$Item") hx hb hK hP 2 1 rfl rfl (by omega) (by decide) (gt_fi_at (by omega) (by omega)) d_X_nextItem_48 ?_
            refine vp_callSl (va_runV (As := []) (rest := [.long (lN (gt_fr S.2.1 k (d.1 k).1))]) ⟨hx, hb, hml, hown, hts⟩ (c_I_time l D (ad (100 + b)) (S.2.1 b) (lN (S.2.2.1 b)) (S.2.2.2.1 b) (lt b) (d.1 b).1 (gt_oI (d.1 b)) (by omega)) (cwV 0 hts (tb_inV kw_156 kw_157 kw_158 kw_5 kw_159) rfl rfl rfl (by decide +kernel) ⟨Nat.le_of_ble_eq_true rfl, Nat.le_of_ble_eq_true rfl⟩) (gt_PreP_V gt_K_mv (gt_recvP (X := gt_XH xa xc ad S n F now co told rej oI oB oT) (ad := ad) (K := gt_pk S.1 n) (f := gt_pf S lt d) (key := 100 + b) hK hP (gt_pk_i (by omega) (by omega)) (gt_pf_i S lt d b) rfl) (gt_pl_one (X := gt_XH xa xc ad S n F now co told rej oI oB oT) (ad := ad) (K := gt_pk S.1 n) (f := gt_pf S lt d) (k := 100 + b) hP (gt_pk_i (by omega) (by omega)) (gt_pf_i S lt d b)) (hK.sub [] rfl)) rfl rfl hl.1 rfl (lv_room (Nat.le_of_ble_eq_true rfl)) d_X_nextItem_49 ⟨Nat.zero_le _, Nat.zero_le _⟩).run (fun r2 hr2 => ?_)
            have hr2 : r2 = lN (gt_fr S.2.1 b (d.1 b).1) := hr2
            subst hr2
            refine W.lcmp hx hb d_X_nextItem_52 ?_
            refine lv_if_ge (tgt := 60) hx hb d_X_nextItem_53 (by decide) (fun c4 => ?_) (fun c4 => ?_)
            · have c4 := (lg_cmp_ge _ _).mp c4
              rw [pk_lLE (by unfold gt_fr; omega) (by unfold gt_fr; omega)] at c4
              refine lv_iload_n hx hb d_X_nextItem_60 rfl (lv_at hl 1 rfl) ?_
              refine lv_istore_n (lv' := [(1, .int (nI b)), (2, .int (nI k)), (0, .ref (xa 0))]) hx hb d_X_nextItem_61 rfl hl (by decide) rfl (fun ls hl => ?_)
              refine lv_iinc (v := nI (k + 1)) (lv' := [(2, .int (nI (k + 1))), (1, .int (nI b)), (0, .ref (xa 0))]) hx hb d_X_nextItem_62 hl (k := 1) rfl (nI_1 _) (by decide) rfl (fun ls hl => ?_)
              refine lv_goto (tgt := 7) hx hb d_X_nextItem_65 (by decide) ?_
              exact ih (k + 1) b (by omega) (by omega) (by omega) (by omega) (gt_NI_keep hNI hb0 (by omega)) ls (lv_sub hl [0, 1, 2] rfl)
            · have c4 : ¬ _ := fun q => c4 ((lg_cmp_ge _ _).mpr q)
              rw [pk_lLE (by unfold gt_fr; omega) (by unfold gt_fr; omega)] at c4
              refine lv_iload_n hx hb d_X_nextItem_56 rfl (lv_at hl 0 rfl) ?_
              refine lv_goto (tgt := 61) hx hb d_X_nextItem_57 (by decide) ?_
              refine lv_istore_n (lv' := [(1, .int (nI k)), (2, .int (nI k)), (0, .ref (xa 0))]) hx hb d_X_nextItem_61 rfl hl (by decide) rfl (fun ls hl => ?_)
              refine lv_iinc (v := nI (k + 1)) (lv' := [(2, .int (nI (k + 1))), (1, .int (nI k)), (0, .ref (xa 0))]) hx hb d_X_nextItem_62 hl (k := 1) rfl (nI_1 _) (by decide) rfl (fun ls hl => ?_)
              refine lv_goto (tgt := 7) hx hb d_X_nextItem_65 (by decide) ?_
              exact ih (k + 1) k (by omega) (by omega) (by omega) (by omega) (gt_NI_less hNI hb0 c2 h1 (by omega)) ls (lv_sub hl [0, 1, 2] rfl)
        · rw [gt_oI_0] at c2
          refine lv_goto (tgt := 62) hx hb d_X_nextItem_27 (by decide) ?_
          refine lv_iinc (v := nI (k + 1)) (lv' := [(2, .int (nI (k + 1))), (1, .int (nI b)), (0, .ref (xa 0))]) hx hb d_X_nextItem_62 hl (k := 0) rfl (nI_1 _) (by decide) rfl (fun ls hl => ?_)
          refine lv_goto (tgt := 7) hx hb d_X_nextItem_65 (by decide) ?_
          exact ih (k + 1) b (by omega) (by omega) (by omega) (by omega) (gt_NI_skip hNI c2) ls (lv_sub hl [0, 1, 2] rfl)
  refine lv_iconst (v := 0) hx hb d_X_nextItem_0 (by decide) ?_
  refine lv_istore_n (lv' := [(1, .int 0), (0, .ref (xa 0))]) hx hb d_X_nextItem_1 rfl hl (by decide) rfl (fun ls hl => ?_)
  refine lv_aload_n hx hb d_X_nextItem_2 rfl (lv_at hl 1 rfl) ?_
  refine va_get (D := D) (ci := 0) (v := .int (nI F)) (C := R_X) (T := F_X) (N := 12) hx hb hts i_X hown hK hP 0 rfl rfl 4 (by decide) (hts _ kw_61) (fun _ h9 => h9) rfl d_X_nextItem_3 ?_
  refine lv_istore_n (lv' := [(2, .int (nI F)), (1, .int 0), (0, .ref (xa 0))]) hx hb d_X_nextItem_6 rfl hl (by decide) rfl (fun ls hl => ?_)
  exact loop (n + 2) F 0 (Nat.le_refl F) hF2 (by omega) (Nat.zero_le n) (gt_NI_0 S d F) ls (lv_sub hl [0, 1, 2] rfl)
end
section
/-! THE CLASS: an item leaves; it comes to a gate; time passes. -/
theorem gt_freeW {A0 : Nat → Prop} {w : va_W} {H0 H : Heap} {locs : List Loc} (hD : va_D A0 w) (hS : va_S A0 H0 H locs) (hA : ∀ q, H0.size ≤ q → A0 q) : ∀ q, va_A w H.size q → A0 q := by
  intro q hq
  rcases hq with ⟨i, e, hi⟩ | hq
  · exact hD.2 i _ hi
  · exact hA q (Nat.le_trans hS.1 hq)
theorem gt_XW_gates {xa : Nat → Nat} {xc : Nat → ClassId} {ad : Nat → Nat} {S : gt_SS} {lt : Nat → Int32} {d d' : gt_Dy} {n F now co : Nat} {told rej : Int32} {oI oB : Nat → Int32} {oT : Nat → Int64} (hG : S.1 ≤ 100) (h1 : d.1 = d'.1) (h2 : ∀ g, g < S.1 → d.2 g = d'.2 g) : gt_XW xa xc ad S lt d n F now co told rej oI oB oT = gt_XW xa xc ad S lt d' n F now co told rej oI oB oT := by
  unfold gt_XW
  rw [gt_pl_gates hG h1 h2]
theorem gt_act_no {S : gt_SS} {d : gt_Dy} {i : Nat} (h : ¬ gt_go S i (d.1 i) (d.2 (d.1 i).1) = true) : gt_act S d i = (va_up d.1 i ((d.1 i).1 + 1, (d.1 i).2), va_up d.2 (d.1 i).1 (0, 1, gt_fr S.2.1 i (d.1 i).1 + S.2.2.1 i, (d.2 (d.1 i).1).2.2.2)) := by
  unfold gt_act gt_aI gt_aG
  rw [if_neg h, if_neg h]
theorem gt_act_yes {S : gt_SS} {d : gt_Dy} {i : Nat} (h : gt_go S i (d.1 i) (d.2 (d.1 i).1) = true) : gt_act S d i = (va_up d.1 i ((d.1 i).1, nI (d.1 i).1, gt_fr S.2.1 i (d.1 i).1), va_up d.2 (d.1 i).1 (1, 1, gt_fr S.2.1 i (d.1 i).1 + S.2.2.1 i, (d.2 (d.1 i).1).2.2.2.1 + 1, (d.2 (d.1 i).1).2.2.2.2 + 1)) := by
  unfold gt_act gt_aI gt_aG
  rw [if_pos h, if_pos h]
theorem gt_go_G {S : gt_SS} {i : Nat} {p : gt_IS} {q : gt_GS} (h : p.1 = S.1) : gt_go S i p q = true := by
  unfold gt_go
  simp [h]
/-- what 'take' answers, by the words of gt_go -/
theorem gt_go_u {S : gt_SS} {i : Nat} {p : gt_IS} {q : gt_GS} {wa u : Int32} (hg : p.1 < S.1) (hq : q.1 = 0 ∨ q.1 = 1) (hw : gt_Bit wa (S.2.2.2.1 i = nI p.1 ∧ q.2.2.2.1 < S.2.2.2.2.2 p.1))
    (h1 : (S.2.2.2.2.1 p.1 = 0 ∧ (q.2.1 = 0 ∨ q.2.2.1 + 200 ≤ gt_fr S.2.1 i p.1)) → u = wa) (h2 : ¬ (S.2.2.2.2.1 p.1 = 0 ∧ (q.2.1 = 0 ∨ q.2.2.1 + 200 ≤ gt_fr S.2.1 i p.1)) → u = q.1) : (gt_go S i p q = true ∧ u = 1) ∨ (¬ gt_go S i p q = true ∧ u = 0) := by
  have hne : decide (p.1 = S.1) = false := decide_eq_false (by omega)
  unfold gt_go
  rw [hne, Bool.false_or]
  by_cases hm : S.2.2.2.2.1 p.1 = 0 ∧ (q.2.1 = 0 ∨ q.2.2.1 + 200 ≤ gt_fr S.2.1 i p.1)
  · have e : gt_may S p.1 (gt_fr S.2.1 i p.1) q = true := by
      unfold gt_may
      simpa using hm
    rw [if_pos e, h1 hm]
    rcases hw with ⟨e1, e2⟩ | ⟨e1, e2⟩
    · refine Or.inl ⟨?_, e1⟩
      unfold gt_want
      simp [hg, e2.1, e2.2]
    · refine Or.inr ⟨?_, e1⟩
      unfold gt_want
      intro z
      simp [hg] at z
      exact e2 ⟨z.1, z.2⟩
  · have e : ¬ gt_may S p.1 (gt_fr S.2.1 i p.1) q = true := by
      unfold gt_may
      intro z
      simp at z
      exact hm z
    rw [if_neg e, h2 hm]
    rcases hq with e1 | e1
    · exact Or.inr ⟨by simp [e1], e1⟩
    · exact Or.inl ⟨by simp [e1], e1⟩
abbrev rm_X_leave : Room := { frames := 2, cells := 0, slots := 0, locals := 41 }
set_option maxHeartbeats 4000000 in
set_option maxRecDepth 100000 in
/-- leave(i, bin) -/
theorem c_X_leave (l : Launch) (D : va_G) (sz : Nat) (xa : Nat → Nat) (xc : Nat → ClassId) (ad : Nat → Nat) (S : gt_SS) (lt : Nat → Int32) (d : gt_Dy) (n F now co : Nat) (told rej : Int32) (oI oB : Nat → Int32) (oT : Nat → Int64) (i : Nat) (bin : Int32) (h1 : 1 ≤ i) (h2 : i ≤ n) (hn : n ≤ 400) (hc : co < 400) (hF1 : 1 ≤ F) (hF2 : F ≤ n + 1) (hnx : (d.1 i).1 ≤ 12) : Met l y_X_leave w_X_leave rm_X_leave (gt_Pre D (gt_XK D xc) [.ref (xa 0), .int (nI i), .int bin] (gt_XW xa xc ad S lt d n F now co told rej oI oB oT) sz) (gt_Qv D (gt_XW xa xc ad S lt d n F now co told rej oI oB oT) sz (fun u : Nat => F ≤ u ∧ u ≤ n + 1 ∧ ∀ j, F ≤ j → j < u → ¬ ((va_up d.1 i ((d.1 i).1, nI (d.1 i).1, gt_fr S.2.1 i (d.1 i).1), d.2).1 j).2.1 < 0) (fun u : Nat => gt_XW xa xc ad S lt (va_up d.1 i ((d.1 i).1, nI (d.1 i).1, gt_fr S.2.1 i (d.1 i).1), d.2) n u now (co + 1) told rej (upd oI co (nI i)) (upd oB co bin) (vp_updL oT co (lN (gt_fr S.2.1 i (d.1 i).1))))) 0 0 (va_A (gt_XW xa xc ad S lt d n F now co told rej oI oB oT) sz) := by
  refine gt_mut_v (own := R_X) (by decide) rfl (Nat.le_of_ble_eq_true rfl) ?_
  intro p e s m below meth c args A hx hb hml hown hnm hts hP hK0 hD hA Q hret ls hl
  have hS : va_S A s.heap s.heap [] := va_S.rf
  have hl : lv_has ls 4 [(0, .ref (xa 0)), (1, .int (nI i)), (2, .int bin)] := hl
  have hK : va_K D gt_cl (gt_Xt xc) s := hK0.1
  have hN := hK0.2
  refine lv_aload_n hx hb d_X_leave_0 rfl (lv_at hl 0 rfl) ?_
  refine va_get (D := D) (ci := 0) (v := .ref (xa 2)) (C := R_X) (T := F_X) (N := 12) hx hb hts i_X hown hK hP 0 rfl rfl 2 (by decide) (hts _ kw_59) (fun _ h9 => h9) rfl d_X_leave_1 ?_
  refine lv_iload_n hx hb d_X_leave_4 rfl (lv_at hl 1 rfl) ?_
  refine gt_qald (k := i) (b := ad (100 + i)) (C := "GateTimes$Item") hx hb hK hP 2 1 rfl rfl (by omega) (by decide) (gt_fi_at (by omega) (by omega)) d_X_leave_5 ?_
  refine lv_astore_n (lv' := [(3, .ref (ad (100 + i))), (0, .ref (xa 0)), (1, .int (nI i)), (2, .int bin)]) hx hb d_X_leave_6 rfl hl (by decide) rfl (fun ls hl => ?_)
  refine lv_aload_n hx hb d_X_leave_7 rfl (lv_at hl 0 rfl) ?_
  refine lv_iconst (v := 1) hx hb d_X_leave_8 (by decide) ?_
  obtain ⟨d1, hd1⟩ : ∃ d1 : gt_Dy, d1 = (va_up d.1 i ((d.1 i).1, nI (d.1 i).1, gt_fr S.2.1 i (d.1 i).1), d.2) := ⟨_, rfl⟩
  refine gt_putP (X := gt_XH xa xc ad S n F now co told rej oI oB oT) (ad := ad) (K := gt_pk S.1 n) (f := gt_pf S lt d) (key := 100 + i) (D := D) (ci := 2) (v := .int 1) (ty := .boolean) (C := R_I) (T := F_I) (N := 6) hx hb hts i_I t_I t_I_ok n_I hown hK hP hD hS (gt_pk_i (by omega) (by omega)) (gt_pf_i S lt d i) rfl 5 (by decide) (va_Nw.use rfl (hN (.fieldLinkNest "GateTimes" 75 "GateTimes$Item" "isOut" "Z" "GateTimes") (by decide +kernel))) (fun _ h9 => h9) rfl (by decide +kernel) rfl rfl (Nat.le_of_ble_eq_true rfl) d_X_leave_9 (fun H locs hP hD hS => ?_)
  have e1 : va_up (gt_pf S lt d) (100 + i) (.inr (2, [.long (lN (S.2.1 i)), .long (lN (S.2.2.1 i)), .int (S.2.2.2.1 i), .int (lt i), .int (nI (d.1 i).1), .int 1])) = gt_pf S lt d1 := gt_pf_seti (by subst hd1; unfold gt_iC; simp only [va_up_self]; unfold gt_oI; rw [if_neg (gt_nI_nneg (by show (d.1 i).1 < 2 ^ 31; omega))]) (fun j hj => by subst hd1; unfold gt_iC; simp only [va_up_ne _ _ hj]) (fun g => by subst hd1; rfl)
  have hP : va_P D gt_cl (gt_XH xa xc ad S n F now co told rej oI oB oT ++ gt_pl ad (gt_pk S.1 n) (va_up (gt_pf S lt d) (100 + i) (.inr (2, [.long (lN (S.2.1 i)), .long (lN (S.2.2.1 i)), .int (S.2.2.2.1 i), .int (lt i), .int (nI (d.1 i).1), .int 1])))) H := hP
  have hD : va_D A (gt_XH xa xc ad S n F now co told rej oI oB oT ++ gt_pl ad (gt_pk S.1 n) (va_up (gt_pf S lt d) (100 + i) (.inr (2, [.long (lN (S.2.1 i)), .long (lN (S.2.2.1 i)), .int (S.2.2.2.1 i), .int (lt i), .int (nI (d.1 i).1), .int 1])))) := hD
  rw [e1] at hP hD
  have hP : va_P D gt_cl (gt_XW xa xc ad S lt d1 n F now co told rej oI oB oT) H := hP
  have hD : va_D A (gt_XW xa xc ad S lt d1 n F now co told rej oI oB oT) := hD
  have hi1 : (d1.1 i).1 = (d.1 i).1 := by subst hd1; show (va_up d.1 i _ i).1 = _; rw [va_up_self]
  refine lv_aload_n hx hb d_X_leave_12 rfl (lv_at hl 1 rfl) ?_
  refine va_get (D := D) (ci := 0) (v := .ref (xa 3)) (C := R_X) (T := F_X) (N := 12) hx hb hts i_X hown hK hP 0 rfl rfl 6 (by decide) (hts _ kw_63) (fun _ h9 => h9) rfl d_X_leave_13 ?_
  refine lv_aload_n hx hb d_X_leave_16 rfl (lv_at hl 1 rfl) ?_
  refine va_get (D := D) (ci := 0) (v := .int (nI co)) (C := R_X) (T := F_X) (N := 12) hx hb hts i_X hown hK hP 0 rfl rfl 9 (by decide) (hts _ kw_66) (fun _ h9 => h9) rfl d_X_leave_17 ?_
  refine lv_iload_n hx hb d_X_leave_20 rfl (lv_at hl 2 rfl) ?_
  refine gt_iast (k := co) hx hb hK hP hD hS 3 2 rfl rfl (by omega) (by decide) d_X_leave_21 (fun H locs hP hD hS => ?_)
  have hP : va_P D gt_cl (gt_XW xa xc ad S lt d1 n F now co told rej (upd oI co (nI i)) oB oT) H := hP
  have hD : va_D A (gt_XW xa xc ad S lt d1 n F now co told rej (upd oI co (nI i)) oB oT) := hD
  refine lv_aload_n hx hb d_X_leave_22 rfl (lv_at hl 1 rfl) ?_
  refine va_get (D := D) (ci := 0) (v := .ref (xa 4)) (C := R_X) (T := F_X) (N := 12) hx hb hts i_X hown hK hP 0 rfl rfl 7 (by decide) (hts _ kw_64) (fun _ h9 => h9) rfl d_X_leave_23 ?_
  refine lv_aload_n hx hb d_X_leave_26 rfl (lv_at hl 1 rfl) ?_
  refine va_get (D := D) (ci := 0) (v := .int (nI co)) (C := R_X) (T := F_X) (N := 12) hx hb hts i_X hown hK hP 0 rfl rfl 9 (by decide) (hts _ kw_66) (fun _ h9 => h9) rfl d_X_leave_27 ?_
  refine lv_iload_n hx hb d_X_leave_30 rfl (lv_at hl 3 rfl) ?_
  refine gt_iast (k := co) hx hb hK hP hD hS 4 3 rfl rfl (by omega) (by decide) d_X_leave_31 (fun H locs hP hD hS => ?_)
  have hP : va_P D gt_cl (gt_XW xa xc ad S lt d1 n F now co told rej (upd oI co (nI i)) (upd oB co bin) oT) H := hP
  have hD : va_D A (gt_XW xa xc ad S lt d1 n F now co told rej (upd oI co (nI i)) (upd oB co bin) oT) := hD
  refine lv_aload_n hx hb d_X_leave_32 rfl (lv_at hl 1 rfl) ?_
  refine va_get (D := D) (ci := 0) (v := .ref (xa 5)) (C := R_X) (T := F_X) (N := 12) hx hb hts i_X hown hK hP 0 rfl rfl 8 (by decide) (hts _ kw_65) (fun _ h9 => h9) rfl d_X_leave_33 ?_
  refine lv_aload_n hx hb d_X_leave_36 rfl (lv_at hl 1 rfl) ?_
  refine va_get (D := D) (ci := 0) (v := .int (nI co)) (C := R_X) (T := F_X) (N := 12) hx hb hts i_X hown hK hP 0 rfl rfl 9 (by decide) (hts _ kw_66) (fun _ h9 => h9) rfl d_X_leave_37 ?_
  refine lv_aload_n hx hb d_X_leave_40 rfl (lv_at hl 0 rfl) ?_
  refine vp_callSl (va_runV (As := []) (rest := [.int (nI co), .ref (xa 5)]) ⟨hx, hb, hml, hown, hts⟩ (c_I_time l D (ad (100 + i)) (S.2.1 i) (lN (S.2.2.1 i)) (S.2.2.2.1 i) (lt i) (d1.1 i).1 (gt_oI (d1.1 i)) (by omega)) (cwV 0 hts (tb_inV kw_156 kw_157 kw_158 kw_5 kw_159) rfl rfl rfl (by decide +kernel) ⟨Nat.le_of_ble_eq_true rfl, Nat.le_of_ble_eq_true rfl⟩) (gt_PreP_V gt_K_mv (gt_recvP (X := gt_XH xa xc ad S n F now co told rej (upd oI co (nI i)) (upd oB co bin) oT) (ad := ad) (K := gt_pk S.1 n) (f := gt_pf S lt d1) (key := 100 + i) hK hP (gt_pk_i (by omega) (by omega)) (gt_pf_i S lt d1 i) rfl) (gt_pl_one (X := gt_XH xa xc ad S n F now co told rej (upd oI co (nI i)) (upd oB co bin) oT) (ad := ad) (K := gt_pk S.1 n) (f := gt_pf S lt d1) (k := 100 + i) hP (gt_pk_i (by omega) (by omega)) (gt_pf_i S lt d1 i)) (hK.sub [] rfl)) rfl rfl hl.1 rfl (lv_room (Nat.le_of_ble_eq_true rfl)) d_X_leave_41 ⟨Nat.zero_le _, Nat.zero_le _⟩).run (fun r1 hr1 => ?_)
  have hr1 : r1 = lN (gt_fr S.2.1 i (d1.1 i).1) := hr1
  subst hr1
  rw [hi1]
  refine gt_last (k := co) hx hb hK hP hD hS 5 4 rfl rfl (by omega) (by decide) d_X_leave_44 (fun H locs hP hD hS => ?_)
  have hP : va_P D gt_cl (gt_XW xa xc ad S lt d1 n F now co told rej (upd oI co (nI i)) (upd oB co bin) (vp_updL oT co (lN (gt_fr S.2.1 i (d.1 i).1)))) H := hP
  have hD : va_D A (gt_XW xa xc ad S lt d1 n F now co told rej (upd oI co (nI i)) (upd oB co bin) (vp_updL oT co (lN (gt_fr S.2.1 i (d.1 i).1)))) := hD
  refine lv_aload_n hx hb d_X_leave_45 rfl (lv_at hl 1 rfl) ?_
  refine lv_dup hx hb d_X_leave_46 rfl ?_
  refine va_get (D := D) (ci := 0) (v := .int (nI co)) (C := R_X) (T := F_X) (N := 12) hx hb hts i_X hown hK hP 0 rfl rfl 9 (by decide) (hts _ kw_66) (fun _ h9 => h9) rfl d_X_leave_47 ?_
  refine lv_iconst (v := 1) hx hb d_X_leave_50 (by decide) ?_
  refine lv_iadd hx hb d_X_leave_51 ?_
  rw [nI_1]
  refine va_put (D := D) (ci := 0) (v := .int (nI (co + 1))) (ty := .int) (C := R_X) (T := F_X) (N := 12) hx hb hts i_X t_X t_X_ok n_X hown hK hP hD hS 0 rfl rfl 9 (by decide) (hts _ kw_66) (fun _ h9 => h9) rfl (by decide +kernel) rfl rfl (Nat.le_of_ble_eq_true rfl) d_X_leave_52 (fun H locs hP hD hS => ?_)
  have hP : va_P D gt_cl (gt_XW xa xc ad S lt d1 n F now (co + 1) told rej (upd oI co (nI i)) (upd oB co bin) (vp_updL oT co (lN (gt_fr S.2.1 i (d.1 i).1)))) H := hP
  have hD : va_D A (gt_XW xa xc ad S lt d1 n F now (co + 1) told rej (upd oI co (nI i)) (upd oB co bin) (vp_updL oT co (lN (gt_fr S.2.1 i (d.1 i).1)))) := hD
  have loop : ∀ (q u : Nat), F ≤ u → u ≤ n + 1 → n + 1 < u + q → (∀ j, F ≤ j → j < u → ¬ (d1.1 j).2.1 < 0) → ∀ (H : Heap) (locs : List Loc), va_P D gt_cl (gt_XW xa xc ad S lt d1 n u now (co + 1) told rej (upd oI co (nI i)) (upd oB co bin) (vp_updL oT co (lN (gt_fr S.2.1 i (d.1 i).1)))) H → va_D A (gt_XW xa xc ad S lt d1 n u now (co + 1) told rej (upd oI co (nI i)) (upd oB co bin) (vp_updL oT co (lN (gt_fr S.2.1 i (d.1 i).1)))) → va_S A s.heap H locs → ∀ ls, lv_has ls 4 [(0, .ref (xa 0))] → W p l e rm_X_leave s m args below meth c H locs 0 0 Q (F0 m 55 ls []) := by
    intro q
    induction q with
    | zero => intro u h1 h2 h3; omega
    | succ q ih =>
      intro u u1 u2 u3 hu H locs hP hD hS ls hl
      refine lv_aload_n hx hb d_X_leave_55 rfl (lv_at hl 0 rfl) ?_
      refine va_get (D := D) (ci := 0) (v := .int (nI u)) (C := R_X) (T := F_X) (N := 12) hx hb hts i_X hown hK hP 0 rfl rfl 4 (by decide) (hts _ kw_61) (fun _ h9 => h9) rfl d_X_leave_56 ?_
      refine lv_aload_n hx hb d_X_leave_59 rfl (lv_at hl 0 rfl) ?_
      refine va_get (D := D) (ci := 0) (v := .int (nI n)) (C := R_X) (T := F_X) (N := 12) hx hb hts i_X hown hK hP 0 rfl rfl 3 (by decide) (hts _ kw_60) (fun _ h9 => h9) rfl d_X_leave_60 ?_
      refine lv_icmp_gt (tgt := 94) hx hb d_X_leave_63 (by decide) (fun c1 => ?_) (fun c1 => ?_)
      · rw [nI_ltI (by omega) (by omega)] at c1
        subst hd1
        exact hret _ _ _ _ u d_X_leave_94 ⟨u1, u2, hu⟩ hP hD hS
      · rw [nI_ltI (by omega) (by omega)] at c1
        refine lv_aload_n hx hb d_X_leave_66 rfl (lv_at hl 0 rfl) ?_
        refine va_get (D := D) (ci := 0) (v := .ref (xa 2)) (C := R_X) (T := F_X) (N := 12) hx hb hts i_X hown hK hP 0 rfl rfl 2 (by decide) (hts _ kw_59) (fun _ h9 => h9) rfl d_X_leave_67 ?_
        refine lv_aload_n hx hb d_X_leave_70 rfl (lv_at hl 0 rfl) ?_
        refine va_get (D := D) (ci := 0) (v := .int (nI u)) (C := R_X) (T := F_X) (N := 12) hx hb hts i_X hown hK hP 0 rfl rfl 4 (by decide) (hts _ kw_61) (fun _ h9 => h9) rfl d_X_leave_71 ?_
        refine gt_qald (k := u) (b := ad (100 + u)) (C := "GateTimes$Item") hx hb hK hP 2 1 rfl rfl (by omega) (by decide) (gt_fi_at (by omega) (by omega)) d_X_leave_74 ?_
        refine gt_getP (X := gt_XH xa xc ad S n u now (co + 1) told rej (upd oI co (nI i)) (upd oB co bin) (vp_updL oT co (lN (gt_fr S.2.1 i (d.1 i).1)))) (ad := ad) (K := gt_pk S.1 n) (f := gt_pf S lt d1) (key := 100 + u) (D := D) (ci := 2) (v := .int (gt_oI (d1.1 u))) (C := R_I) (T := F_I) (N := 6) hx hb hts i_I hown hK hP (gt_pk_i (by omega) (by omega)) (gt_pf_i S lt d1 u) rfl 5 (by decide) (va_Nw.use rfl (hN (.fieldLinkNest "GateTimes" 75 "GateTimes$Item" "isOut" "Z" "GateTimes") (by decide +kernel))) (fun _ h9 => h9) rfl d_X_leave_75 ?_
        refine lv_if_eq (tgt := 94) hx hb d_X_leave_78 (by decide) (fun c2 => ?_) (fun c2 => ?_)
        · rw [gt_oI_0] at c2
          subst hd1
          exact hret _ _ _ _ u d_X_leave_94 ⟨u1, u2, hu⟩ hP hD hS
        · rw [gt_oI_0] at c2
          refine lv_aload_n hx hb d_X_leave_81 rfl (lv_at hl 0 rfl) ?_
          refine lv_dup hx hb d_X_leave_82 rfl ?_
          refine va_get (D := D) (ci := 0) (v := .int (nI u)) (C := R_X) (T := F_X) (N := 12) hx hb hts i_X hown hK hP 0 rfl rfl 4 (by decide) (hts _ kw_61) (fun _ h9 => h9) rfl d_X_leave_83 ?_
          refine lv_iconst (v := 1) hx hb d_X_leave_86 (by decide) ?_
          refine lv_iadd hx hb d_X_leave_87 ?_
          rw [nI_1]
          refine va_put (D := D) (ci := 0) (v := .int (nI (u + 1))) (ty := .int) (C := R_X) (T := F_X) (N := 12) hx hb hts i_X t_X t_X_ok n_X hown hK hP hD hS 0 rfl rfl 4 (by decide) (hts _ kw_61) (fun _ h9 => h9) rfl (by decide +kernel) rfl rfl (Nat.le_of_ble_eq_true rfl) d_X_leave_88 (fun H locs hP hD hS => ?_)
          have hP : va_P D gt_cl (gt_XW xa xc ad S lt d1 n (u + 1) now (co + 1) told rej (upd oI co (nI i)) (upd oB co bin) (vp_updL oT co (lN (gt_fr S.2.1 i (d.1 i).1)))) H := hP
          have hD : va_D A (gt_XW xa xc ad S lt d1 n (u + 1) now (co + 1) told rej (upd oI co (nI i)) (upd oB co bin) (vp_updL oT co (lN (gt_fr S.2.1 i (d.1 i).1)))) := hD
          refine lv_goto (tgt := 55) hx hb d_X_leave_91 (by decide) ?_
          exact ih (u + 1) (by omega) (by omega) (by omega) (fun j j1 j2 => by
            by_cases e : j = u
            · rw [e]; exact c2
            · exact hu j j1 (by omega)) _ _ hP hD hS ls (lv_sub hl [0] rfl)
  exact loop (n + 2) F (Nat.le_refl F) hF2 (by omega) (fun j j1 j2 => by omega) _ _ hP hD hS ls (lv_sub hl [1] rfl)
end
section
/-! THE CLASS: an item comes to a gate. -/
abbrev rm_X_come : Room := { frames := 3, cells := 0, slots := 0, locals := 64 }
set_option maxHeartbeats 4000000 in
set_option maxRecDepth 100000 in
/-- come(i) -/
theorem c_X_come (l : Launch) (D : va_G) (sz : Nat) (xa : Nat → Nat) (xc : Nat → ClassId) (ad : Nat → Nat) (S : gt_SS) (lt : Nat → Int32) (d : gt_Dy) (n F now co : Nat) (told : Int32) (oI oB : Nat → Int32) (oT : Nat → Int64) (i : Nat) (h1 : 1 ≤ i) (h2 : i ≤ n) (hn : n ≤ 400) (hc : co < 400) (hF1 : 1 ≤ F) (hF2 : F ≤ n + 1) (hG : S.1 ≤ 12) (hnx : (d.1 i).1 ≤ S.1) (hgs : ∀ g, g ≤ S.1 → gt_HG (d.2 g)) (hfr : gt_fr S.2.1 i (d.1 i).1 ≤ 1000000000) (hln : S.2.2.1 i ≤ 900) (hbelt : (d.1 i).2.1 < 0) : Met l y_X_come w_X_come rm_X_come (gt_Pre D (gt_XK D xc) [.ref (xa 0), .int (nI i)] (gt_XW xa xc ad S lt d n F now co told ((d.2 S.1).2.2.2.2) oI oB oT) sz) (gt_Qv D (gt_XW xa xc ad S lt d n F now co told ((d.2 S.1).2.2.2.2) oI oB oT) sz (fun u : Nat × Nat × (Nat → Int32) × (Nat → Int32) × (Nat → Int64) => F ≤ u.1 ∧ u.1 ≤ n + 1 ∧ (∀ j, F ≤ j → j < u.1 → ¬ ((gt_act S d i).1 j).2.1 < 0) ∧ (gt_go S i (d.1 i) (d.2 (d.1 i).1) = true → u.2 = (co + 1, upd oI co (nI i), upd oB co (nI (d.1 i).1), vp_updL oT co (lN (gt_fr S.2.1 i (d.1 i).1)))) ∧ (¬ gt_go S i (d.1 i) (d.2 (d.1 i).1) = true → u.2 = (co, oI, oB, oT))) (fun u : Nat × Nat × (Nat → Int32) × (Nat → Int32) × (Nat → Int64) => gt_XW xa xc ad S lt (gt_act S d i) n u.1 now u.2.1 told ((gt_act S d i).2 S.1).2.2.2.2 u.2.2.1 u.2.2.2.1 u.2.2.2.2)) 0 0 (va_A (gt_XW xa xc ad S lt d n F now co told ((d.2 S.1).2.2.2.2) oI oB oT) sz) := by
  refine gt_mut_v (own := R_X) (by decide) rfl (Nat.le_of_ble_eq_true rfl) ?_
  intro p e s m below meth c args A hx hb hml hown hnm hts hP hK0 hD hA Q hret ls hl
  have hS : va_S A s.heap s.heap [] := va_S.rf
  have hl : lv_has ls 5 [(0, .ref (xa 0)), (1, .int (nI i))] := hl
  have hK : va_K D gt_cl (gt_Xt xc) s := hK0.1
  have hN := hK0.2
  refine lv_aload_n hx hb d_X_come_0 rfl (lv_at hl 0 rfl) ?_
  refine va_get (D := D) (ci := 0) (v := .ref (xa 2)) (C := R_X) (T := F_X) (N := 12) hx hb hts i_X hown hK hP 0 rfl rfl 2 (by decide) (hts _ kw_59) (fun _ h9 => h9) rfl d_X_come_1 ?_
  refine lv_iload_n hx hb d_X_come_4 rfl (lv_at hl 1 rfl) ?_
  refine gt_qald (k := i) (b := ad (100 + i)) (C := "GateTimes$Item") hx hb hK hP 2 1 rfl rfl (by omega) (by decide) (gt_fi_at (by omega) (by omega)) d_X_come_5 ?_
  refine lv_astore_n (lv' := [(2, .ref (ad (100 + i))), (0, .ref (xa 0)), (1, .int (nI i))]) hx hb d_X_come_6 rfl hl (by decide) rfl (fun ls hl => ?_)
  refine lv_aload_n hx hb d_X_come_7 rfl (lv_at hl 0 rfl) ?_
  refine gt_getP (X := gt_XH xa xc ad S n F now co told ((d.2 S.1).2.2.2.2) oI oB oT) (ad := ad) (K := gt_pk S.1 n) (f := gt_pf S lt d) (key := 100 + i) (D := D) (ci := 2) (v := .int (nI (d.1 i).1)) (C := R_I) (T := F_I) (N := 6) hx hb hts i_I hown hK hP (gt_pk_i (by omega) (by omega)) (gt_pf_i S lt d i) rfl 4 (by decide) (va_Nw.use rfl (hN (.fieldLinkNest "GateTimes" 86 "GateTimes$Item" "next" "I" "GateTimes") (by decide +kernel))) (fun _ h9 => h9) rfl d_X_come_8 ?_
  refine lv_aload_n hx hb d_X_come_11 rfl (lv_at hl 1 rfl) ?_
  refine va_get (D := D) (ci := 0) (v := .int (nI S.1)) (C := R_X) (T := F_X) (N := 12) hx hb hts i_X hown hK hP 0 rfl rfl 0 (by decide) (hts _ kw_57) (fun _ h9 => h9) rfl d_X_come_12 ?_
  refine lv_icmp_ne (tgt := 38) hx hb d_X_come_15 (by decide) (fun c1 => ?_) (fun c1 => ?_)
  · rw [nI_eq (by omega) (by omega)] at c1
    have hgl : (d.1 i).1 < S.1 := by omega
    have hg0 := hgs (d.1 i).1 (by omega)
    refine lv_aload_n hx hb d_X_come_38 rfl (lv_at hl 1 rfl) ?_
    refine va_get (D := D) (ci := 0) (v := .ref (xa 1)) (C := R_X) (T := F_X) (N := 12) hx hb hts i_X hown hK hP 0 rfl rfl 1 (by decide) (hts _ kw_58) (fun _ h9 => h9) rfl d_X_come_39 ?_
    refine lv_aload_n hx hb d_X_come_42 rfl (lv_at hl 0 rfl) ?_
    refine gt_getP (X := gt_XH xa xc ad S n F now co told ((d.2 S.1).2.2.2.2) oI oB oT) (ad := ad) (K := gt_pk S.1 n) (f := gt_pf S lt d) (key := 100 + i) (D := D) (ci := 2) (v := .int (nI (d.1 i).1)) (C := R_I) (T := F_I) (N := 6) hx hb hts i_I hown hK hP (gt_pk_i (by omega) (by omega)) (gt_pf_i S lt d i) rfl 4 (by decide) (va_Nw.use rfl (hN (.fieldLinkNest "GateTimes" 86 "GateTimes$Item" "next" "I" "GateTimes") (by decide +kernel))) (fun _ h9 => h9) rfl d_X_come_43 ?_
    refine gt_qald (k := (d.1 i).1) (b := ad ((d.1 i).1)) (C := "GateTimes$Gate") hx hb hK hP 1 0 rfl rfl (by omega) (by omega) (gt_fg_at (by omega)) d_X_come_46 ?_
    refine lv_astore_n (lv' := [(3, .ref (ad ((d.1 i).1))), (2, .ref (ad (100 + i))), (0, .ref (xa 0)), (1, .int (nI i))]) hx hb d_X_come_47 rfl hl (by decide) rfl (fun ls hl => ?_)
    refine lv_aload_n hx hb d_X_come_48 rfl (lv_at hl 1 rfl) ?_
    refine gt_getP (X := gt_XH xa xc ad S n F now co told ((d.2 S.1).2.2.2.2) oI oB oT) (ad := ad) (K := gt_pk S.1 n) (f := gt_pf S lt d) (key := 100 + i) (D := D) (ci := 2) (v := .int (S.2.2.2.1 i)) (C := R_I) (T := F_I) (N := 6) hx hb hts i_I hown hK hP (gt_pk_i (by omega) (by omega)) (gt_pf_i S lt d i) rfl 2 (by decide) (va_Nw.use rfl (hN (.fieldLinkNest "GateTimes" 96 "GateTimes$Item" "order" "I" "GateTimes") (by decide +kernel))) (fun _ h9 => h9) rfl d_X_come_49 ?_
    refine lv_aload_n hx hb d_X_come_52 rfl (lv_at hl 1 rfl) ?_
    refine gt_getP (X := gt_XH xa xc ad S n F now co told ((d.2 S.1).2.2.2.2) oI oB oT) (ad := ad) (K := gt_pk S.1 n) (f := gt_pf S lt d) (key := 100 + i) (D := D) (ci := 2) (v := .int (nI (d.1 i).1)) (C := R_I) (T := F_I) (N := 6) hx hb hts i_I hown hK hP (gt_pk_i (by omega) (by omega)) (gt_pf_i S lt d i) rfl 4 (by decide) (va_Nw.use rfl (hN (.fieldLinkNest "GateTimes" 86 "GateTimes$Item" "next" "I" "GateTimes") (by decide +kernel))) (fun _ h9 => h9) rfl d_X_come_53 ?_
    have J : ∀ wa : Int32, gt_Bit wa (S.2.2.2.1 i = nI (d.1 i).1 ∧ (d.2 (d.1 i).1).2.2.2.1 < S.2.2.2.2.2 (d.1 i).1) → W p l e rm_X_come s m args below meth c s.heap [] 0 0 Q (F0 m 71 ls [.int wa]) := by
      intro wa hwa
      refine lv_istore (lv' := [(4, .int wa), (3, .ref (ad ((d.1 i).1))), (2, .ref (ad (100 + i))), (0, .ref (xa 0)), (1, .int (nI i))]) hx hb d_X_come_71 hl (by decide) rfl (fun ls hl => ?_)
      refine lv_aload_n hx hb d_X_come_73 rfl (lv_at hl 1 rfl) ?_
      refine lv_iload hx hb d_X_come_74 (lv_at hl 0 rfl) ?_
      refine lv_aload_n hx hb d_X_come_76 rfl (lv_at hl 2 rfl) ?_
      refine vp_callSl (va_runV (As := []) (rest := [.int wa, .ref (ad ((d.1 i).1))]) ⟨hx, hb, hml, hown, hts⟩ (c_I_time l D (ad (100 + i)) (S.2.1 i) (lN (S.2.2.1 i)) (S.2.2.2.1 i) (lt i) (d.1 i).1 (gt_oI (d.1 i)) (by omega)) (cwV 0 hts (tb_inV kw_156 kw_157 kw_158 kw_5 kw_159) rfl rfl rfl (by decide +kernel) ⟨Nat.le_of_ble_eq_true rfl, Nat.le_of_ble_eq_true rfl⟩) (gt_PreP_V gt_K_mv (gt_recvP (X := gt_XH xa xc ad S n F now co told ((d.2 S.1).2.2.2.2) oI oB oT) (ad := ad) (K := gt_pk S.1 n) (f := gt_pf S lt d) (key := 100 + i) hK hP (gt_pk_i (by omega) (by omega)) (gt_pf_i S lt d i) rfl) (gt_pl_one (X := gt_XH xa xc ad S n F now co told ((d.2 S.1).2.2.2.2) oI oB oT) (ad := ad) (K := gt_pk S.1 n) (f := gt_pf S lt d) (k := 100 + i) hP (gt_pk_i (by omega) (by omega)) (gt_pf_i S lt d i)) (hK.sub [] rfl)) rfl rfl hl.1 rfl (lv_room (Nat.le_of_ble_eq_true rfl)) d_X_come_77 ⟨Nat.zero_le _, Nat.zero_le _⟩).run (fun r1 hr1 => ?_)
      have hr1 : r1 = lN (gt_fr S.2.1 i (d.1 i).1) := hr1
      subst hr1
      refine lv_aload_n hx hb d_X_come_80 rfl (lv_at hl 2 rfl) ?_
      refine gt_getP (X := gt_XH xa xc ad S n F now co told ((d.2 S.1).2.2.2.2) oI oB oT) (ad := ad) (K := gt_pk S.1 n) (f := gt_pf S lt d) (key := 100 + i) (D := D) (ci := 2) (v := .long (lN (S.2.2.1 i))) (C := R_I) (T := F_I) (N := 6) hx hb hts i_I hown hK hP (gt_pk_i (by omega) (by omega)) (gt_pf_i S lt d i) rfl 1 (by decide) (va_Nw.use rfl (hN (.fieldLinkNest "GateTimes" 67 "GateTimes$Item" "length" "J" "GateTimes") (by decide +kernel))) (fun _ h9 => h9) rfl d_X_come_81 ?_
      have hFc := gt_pl_free (X := gt_XH xa xc ad S n F now co told ((d.2 S.1).2.2.2.2) oI oB oT) (ad := ad) (K := gt_pk S.1 n) (f := gt_pf S lt d) (k := (d.1 i).1) (e := .inr (1, [.int ((d.2 ((d.1 i).1)).1), .int (S.2.2.2.2.1 ((d.1 i).1)), .int ((d.2 ((d.1 i).1)).2.1), .long (lN (d.2 ((d.1 i).1)).2.2.1), .int (S.2.2.2.2.2 ((d.1 i).1)), .int ((d.2 ((d.1 i).1)).2.2.2.1), .int ((d.2 ((d.1 i).1)).2.2.2.2)])) hD hS hA (gt_pk_g hgl)
      refine va_calli (va_runV (As := [.int wa, .long (lN (gt_fr S.2.1 i (d.1 i).1)), .long (lN (S.2.2.1 i))]) (rest := []) ⟨hx, hb, hml, hown, hts⟩ (c_G_take l D s.heap.size (ad (d.1 i).1) ((d.2 ((d.1 i).1)).1) (S.2.2.2.2.1 ((d.1 i).1)) ((d.2 ((d.1 i).1)).2.1) ((d.2 ((d.1 i).1)).2.2.1) (S.2.2.2.2.2 ((d.1 i).1)) ((d.2 ((d.1 i).1)).2.2.2.1) ((d.2 ((d.1 i).1)).2.2.2.2) wa (gt_fr S.2.1 i (d.1 i).1) (S.2.2.1 i) hg0.1 hwa.zo (by have := hg0.2.2; omega) (by omega)) (cwV 3 hts (tb_inV kw_177 kw_178 kw_179 kw_3 kw_180) rfl rfl rfl (by decide +kernel) ⟨Nat.le_of_ble_eq_true rfl, Nat.le_of_ble_eq_true rfl⟩) (gt_Pre_V gt_K_mv (gt_recvP (X := gt_XH xa xc ad S n F now co told ((d.2 S.1).2.2.2.2) oI oB oT) (ad := ad) (K := gt_pk S.1 n) (f := gt_pf S lt d) (key := (d.1 i).1) hK hP (gt_pk_g hgl) (gt_pf_g (by omega)) rfl) (gt_pl_one (X := gt_XH xa xc ad S n F now co told ((d.2 S.1).2.2.2.2) oI oB oT) (ad := ad) (K := gt_pk S.1 n) (f := gt_pf S lt d) (k := (d.1 i).1) hP (gt_pk_g hgl) (gt_pf_g (by omega))) (hK.sub [] rfl) (gt_D1 (A := fun _ => True) trivial)) rfl rfl hl.1 rfl (lv_room (Nat.le_of_ble_eq_true rfl)) d_X_come_84 ⟨Nat.zero_le _, Nat.zero_le _⟩) hS (fun q _ h => hFc q h) hFc (fun r u t9 H1 locs ht9 hvm9 hw hB hz1 hk1 hS => ?_)
      obtain ⟨hP1, hD1⟩ := hB
      rw [ht9] at hP1
      obtain ⟨hP, hD⟩ := gt_join1 (X := gt_XH xa xc ad S n F now co told ((d.2 S.1).2.2.2.2) oI oB oT) (ad := ad) (K := gt_pk S.1 n) (f := gt_pf S lt d) (k := (d.1 i).1) hP hD (gt_pk_g hgl) hk1 hP1
      obtain ⟨rfl, hw1, hw2⟩ := hw
      have hcase := gt_go_u hgl hg0.1 hwa hw1 hw2
      obtain ⟨d1, hd1⟩ : ∃ d1 : gt_Dy, d1 = (d.1, va_up d.2 (d.1 i).1 (r, 1, gt_fr S.2.1 i (d.1 i).1 + S.2.2.1 i, (d.2 (d.1 i).1).2.2.2)) := ⟨_, rfl⟩
      have e1 : va_up (gt_pf S lt d) ((d.1 i).1) (.inr (1, [.int r, .int (S.2.2.2.2.1 ((d.1 i).1)), .int 1, .long (lN (gt_fr S.2.1 i (d.1 i).1 + S.2.2.1 i)), .int (S.2.2.2.2.2 ((d.1 i).1)), .int ((d.2 ((d.1 i).1)).2.2.2.1), .int ((d.2 ((d.1 i).1)).2.2.2.2)])) = gt_pf S lt d1 := gt_pf_setg (by omega) (by subst hd1; unfold gt_gC; simp only [va_up_self]) (fun j hj => by subst hd1; unfold gt_gC; simp only [va_up_ne _ _ hj]) (fun k => by subst hd1; rfl)
      have hP : va_P D gt_cl (gt_XH xa xc ad S n F now co told ((d.2 S.1).2.2.2.2) oI oB oT ++ gt_pl ad (gt_pk S.1 n) (va_up (gt_pf S lt d) ((d.1 i).1) (.inr (1, [.int r, .int (S.2.2.2.2.1 ((d.1 i).1)), .int 1, .long (lN (gt_fr S.2.1 i (d.1 i).1 + S.2.2.1 i)), .int (S.2.2.2.2.2 ((d.1 i).1)), .int ((d.2 ((d.1 i).1)).2.2.2.1), .int ((d.2 ((d.1 i).1)).2.2.2.2)])))) H1 := hP
      have hD : va_D A (gt_XH xa xc ad S n F now co told ((d.2 S.1).2.2.2.2) oI oB oT ++ gt_pl ad (gt_pk S.1 n) (va_up (gt_pf S lt d) ((d.1 i).1) (.inr (1, [.int r, .int (S.2.2.2.2.1 ((d.1 i).1)), .int 1, .long (lN (gt_fr S.2.1 i (d.1 i).1 + S.2.2.1 i)), .int (S.2.2.2.2.2 ((d.1 i).1)), .int ((d.2 ((d.1 i).1)).2.2.2.1), .int ((d.2 ((d.1 i).1)).2.2.2.2)])))) := hD
      rw [e1] at hP hD
      have hP : va_P D gt_cl (gt_XW xa xc ad S lt d1 n F now co told ((d.2 S.1).2.2.2.2) oI oB oT) H1 := hP
      have hD : va_D A (gt_XW xa xc ad S lt d1 n F now co told ((d.2 S.1).2.2.2.2) oI oB oT) := hD
      have hd11 : d1.1 = d.1 := by subst hd1; rfl
      have hd12 : d1.2 (d.1 i).1 = (r, 1, gt_fr S.2.1 i (d.1 i).1 + S.2.2.1 i, (d.2 (d.1 i).1).2.2.2) := by subst hd1; show va_up d.2 (d.1 i).1 _ (d.1 i).1 = _; rw [va_up_self]
      refine lv_if_eq (tgt := 104) hx hb d_X_come_87 (by decide) (fun c3 => ?_) (fun c3 => ?_)
      · have hgo : ¬ gt_go S i (d.1 i) (d.2 (d.1 i).1) = true := hcase.elim (fun q => absurd (q.2.symm.trans c3) (by decide)) (fun q => q.1)
        have hact := gt_act_no hgo
        refine lv_aload_n hx hb d_X_come_104 rfl (lv_at hl 2 rfl) ?_
        refine lv_dup hx hb d_X_come_105 rfl ?_
        refine gt_getP (X := gt_XH xa xc ad S n F now co told ((d.2 S.1).2.2.2.2) oI oB oT) (ad := ad) (K := gt_pk S.1 n) (f := gt_pf S lt d1) (key := 100 + i) (D := D) (ci := 2) (v := .int (nI (d1.1 i).1)) (C := R_I) (T := F_I) (N := 6) hx hb hts i_I hown hK hP (gt_pk_i (by omega) (by omega)) (gt_pf_i S lt d1 i) rfl 4 (by decide) (va_Nw.use rfl (hN (.fieldLinkNest "GateTimes" 86 "GateTimes$Item" "next" "I" "GateTimes") (by decide +kernel))) (fun _ h9 => h9) rfl d_X_come_106 ?_
        refine lv_iconst (v := 1) hx hb d_X_come_109 (by decide) ?_
        refine lv_iadd hx hb d_X_come_110 ?_
        rw [nI_1]
        obtain ⟨d2, hd2⟩ : ∃ d2 : gt_Dy, d2 = (va_up d1.1 i ((d1.1 i).1 + 1, (d1.1 i).2), d1.2) := ⟨_, rfl⟩
        refine gt_putP (X := gt_XH xa xc ad S n F now co told ((d.2 S.1).2.2.2.2) oI oB oT) (ad := ad) (K := gt_pk S.1 n) (f := gt_pf S lt d1) (key := 100 + i) (D := D) (ci := 2) (v := .int (nI ((d1.1 i).1 + 1))) (ty := .int) (C := R_I) (T := F_I) (N := 6) hx hb hts i_I t_I t_I_ok n_I hown hK hP hD hS (gt_pk_i (by omega) (by omega)) (gt_pf_i S lt d1 i) rfl 4 (by decide) (va_Nw.use rfl (hN (.fieldLinkNest "GateTimes" 86 "GateTimes$Item" "next" "I" "GateTimes") (by decide +kernel))) (fun _ h9 => h9) rfl (by decide +kernel) rfl rfl (Nat.le_of_ble_eq_true rfl) d_X_come_111 (fun H locs hP hD hS => ?_)
        have e1 : va_up (gt_pf S lt d1) (100 + i) (.inr (2, [.long (lN (S.2.1 i)), .long (lN (S.2.2.1 i)), .int (S.2.2.2.1 i), .int (lt i), .int (nI ((d1.1 i).1 + 1)), .int (gt_oI (d1.1 i))])) = gt_pf S lt d2 := gt_pf_seti (by subst hd2; unfold gt_iC; simp only [va_up_self]; rfl) (fun j hj => by subst hd2; unfold gt_iC; simp only [va_up_ne _ _ hj]) (fun k => by subst hd2; rfl)
        have hP : va_P D gt_cl (gt_XH xa xc ad S n F now co told ((d.2 S.1).2.2.2.2) oI oB oT ++ gt_pl ad (gt_pk S.1 n) (va_up (gt_pf S lt d1) (100 + i) (.inr (2, [.long (lN (S.2.1 i)), .long (lN (S.2.2.1 i)), .int (S.2.2.2.1 i), .int (lt i), .int (nI ((d1.1 i).1 + 1)), .int (gt_oI (d1.1 i))])))) H := hP
        have hD : va_D A (gt_XH xa xc ad S n F now co told ((d.2 S.1).2.2.2.2) oI oB oT ++ gt_pl ad (gt_pk S.1 n) (va_up (gt_pf S lt d1) (100 + i) (.inr (2, [.long (lN (S.2.1 i)), .long (lN (S.2.2.1 i)), .int (S.2.2.2.1 i), .int (lt i), .int (nI ((d1.1 i).1 + 1)), .int (gt_oI (d1.1 i))])))) := hD
        rw [e1] at hP hD
        have hP : va_P D gt_cl (gt_XW xa xc ad S lt d2 n F now co told ((d.2 S.1).2.2.2.2) oI oB oT) H := hP
        have hD : va_D A (gt_XW xa xc ad S lt d2 n F now co told ((d.2 S.1).2.2.2.2) oI oB oT) := hD
        have e3 : d2 = gt_act S d i := by rw [hd2, hact, hd1, c3]
        have e2 : ((gt_act S d i).2 S.1).2.2.2.2 = (d.2 S.1).2.2.2.2 := by rw [gt_act_g S d (by omega)]
        rw [e3, ← e2] at hP hD
        exact hret _ _ _ _ (F, co, oI, oB, oT) d_X_come_114 ⟨Nat.le_refl F, hF2, fun j x y => by omega, fun q => absurd q hgo, fun _ => rfl⟩ hP hD hS
      · have hgo : gt_go S i (d.1 i) (d.2 (d.1 i).1) = true := hcase.elim (fun q => q.1) (fun q => absurd q.2 c3)
        have hr1 : r = 1 := hcase.elim (fun q => q.2) (fun q => absurd q.2 c3)
        have hact := gt_act_yes hgo
        refine lv_aload_n hx hb d_X_come_90 rfl (lv_at hl 1 rfl) ?_
        have hFc := gt_pl_free (X := gt_XH xa xc ad S n F now co told ((d.2 S.1).2.2.2.2) oI oB oT) (ad := ad) (K := gt_pk S.1 n) (f := gt_pf S lt d1) (k := (d.1 i).1) (e := .inr (1, [.int ((d1.2 ((d.1 i).1)).1), .int (S.2.2.2.2.1 ((d.1 i).1)), .int ((d1.2 ((d.1 i).1)).2.1), .long (lN (d1.2 ((d.1 i).1)).2.2.1), .int (S.2.2.2.2.2 ((d.1 i).1)), .int ((d1.2 ((d.1 i).1)).2.2.2.1), .int ((d1.2 ((d.1 i).1)).2.2.2.2)])) hD hS hA (gt_pk_g hgl)
        refine va_callv (va_runV (As := []) (rest := []) ⟨hx, hb, hml, hown, hts⟩ (c_G_add l D H1.size (ad (d.1 i).1) ((d1.2 ((d.1 i).1)).1) (S.2.2.2.2.1 ((d.1 i).1)) ((d1.2 ((d.1 i).1)).2.1) ((d1.2 ((d.1 i).1)).2.2.1) (S.2.2.2.2.2 ((d.1 i).1)) ((d1.2 ((d.1 i).1)).2.2.2.1) ((d1.2 ((d.1 i).1)).2.2.2.2)) (cwV 0 hts (tb_inV kw_186 kw_187 kw_188 kw_3 kw_189) rfl rfl rfl (by decide +kernel) ⟨Nat.le_of_ble_eq_true rfl, Nat.le_of_ble_eq_true rfl⟩) (gt_Pre_V gt_K_mv (gt_recvP (X := gt_XH xa xc ad S n F now co told ((d.2 S.1).2.2.2.2) oI oB oT) (ad := ad) (K := gt_pk S.1 n) (f := gt_pf S lt d1) (key := (d.1 i).1) hK hP (gt_pk_g hgl) (gt_pf_g (by omega)) rfl) (gt_pl_one (X := gt_XH xa xc ad S n F now co told ((d.2 S.1).2.2.2.2) oI oB oT) (ad := ad) (K := gt_pk S.1 n) (f := gt_pf S lt d1) (k := (d.1 i).1) hP (gt_pk_g hgl) (gt_pf_g (by omega))) (hK.sub [] rfl) (gt_D1 (A := fun _ => True) trivial)) rfl rfl hl.1 rfl (lv_room (Nat.le_of_ble_eq_true rfl)) d_X_come_91 ⟨Nat.zero_le _, Nat.zero_le _⟩) hS (fun q _ h => hFc q h) hFc (fun u t9 H1 locs ht9 hvm9 hw hB hz1 hk1 hS => ?_)
        obtain ⟨hP1, hD1⟩ := hB
        rw [ht9] at hP1
        obtain ⟨hP, hD⟩ := gt_join1 (X := gt_XH xa xc ad S n F now co told ((d.2 S.1).2.2.2.2) oI oB oT) (ad := ad) (K := gt_pk S.1 n) (f := gt_pf S lt d1) (k := (d.1 i).1) hP hD (gt_pk_g hgl) hk1 hP1
        obtain ⟨d2, hd2⟩ : ∃ d2 : gt_Dy, d2 = (d1.1, va_up d1.2 (d.1 i).1 ((d1.2 (d.1 i).1).1, (d1.2 (d.1 i).1).2.1, (d1.2 (d.1 i).1).2.2.1, (d1.2 (d.1 i).1).2.2.2.1 + 1, (d1.2 (d.1 i).1).2.2.2.2 + 1)) := ⟨_, rfl⟩
        have e1 : va_up (gt_pf S lt d1) ((d.1 i).1) (.inr (1, [.int ((d1.2 ((d.1 i).1)).1), .int (S.2.2.2.2.1 ((d.1 i).1)), .int ((d1.2 ((d.1 i).1)).2.1), .long (lN (d1.2 ((d.1 i).1)).2.2.1), .int (S.2.2.2.2.2 ((d.1 i).1)), .int (((d1.2 ((d.1 i).1)).2.2.2.1) + 1), .int (((d1.2 ((d.1 i).1)).2.2.2.2) + 1)])) = gt_pf S lt d2 := gt_pf_setg (by omega) (by subst hd2; unfold gt_gC; simp only [va_up_self]) (fun j hj => by subst hd2; unfold gt_gC; simp only [va_up_ne _ _ hj]) (fun k => by subst hd2; rfl)
        have hP : va_P D gt_cl (gt_XH xa xc ad S n F now co told ((d.2 S.1).2.2.2.2) oI oB oT ++ gt_pl ad (gt_pk S.1 n) (va_up (gt_pf S lt d1) ((d.1 i).1) (.inr (1, [.int ((d1.2 ((d.1 i).1)).1), .int (S.2.2.2.2.1 ((d.1 i).1)), .int ((d1.2 ((d.1 i).1)).2.1), .long (lN (d1.2 ((d.1 i).1)).2.2.1), .int (S.2.2.2.2.2 ((d.1 i).1)), .int (((d1.2 ((d.1 i).1)).2.2.2.1) + 1), .int (((d1.2 ((d.1 i).1)).2.2.2.2) + 1)])))) H1 := hP
        have hD : va_D A (gt_XH xa xc ad S n F now co told ((d.2 S.1).2.2.2.2) oI oB oT ++ gt_pl ad (gt_pk S.1 n) (va_up (gt_pf S lt d1) ((d.1 i).1) (.inr (1, [.int ((d1.2 ((d.1 i).1)).1), .int (S.2.2.2.2.1 ((d.1 i).1)), .int ((d1.2 ((d.1 i).1)).2.1), .long (lN (d1.2 ((d.1 i).1)).2.2.1), .int (S.2.2.2.2.2 ((d.1 i).1)), .int (((d1.2 ((d.1 i).1)).2.2.2.1) + 1), .int (((d1.2 ((d.1 i).1)).2.2.2.2) + 1)])))) := hD
        rw [e1] at hP hD
        have hP : va_P D gt_cl (gt_XW xa xc ad S lt d2 n F now co told ((d.2 S.1).2.2.2.2) oI oB oT) H1 := hP
        have hD : va_D A (gt_XW xa xc ad S lt d2 n F now co told ((d.2 S.1).2.2.2.2) oI oB oT) := hD
        have hd21 : d2.1 = d.1 := by subst hd2; exact hd11
        refine lv_aload_n hx hb d_X_come_94 rfl (lv_at hl 3 rfl) ?_
        refine lv_iload_n hx hb d_X_come_95 rfl (lv_at hl 4 rfl) ?_
        refine lv_aload_n hx hb d_X_come_96 rfl (lv_at hl 2 rfl) ?_
        refine gt_getP (X := gt_XH xa xc ad S n F now co told ((d.2 S.1).2.2.2.2) oI oB oT) (ad := ad) (K := gt_pk S.1 n) (f := gt_pf S lt d2) (key := 100 + i) (D := D) (ci := 2) (v := .int (nI (d2.1 i).1)) (C := R_I) (T := F_I) (N := 6) hx hb hts i_I hown hK hP (gt_pk_i (by omega) (by omega)) (gt_pf_i S lt d2 i) rfl 4 (by decide) (va_Nw.use rfl (hN (.fieldLinkNest "GateTimes" 86 "GateTimes$Item" "next" "I" "GateTimes") (by decide +kernel))) (fun _ h9 => h9) rfl d_X_come_97 ?_
        rw [hd21]
        have hFc := gt_freeW hD hS hA
        refine va_callv (va_runV (As := [.int (nI i), .int (nI (d.1 i).1)]) (rest := []) ⟨hx, hb, hml, hown, hts⟩ (c_X_leave l D H1.size xa xc ad S lt d2 n F now co told (d.2 S.1).2.2.2.2 oI oB oT i (nI (d.1 i).1) h1 h2 hn hc hF1 hF2 (by rw [hd21]; omega)) (cwV 2 hts (tb_inV kw_169 kw_171 ks_X_leave kw_1 kw_172) rfl rfl rfl (by decide +kernel) ⟨Nat.le_of_ble_eq_true rfl, Nat.le_of_ble_eq_true rfl⟩) (gt_Pre_V gt_XK_mv (va_recv hK hP (ci := 0) (q0 := 0) rfl rfl) hP hK0 hD) rfl rfl hl.1 rfl (lv_room (Nat.le_of_ble_eq_true rfl)) d_X_come_100 ⟨Nat.zero_le _, Nat.zero_le _⟩) hS (fun q _ h => hFc q h) hFc (fun v t9 H1 locs ht9 hvm9 hw hB hz1 hk1 hS => ?_)
        obtain ⟨hP1, hD1⟩ := hB
        rw [ht9] at hP1
        have hD := hD1.weaken (fun _ _ _ h => hFc _ h)
        have hP := hP1
        have hP : va_P D gt_cl (gt_XW xa xc ad S lt (va_up d2.1 i ((d2.1 i).1, nI (d2.1 i).1, gt_fr S.2.1 i (d2.1 i).1), d2.2) n v now (co + 1) told ((d.2 S.1).2.2.2.2) (upd oI co (nI i)) (upd oB co (nI (d.1 i).1)) (vp_updL oT co (lN (gt_fr S.2.1 i (d2.1 i).1)))) H1 := hP
        have hD : va_D A (gt_XW xa xc ad S lt (va_up d2.1 i ((d2.1 i).1, nI (d2.1 i).1, gt_fr S.2.1 i (d2.1 i).1), d2.2) n v now (co + 1) told ((d.2 S.1).2.2.2.2) (upd oI co (nI i)) (upd oB co (nI (d.1 i).1)) (vp_updL oT co (lN (gt_fr S.2.1 i (d2.1 i).1)))) := hD
        have e3 : (va_up d2.1 i ((d2.1 i).1, nI (d2.1 i).1, gt_fr S.2.1 i (d2.1 i).1), d2.2) = gt_act S d i := by
          rw [hd21, hact, hd2, hd12]
          show (_, va_up d1.2 (d.1 i).1 _) = _
          rw [hr1, hd1, bx_uu]
        have e2 : ((gt_act S d i).2 S.1).2.2.2.2 = (d.2 S.1).2.2.2.2 := by rw [gt_act_g S d (by omega)]
        have hw3 := hw.2.2
        rw [e3] at hw3
        rw [e3, ← e2, hd21] at hP hD
        exact hret _ _ _ _ (v, co + 1, upd oI co (nI i), upd oB co (nI (d.1 i).1), vp_updL oT co (lN (gt_fr S.2.1 i (d.1 i).1))) d_X_come_103 ⟨hw.1, hw.2.1, hw3, fun _ => rfl, fun q => absurd hgo q⟩ hP hD hS
    refine lv_icmp_ne (tgt := 70) hx hb d_X_come_56 (by decide) (fun c2 => ?_) (fun c2 => ?_)
    · refine lv_iconst (v := 0) hx hb d_X_come_70 (by decide) ?_
      exact J 0 (gt_Bit.f (fun q => c2 q.1))
    · refine lv_aload_n hx hb d_X_come_59 rfl (lv_at hl 0 rfl) ?_
      refine vp_callSi (va_runV (As := []) (rest := []) ⟨hx, hb, hml, hown, hts⟩ (c_G_isFull l D (ad (d.1 i).1) ((d.2 ((d.1 i).1)).1) (S.2.2.2.2.1 ((d.1 i).1)) ((d.2 ((d.1 i).1)).2.1) ((d.2 ((d.1 i).1)).2.2.1) (S.2.2.2.2.2 ((d.1 i).1)) ((d.2 ((d.1 i).1)).2.2.2.1) ((d.2 ((d.1 i).1)).2.2.2.2)) (cwV 0 hts (tb_inV kw_173 kw_174 kw_175 kw_3 kw_176) rfl rfl rfl (by decide +kernel) ⟨Nat.le_of_ble_eq_true rfl, Nat.le_of_ble_eq_true rfl⟩) (gt_PreP_V gt_K_mv (gt_recvP (X := gt_XH xa xc ad S n F now co told ((d.2 S.1).2.2.2.2) oI oB oT) (ad := ad) (K := gt_pk S.1 n) (f := gt_pf S lt d) (key := (d.1 i).1) hK hP (gt_pk_g hgl) (gt_pf_g (by omega)) rfl) (gt_pl_one (X := gt_XH xa xc ad S n F now co told ((d.2 S.1).2.2.2.2) oI oB oT) (ad := ad) (K := gt_pk S.1 n) (f := gt_pf S lt d) (k := (d.1 i).1) hP (gt_pk_g hgl) (gt_pf_g (by omega))) (hK.sub [] rfl)) rfl rfl hl.1 rfl (lv_room (Nat.le_of_ble_eq_true rfl)) d_X_come_60 ⟨Nat.zero_le _, Nat.zero_le _⟩).run (fun r hr => ?_)
      refine lv_if_ne (tgt := 70) hx hb d_X_come_63 (by decide) (fun c3 => ?_) (fun c3 => ?_)
      · refine lv_iconst (v := 0) hx hb d_X_come_70 (by decide) ?_
        exact J 0 (gt_Bit.f (fun q => hr.yes c3 q.2))
      · refine lv_iconst (v := 1) hx hb d_X_come_66 (by decide) ?_
        refine lv_goto (tgt := 71) hx hb d_X_come_67 (by decide) ?_
        exact J 1 (gt_Bit.t ⟨c2, Decidable.not_not.mp (hr.no c3)⟩)
  · rw [nI_eq (by omega) (by omega)] at c1
    have hgo : gt_go S i (d.1 i) (d.2 (d.1 i).1) = true := gt_go_G c1
    have hact := gt_act_yes hgo
    refine lv_aload_n hx hb d_X_come_18 rfl (lv_at hl 1 rfl) ?_
    refine lv_dup hx hb d_X_come_19 rfl ?_
    refine va_get (D := D) (ci := 0) (v := .int ((d.2 S.1).2.2.2.2)) (C := R_X) (T := F_X) (N := 12) hx hb hts i_X hown hK hP 0 rfl rfl 11 (by decide) (hts _ kw_68) (fun _ h9 => h9) rfl d_X_come_20 ?_
    refine lv_iconst (v := 1) hx hb d_X_come_23 (by decide) ?_
    refine lv_iadd hx hb d_X_come_24 ?_
    refine va_put (D := D) (ci := 0) (v := .int (((d.2 S.1).2.2.2.2) + 1)) (ty := .int) (C := R_X) (T := F_X) (N := 12) hx hb hts i_X t_X t_X_ok n_X hown hK hP hD hS 0 rfl rfl 11 (by decide) (hts _ kw_68) (fun _ h9 => h9) rfl (by decide +kernel) rfl rfl (Nat.le_of_ble_eq_true rfl) d_X_come_25 (fun H locs hP hD hS => ?_)
    have hP : va_P D gt_cl (gt_XW xa xc ad S lt d n F now co told (((d.2 S.1).2.2.2.2) + 1) oI oB oT) H := hP
    have hD : va_D A (gt_XW xa xc ad S lt d n F now co told (((d.2 S.1).2.2.2.2) + 1) oI oB oT) := hD
    refine lv_aload_n hx hb d_X_come_28 rfl (lv_at hl 1 rfl) ?_
    refine lv_iload_n hx hb d_X_come_29 rfl (lv_at hl 2 rfl) ?_
    refine lv_aload_n hx hb d_X_come_30 rfl (lv_at hl 1 rfl) ?_
    refine va_get (D := D) (ci := 0) (v := .int (nI S.1)) (C := R_X) (T := F_X) (N := 12) hx hb hts i_X hown hK hP 0 rfl rfl 0 (by decide) (hts _ kw_57) (fun _ h9 => h9) rfl d_X_come_31 ?_
    have hFc := gt_freeW hD hS hA
    refine va_callv (va_runV (As := [.int (nI i), .int (nI S.1)]) (rest := []) ⟨hx, hb, hml, hown, hts⟩ (c_X_leave l D H.size xa xc ad S lt d n F now co told (((d.2 S.1).2.2.2.2) + 1) oI oB oT i (nI S.1) h1 h2 hn hc hF1 hF2 (by omega)) (cwV 2 hts (tb_inV kw_169 kw_171 ks_X_leave kw_1 kw_172) rfl rfl rfl (by decide +kernel) ⟨Nat.le_of_ble_eq_true rfl, Nat.le_of_ble_eq_true rfl⟩) (gt_Pre_V gt_XK_mv (va_recv hK hP (ci := 0) (q0 := 0) rfl rfl) hP hK0 hD) rfl rfl hl.1 rfl (lv_room (Nat.le_of_ble_eq_true rfl)) d_X_come_34 ⟨Nat.zero_le _, Nat.zero_le _⟩) hS (fun q _ h => hFc q h) hFc (fun u t9 H1 locs ht9 hvm9 hw hB hz1 hk1 hS => ?_)
    obtain ⟨hP1, hD1⟩ := hB
    rw [ht9] at hP1
    have hD := hD1.weaken (fun _ _ _ h => hFc _ h)
    have hP := hP1
    have hP : va_P D gt_cl (gt_XW xa xc ad S lt (va_up d.1 i ((d.1 i).1, nI (d.1 i).1, gt_fr S.2.1 i (d.1 i).1), d.2) n u now (co + 1) told (((d.2 S.1).2.2.2.2) + 1) (upd oI co (nI i)) (upd oB co (nI S.1)) (vp_updL oT co (lN (gt_fr S.2.1 i (d.1 i).1)))) H1 := hP
    have hD : va_D A (gt_XW xa xc ad S lt (va_up d.1 i ((d.1 i).1, nI (d.1 i).1, gt_fr S.2.1 i (d.1 i).1), d.2) n u now (co + 1) told (((d.2 S.1).2.2.2.2) + 1) (upd oI co (nI i)) (upd oB co (nI S.1)) (vp_updL oT co (lN (gt_fr S.2.1 i (d.1 i).1)))) := hD
    have e1 : (gt_act S d i).1 = (va_up d.1 i ((d.1 i).1, nI (d.1 i).1, gt_fr S.2.1 i (d.1 i).1), d.2).1 := by rw [hact]
    have e2 : ((gt_act S d i).2 S.1).2.2.2.2 = ((d.2 S.1).2.2.2.2) + 1 := by rw [hact, ← c1]; show (va_up d.2 (d.1 i).1 _ (d.1 i).1).2.2.2.2 = _; rw [va_up_self]
    rw [gt_XW_gates (d' := gt_act S d i) (by omega) e1.symm (fun g hg => by rw [hact]; show d.2 g = va_up d.2 (d.1 i).1 _ g; rw [va_up_ne _ _ (by omega)]), ← e2] at hP hD
    exact hret _ _ _ _ (u, co + 1, upd oI co (nI i), upd oB co (nI S.1), vp_updL oT co (lN (gt_fr S.2.1 i (d.1 i).1))) d_X_come_37 ⟨hw.1, hw.2.1, fun j a b => by rw [e1]; exact hw.2.2 j a b, fun _ => by rw [c1], fun q => absurd hgo q⟩ hP hD hS
end
section
/-! PURE: what each call answers and does, the same for the class and the reference; what the class keeps beside it. -/
/-- the class' own list of those that are out, and where it begins to look -/
def gt_XR (n : Nat) (d : gt_Dy) (ol : List Nat) (F : Nat) (oI oB : Nat → Int32) (oT : Nat → Int64) : Prop :=
  1 ≤ F ∧ F ≤ n + 1 ∧ (∀ j, 1 ≤ j → j < F → ¬ (d.1 j).2.1 < 0) ∧ ∀ k, k < ol.length → oI k = nI (ol.getD k 0) ∧ oB k = (d.1 (ol.getD k 0)).2.1 ∧ oT k = lN (d.1 (ol.getD k 0)).2.2
theorem gt_NI_none {n : Nat} {S : gt_SS} {d : gt_Dy} {ol : List Nat} {F : Nat} {oI oB : Nat → Int32} {oT : Nat → Int64} (hx : gt_XR n d ol F oI oB oT) (h : gt_NI S d F (n + 1) 0) (i : Nat) (h1 : 1 ≤ i) (h2 : i ≤ n) : ¬ (d.1 i).2.1 < 0 := by
  by_cases q : i < F
  · exact hx.2.2.1 i h1 q
  · rcases h with ⟨-, h3⟩ | ⟨h3, -⟩
    · exact h3 i (by omega) (by omega)
    · have := hx.1; omega
theorem gt_NI_min {n : Nat} {S : gt_SS} {d : gt_Dy} {ol : List Nat} {F b : Nat} {oI oB : Nat → Int32} {oT : Nat → Int64} (hx : gt_XR n d ol F oI oB oT) (h : gt_NI S d F (n + 1) b) (hb : ¬ b = 0) : gt_Min n S d b := by
  rcases h with ⟨h3, -⟩ | ⟨h3, h4, h5, h6⟩
  · exact absurd h3 hb
  · have := hx.1
    refine ⟨by omega, by omega, h5, fun i i1 i2 ib ie => ?_⟩
    by_cases q : i < F
    · exact absurd ib (hx.2.2.1 i i1 q)
    · exact h6 i (by omega) (by omega) ib ie
theorem gt_getD_l {l : List Nat} {b k : Nat} (h : k < l.length) : (l ++ [b]).getD k 0 = l.getD k 0 := by
  rw [List.getD_eq_getElem?_getD, List.getD_eq_getElem?_getD, List.getElem?_append_left h]
theorem gt_getD_r {l : List Nat} {b : Nat} : (l ++ [b]).getD l.length 0 = b := by
  rw [List.getD_eq_getElem?_getD, List.getElem?_append_right (Nat.le_refl _), Nat.sub_self]
  rfl
theorem gt_getD_mem {l : List Nat} {k : Nat} (h : k < l.length) : l.getD k 0 ∈ l := by
  rw [List.getD_eq_getElem?_getD, List.getElem?_eq_getElem h]
  exact List.getElem_mem h
theorem gt_XR_step {n : Nat} {S : gt_SS} {t : Nat} {d0 d : gt_Dy} {ol : List Nat} {F b : Nat} {oI oB : Nat → Int32} {oT : Nat → Int64} (hA : gt_A n S t d0 d ol) (hm : gt_Min n S d b) (hx : gt_XR n d ol F oI oB oT)
    {F2 c2 : Nat} {oI2 oB2 : Nat → Int32} {oT2 : Nat → Int64} (h1 : F ≤ F2) (h2 : F2 ≤ n + 1) (h3 : ∀ j, F ≤ j → j < F2 → ¬ ((gt_act S d b).1 j).2.1 < 0)
    (h4 : gt_go S b (d.1 b) (d.2 (d.1 b).1) = true → (c2, oI2, oB2, oT2) = (ol.length + 1, upd oI ol.length (nI b), upd oB ol.length (nI (d.1 b).1), vp_updL oT ol.length (lN (gt_fr S.2.1 b (d.1 b).1))))
    (h5 : ¬ gt_go S b (d.1 b) (d.2 (d.1 b).1) = true → (c2, oI2, oB2, oT2) = (ol.length, oI, oB, oT)) : c2 = (gt_olS S d b ol).length ∧ gt_XR n (gt_act S d b) (gt_olS S d b ol) F2 oI2 oB2 oT2 := by
  have hbo : ∀ j, j ∈ ol → j ≠ b := fun j hj e => ((hA.2.2.2.1 j).mp hj).2.2 (e ▸ hm.2.2.1)
  have hF : ∀ j, 1 ≤ j → j < F2 → ¬ ((gt_act S d b).1 j).2.1 < 0 := fun j j1 j2 => by
    by_cases q : j < F
    · have hj := hx.2.2.1 j j1 q
      have hjb : j ≠ b := fun e => hj (e ▸ hm.2.2.1)
      rw [gt_act_j S d hjb]
      exact hj
    · exact h3 j (by omega) j2
  have hF1 := hx.1
  unfold gt_olS
  by_cases hgo : gt_go S b (d.1 b) (d.2 (d.1 b).1) = true
  · rw [if_pos hgo]
    have e := h4 hgo
    simp only [Prod.mk.injEq] at e
    obtain ⟨rfl, rfl, rfl, rfl⟩ := e
    refine ⟨by simp, by omega, h2, hF, fun k hk => ?_⟩
    rw [List.length_append, List.length_singleton] at hk
    by_cases q : k = ol.length
    · subst q
      have eb : (gt_act S d b).1 b = ((d.1 b).1, nI (d.1 b).1, gt_fr S.2.1 b (d.1 b).1) := by rw [gt_act_yes hgo]; exact va_up_self _ _ _
      rw [gt_getD_r, eb]
      exact ⟨pk_us, pk_us, pk_uLs⟩
    · have hk' : k < ol.length := by omega
      have := hx.2.2.2 k hk'
      rw [gt_getD_l hk', gt_act_j S d (hbo _ (gt_getD_mem hk')), pk_un q, pk_un q, pk_uLn q]
      exact this
  · rw [if_neg hgo]
    have e := h5 hgo
    simp only [Prod.mk.injEq] at e
    obtain ⟨rfl, rfl, rfl, rfl⟩ := e
    refine ⟨rfl, by omega, h2, hF, fun k hk => ?_⟩
    rw [gt_act_j S d (hbo _ (gt_getD_mem hk))]
    exact hx.2.2.2 k hk
/-- what holds between the calls -/
def gt_Inv (n : Nat) (S : gt_SS) (lt : Nat → Int32) (d : gt_Dy) (now : Nat) (ol : List Nat) : Prop :=
  gt_Hs n S ∧ gt_Hd n S d ∧ gt_Ho n S now d ol ∧ now ≤ 1000000000 ∧ (∀ i, 1 ≤ i → i ≤ n → S.2.2.2.1 i = -1 ∨ 0 ≤ S.2.2.2.1 i) ∧ ∀ i, n < i → lt i = 0
theorem gt_Inv_len {n : Nat} {S : gt_SS} {lt : Nat → Int32} {d : gt_Dy} {now : Nat} {ol : List Nat} (h : gt_Inv n S lt d now ol) : ol.length ≤ n :=
  gt_len h.2.2.1.1 (fun i hi => ⟨((h.2.2.1.2.1 i).mp hi).1, ((h.2.2.1.2.1 i).mp hi).2.1⟩)
theorem gt_Inv_pass {n : Nat} {S : gt_SS} {lt : Nat → Int32} {d d' : gt_Dy} {now t : Nat} {ol ol' : List Nat} (h : gt_Inv n S lt d now ol) (ht : t ≤ 1000000000) (hd : gt_Hd n S d') (ho : gt_Ho n S t d' ol') : gt_Inv n S lt d' t ol' :=
  ⟨h.1, hd, ho, ht, h.2.2.2.2.1, h.2.2.2.2.2⟩
/-- an order, behind the pass -/
def gt_Ans (S : gt_SS) (lt : Nat → Int32) (d : gt_Dy) (i g t : Nat) (r : Int32) (S' : gt_SS) (lt' : Nat → Int32) : Prop :=
  (¬ (d.1 i).2.1 < 0 ∧ r = 0 ∧ S' = S ∧ lt' = lt) ∨
  ((d.1 i).2.1 < 0 ∧ ¬ S.2.2.2.1 i = -1 ∧ r = 2 ∧ S' = S ∧ lt' = lt) ∨
  ((d.1 i).2.1 < 0 ∧ S.2.2.2.1 i = -1 ∧ gt_fr S.2.1 i g < t + 200 ∧ r = 0 ∧ S' = S ∧ lt' = va_up lt i (nI (t + 200 - gt_fr S.2.1 i g))) ∨
  ((d.1 i).2.1 < 0 ∧ S.2.2.2.1 i = -1 ∧ ¬ gt_fr S.2.1 i g < t + 200 ∧ r = 1 ∧ S' = (S.1, S.2.1, S.2.2.1, va_up S.2.2.2.1 i (nI g), S.2.2.2.2) ∧ lt' = lt)
/-- the state that an order may change -/
abbrev gt_St : Type := gt_SS × (Nat → Int32) × gt_Dy × Nat × List Nat
def gt_ROrder (n : Nat) (st : gt_St) (x y : Int32) (tt : Int64) (r : Int32) (st' : gt_St) : Prop :=
  (¬ ((∃ i, 1 ≤ i ∧ i ≤ n ∧ x = nI i) ∧ ∃ g, g < st.1.1 ∧ y = nI g) ∧ r = -101 ∧ st' = st) ∨
  (∃ i g, 1 ≤ i ∧ i ≤ n ∧ x = nI i ∧ g < st.1.1 ∧ y = nI g ∧ ((¬ (∃ t, st.2.2.2.1 ≤ t ∧ t ≤ 1000000000 ∧ tt = lN t) ∧ r = -102 ∧ st' = st) ∨
    ∃ t, st.2.2.2.1 ≤ t ∧ t ≤ 1000000000 ∧ tt = lN t ∧ gt_Pass n st.1 t st.2.2.1 st'.2.2.1 st'.2.2.2.2 ∧ st'.2.2.2.1 = t ∧ gt_Ans st.1 st.2.1 st'.2.2.1 i g t r st'.1 st'.2.1))
theorem gt_Ans_one {S : gt_SS} {lt : Nat → Int32} {d : gt_Dy} {i g t : Nat} {r1 r2 : Int32} {S1 S2 : gt_SS} {l1 l2 : Nat → Int32} (h1 : gt_Ans S lt d i g t r1 S1 l1) (h2 : gt_Ans S lt d i g t r2 S2 l2) : r1 = r2 ∧ S1 = S2 ∧ l1 = l2 := by
  rcases h1 with ⟨a1, a2, a3, a4⟩ | ⟨a1, a0, a2, a3, a4⟩ | ⟨a1, a0, a5, a2, a3, a4⟩ | ⟨a1, a0, a5, a2, a3, a4⟩ <;>
  rcases h2 with ⟨b1, b2, b3, b4⟩ | ⟨b1, b0, b2, b3, b4⟩ | ⟨b1, b0, b5, b2, b3, b4⟩ | ⟨b1, b0, b5, b2, b3, b4⟩ <;>
  first | exact ⟨a2.trans b2.symm, a3.trans b3.symm, a4.trans b4.symm⟩ | exact absurd b1 a1 | exact absurd a1 b1 | exact absurd b0 a0 | exact absurd a0 b0 | exact absurd b5 a5 | exact absurd a5 b5
theorem gt_nI_inj {a b : Nat} (ha : a ≤ 1000) (hb : b ≤ 1000) (h : nI a = nI b) : a = b := (nI_eq (by omega) (by omega)).mp h
theorem gt_lN_inj {a b : Nat} (ha : a ≤ 1000000000) (hb : b ≤ 1000000000) (h : lN a = lN b) : a = b := (lN_eq (by omega) (by omega)).mp h
theorem gt_St_ext {a b : gt_St} (h1 : a.1 = b.1) (h2 : a.2.1 = b.2.1) (h3 : a.2.2.1 = b.2.2.1) (h4 : a.2.2.2.1 = b.2.2.2.1) (h5 : a.2.2.2.2 = b.2.2.2.2) : a = b :=
  Prod.ext h1 (Prod.ext h2 (Prod.ext h3 (Prod.ext h4 h5)))
theorem gt_ROrder_one {n : Nat} {st : gt_St} (hn : n ≤ 400) (hG : st.1.1 ≤ 12) {x y : Int32} {tt : Int64} {r1 r2 : Int32} {s1 s2 : gt_St} (h1 : gt_ROrder n st x y tt r1 s1) (h2 : gt_ROrder n st x y tt r2 s2) : r1 = r2 ∧ s1 = s2 := by
  rcases h1 with ⟨a1, a2, a3⟩ | ⟨i, g, i1, i2, i3, g1, g2, h1⟩
  · rcases h2 with ⟨b1, b2, b3⟩ | ⟨j, k, j1, j2, j3, k1, k2, h2⟩
    · exact ⟨a2.trans b2.symm, a3.trans b3.symm⟩
    · exact absurd ⟨⟨j, j1, j2, j3⟩, k, k1, k2⟩ a1
  · rcases h2 with ⟨b1, b2, b3⟩ | ⟨j, k, j1, j2, j3, k1, k2, h2⟩
    · exact absurd ⟨⟨i, i1, i2, i3⟩, g, g1, g2⟩ b1
    · have e1 : i = j := gt_nI_inj (by omega) (by omega) (i3.symm.trans j3)
      have e2 : g = k := gt_nI_inj (by omega) (by omega) (g2.symm.trans k2)
      subst e1; subst e2
      rcases h1 with ⟨a1, a2, a3⟩ | ⟨t, t1, t2, t3, p1, q1, w1⟩
      · rcases h2 with ⟨b1, b2, b3⟩ | ⟨u, u1, u2, u3, -⟩
        · exact ⟨a2.trans b2.symm, a3.trans b3.symm⟩
        · exact absurd ⟨u, u1, u2, u3⟩ a1
      · rcases h2 with ⟨b1, b2, b3⟩ | ⟨u, u1, u2, u3, p2, q2, w2⟩
        · exact absurd ⟨t, t1, t2, t3⟩ b1
        · have e3 : t = u := gt_lN_inj t2 u2 (t3.symm.trans u3)
          subst e3
          obtain ⟨e4, e5⟩ := gt_Pass_one p1 p2
          rw [← e4] at w2
          obtain ⟨e6, e7, e8⟩ := gt_Ans_one w1 w2
          exact ⟨e6, gt_St_ext e7 e8 e4 (q1.trans q2.symm) e5⟩
/-- step: the state and what was told -/
def gt_RStep (n : Nat) (st : gt_St) (told : Int32) (tt : Int64) (r : Int32) (st' : gt_St) (told' : Int32) : Prop :=
  (¬ (∃ t, st.2.2.2.1 ≤ t ∧ t ≤ 1000000000 ∧ tt = lN t) ∧ r = -102 ∧ st' = st ∧ told' = told) ∨
    ∃ t, st.2.2.2.1 ≤ t ∧ t ≤ 1000000000 ∧ tt = lN t ∧ gt_Pass n st.1 t st.2.2.1 st'.2.2.1 st'.2.2.2.2 ∧ st'.2.2.2.1 = t ∧ st'.1 = st.1 ∧ st'.2.1 = st.2.1 ∧ r = nI st'.2.2.2.2.length - told ∧ told' = nI st'.2.2.2.2.length
theorem gt_RStep_one {n : Nat} {st : gt_St} {told : Int32} {tt : Int64} {r1 r2 : Int32} {s1 s2 : gt_St} {o1 o2 : Int32} (h1 : gt_RStep n st told tt r1 s1 o1) (h2 : gt_RStep n st told tt r2 s2 o2) : r1 = r2 ∧ s1 = s2 ∧ o1 = o2 := by
  rcases h1 with ⟨a1, a2, a3, a4⟩ | ⟨t, t1, t2, t3, p1, q1, w1, x1, y1, z1⟩
  · rcases h2 with ⟨b1, b2, b3, b4⟩ | ⟨u, u1, u2, u3, -⟩
    · exact ⟨a2.trans b2.symm, a3.trans b3.symm, a4.trans b4.symm⟩
    · exact absurd ⟨u, u1, u2, u3⟩ a1
  · rcases h2 with ⟨b1, b2, b3, b4⟩ | ⟨u, u1, u2, u3, p2, q2, w2, x2, y2, z2⟩
    · exact absurd ⟨t, t1, t2, t3⟩ b1
    · have e3 : t = u := gt_lN_inj t2 u2 (t3.symm.trans u3)
      subst e3
      obtain ⟨e4, e5⟩ := gt_Pass_one p1 p2
      exact ⟨by rw [y1, y2, e5], gt_St_ext (w1.trans w2.symm) (x1.trans x2.symm) e4 (q1.trans q2.symm) e5, by rw [z1, z2, e5]⟩
/-- out, verify: by the list; what is asked: 0, 1, 2 -/
def gt_sel (w a b c : Int32) (r : Int32) : Prop := (w = 0 ∧ r = a) ∨ (w = 1 ∧ r = b) ∨ (w = 2 ∧ r = c) ∨ (¬ w = 0 ∧ ¬ w = 1 ∧ ¬ w = 2 ∧ r = -1)
theorem gt_sel_one {w a b c r1 r2 : Int32} (h1 : gt_sel w a b c r1) (h2 : gt_sel w a b c r2) : r1 = r2 := by
  rcases h1 with ⟨a1, a2⟩ | ⟨a1, a2⟩ | ⟨a1, a2⟩ | ⟨a1, a3, a4, a2⟩ <;> rcases h2 with ⟨b1, b2⟩ | ⟨b1, b2⟩ | ⟨b1, b2⟩ | ⟨b1, b3, b4, b2⟩ <;>
  first | exact a2.trans b2.symm | exact absurd (a1.symm.trans b1) (by decide) | exact absurd b1 ‹_› | exact absurd a1 ‹_›
def gt_ROut (d : gt_Dy) (ol : List Nat) (x w r : Int32) : Prop :=
  (∃ k, k < ol.length ∧ x = nI k ∧ gt_sel w (nI (ol.getD k 0)) (d.1 (ol.getD k 0)).2.1 (nI (d.1 (ol.getD k 0)).2.2) r) ∨ ((¬ ∃ k, k < ol.length ∧ x = nI k) ∧ r = -1)
theorem gt_ROut_one {d : gt_Dy} {ol : List Nat} (hl : ol.length ≤ 400) {x w r1 r2 : Int32} (h1 : gt_ROut d ol x w r1) (h2 : gt_ROut d ol x w r2) : r1 = r2 := by
  rcases h1 with ⟨k, k1, k2, k3⟩ | ⟨a1, a2⟩ <;> rcases h2 with ⟨j, j1, j2, j3⟩ | ⟨b1, b2⟩
  · have e : k = j := gt_nI_inj (by omega) (by omega) (k2.symm.trans j2)
    subst e
    exact gt_sel_one k3 j3
  · exact absurd ⟨k, k1, k2⟩ b1
  · exact absurd ⟨j, j1, j2⟩ a1
  · exact a2.trans b2.symm
/-- calls with a bin: g its number -/
def gt_RBin (G : Nat) (y r : Int32) (P : Nat → Prop) (N : Prop) : Prop := (∃ g, g < G ∧ y = nI g ∧ P g) ∨ ((¬ ∃ g, g < G ∧ y = nI g) ∧ r = -101 ∧ N)
def gt_wr (S : gt_SS) (d : gt_Dy) (ol : List Nat) (k : Nat) : Prop := ¬ S.2.2.2.1 (ol.getD k 0) = -1 ∧ ¬ S.2.2.2.1 (ol.getD k 0) = (d.1 (ol.getD k 0)).2.1
noncomputable def gt_ct (S : gt_SS) (d : gt_Dy) (ol : List Nat) : Nat → Nat
  | 0 => 0
  | k + 1 => gt_ct S d ol k + (@ite Nat (gt_wr S d ol k) (Classical.propDecidable _) 1 0)
theorem gt_ct_y {S : gt_SS} {d : gt_Dy} {ol : List Nat} {k : Nat} (h : gt_wr S d ol k) : gt_ct S d ol (k + 1) = gt_ct S d ol k + 1 := by
  show gt_ct S d ol k + _ = _
  rw [if_pos h]
theorem gt_ct_n {S : gt_SS} {d : gt_Dy} {ol : List Nat} {k : Nat} (h : ¬ gt_wr S d ol k) : gt_ct S d ol (k + 1) = gt_ct S d ol k := by
  show gt_ct S d ol k + _ = _
  rw [if_neg h]
  rfl
theorem gt_ct_le (S : gt_SS) (d : gt_Dy) (ol : List Nat) : ∀ k, gt_ct S d ol k ≤ k
  | 0 => Nat.le_refl 0
  | k + 1 => by
    have := gt_ct_le S d ol k
    by_cases h : gt_wr S d ol k
    · rw [gt_ct_y h]; omega
    · rw [gt_ct_n h]; omega
theorem gt_ct_mono (S : gt_SS) (d : gt_Dy) (ol : List Nat) {j : Nat} : ∀ k, j ≤ k → gt_ct S d ol j ≤ gt_ct S d ol k
  | 0, h => by rw [show j = 0 by omega]; exact Nat.le_refl _
  | k + 1, h => by
    by_cases e : j = k + 1
    · rw [e]; exact Nat.le_refl _
    · have := gt_ct_mono S d ol (j := j) k (by omega)
      by_cases q : gt_wr S d ol k
      · rw [gt_ct_y q]; omega
      · rw [gt_ct_n q]; omega
def gt_hit (S : gt_SS) (d : gt_Dy) (ol : List Nat) (x : Int32) (k : Nat) : Prop := k < ol.length ∧ gt_wr S d ol k ∧ x = nI (gt_ct S d ol k)
def gt_RVer (S : gt_SS) (d : gt_Dy) (ol : List Nat) (x w r : Int32) : Prop :=
  (∃ k, gt_hit S d ol x k ∧ gt_sel w (nI (ol.getD k 0)) (S.2.2.2.1 (ol.getD k 0)) (d.1 (ol.getD k 0)).2.1 r) ∨ ((¬ ∃ k, gt_hit S d ol x k) ∧ r = -1)
theorem gt_hit_one {S : gt_SS} {d : gt_Dy} {ol : List Nat} (hl : ol.length ≤ 400) {x : Int32} {k j : Nat} (h1 : gt_hit S d ol x k) (h2 : gt_hit S d ol x j) : k = j := by
  have a := gt_ct_le S d ol k
  have b := gt_ct_le S d ol j
  have e : gt_ct S d ol k = gt_ct S d ol j := gt_nI_inj (by have := h1.1; omega) (by have := h2.1; omega) (h1.2.2.symm.trans h2.2.2)
  rcases Nat.lt_trichotomy k j with q | q | q
  · have h := gt_ct_mono S d ol (j := k + 1) j q
    rw [gt_ct_y h1.2.1] at h
    omega
  · exact q
  · have h := gt_ct_mono S d ol (j := j + 1) k q
    rw [gt_ct_y h2.2.1] at h
    omega
theorem gt_RVer_one {S : gt_SS} {d : gt_Dy} {ol : List Nat} (hl : ol.length ≤ 400) {x w r1 r2 : Int32} (h1 : gt_RVer S d ol x w r1) (h2 : gt_RVer S d ol x w r2) : r1 = r2 := by
  rcases h1 with ⟨k, k1, k2⟩ | ⟨a1, a2⟩ <;> rcases h2 with ⟨j, j1, j2⟩ | ⟨b1, b2⟩
  · have e := gt_hit_one hl k1 j1
    subst e
    exact gt_sel_one k2 j2
  · exact absurd ⟨k, k1⟩ b1
  · exact absurd ⟨j, j1⟩ a1
  · exact a2.trans b2.symm
/-- an item comes on the belt -/
def gt_okI (n now : Nat) (S : gt_SS) (a b : Int64) (a' b' : Nat) : Prop := a = lN a' ∧ b = lN b' ∧ now ≤ a' ∧ a' ≤ 1000000000 ∧ 1 ≤ b' ∧ b' ≤ 900 ∧ (n = 0 ∨ S.2.1 n + S.2.2.1 n + 50 ≤ a')
def gt_Sadd (S : gt_SS) (n a b : Nat) : gt_SS := (S.1, va_up S.2.1 (n + 1) a, va_up S.2.2.1 (n + 1) b, va_up S.2.2.2.1 (n + 1) (-1), S.2.2.2.2)
def gt_dadd (d : gt_Dy) (n : Nat) : gt_Dy := (va_up d.1 (n + 1) (0, -1, (d.1 (n + 1)).2.2), d.2)
def gt_RItem (n now : Nat) (S : gt_SS) (d : gt_Dy) (a b : Int64) (r : Int32) (n' : Nat) (S' : gt_SS) (d' : gt_Dy) : Prop :=
  (∃ a' b', gt_okI n now S a b a' b' ∧ n < 400 ∧ r = nI (n + 1) ∧ n' = n + 1 ∧ S' = gt_Sadd S n a' b' ∧ d' = gt_dadd d n) ∨
  (∃ a' b', gt_okI n now S a b a' b' ∧ n = 400 ∧ r = -104 ∧ n' = n ∧ S' = S ∧ d' = d) ∨
  ((¬ ∃ a' b', gt_okI n now S a b a' b') ∧ r = -102 ∧ n' = n ∧ S' = S ∧ d' = d)
theorem gt_RItem_one {n now : Nat} {S : gt_SS} {d : gt_Dy} {a b : Int64} {r1 r2 : Int32} {n1 n2 : Nat} {S1 S2 : gt_SS} {d1 d2 : gt_Dy} (h1 : gt_RItem n now S d a b r1 n1 S1 d1) (h2 : gt_RItem n now S d a b r2 n2 S2 d2) : r1 = r2 ∧ n1 = n2 ∧ S1 = S2 ∧ d1 = d2 := by
  rcases h1 with ⟨a1, b1, o1, c1, e1, f1, g1, k1⟩ | ⟨a1, b1, o1, c1, e1, f1, g1, k1⟩ | ⟨o1, e1, f1, g1, k1⟩ <;>
  rcases h2 with ⟨a2, b2, o2, c2, e2, f2, g2, k2⟩ | ⟨a2, b2, o2, c2, e2, f2, g2, k2⟩ | ⟨o2, e2, f2, g2, k2⟩
  · have p : a1 = a2 := gt_lN_inj o1.2.2.2.1 o2.2.2.2.1 (o1.1.symm.trans o2.1)
    have q : b1 = b2 := gt_lN_inj (by have := o1.2.2.2.2.2.1; omega) (by have := o2.2.2.2.2.2.1; omega) (o1.2.1.symm.trans o2.2.1)
    subst p; subst q
    exact ⟨e1.trans e2.symm, f1.trans f2.symm, g1.trans g2.symm, k1.trans k2.symm⟩
  · omega
  · exact absurd ⟨a1, b1, o1⟩ o2
  · omega
  · exact ⟨e1.trans e2.symm, f1.trans f2.symm, g1.trans g2.symm, k1.trans k2.symm⟩
  · exact absurd ⟨a1, b1, o1⟩ o2
  · exact absurd ⟨a2, b2, o2⟩ o1
  · exact absurd ⟨a2, b2, o2⟩ o1
  · exact ⟨e1.trans e2.symm, f1.trans f2.symm, g1.trans g2.symm, k1.trans k2.symm⟩
theorem gt_RBin_one {G : Nat} (hG : G ≤ 12) {y r1 r2 : Int32} {P Q : Nat → Prop} {N M C : Prop} (h1 : gt_RBin G y r1 P N) (h2 : gt_RBin G y r2 Q M) (hc : ∀ g, g < G → P g → Q g → C) (hn : r1 = r2 → N → M → C) : C := by
  rcases h1 with ⟨k, k1, k2, k3⟩ | ⟨a1, a2, a3⟩ <;> rcases h2 with ⟨j, j1, j2, j3⟩ | ⟨b1, b2, b3⟩
  · have e : k = j := gt_nI_inj (by omega) (by omega) (k2.symm.trans j2)
    subst e
    exact hc k k1 k3 j3
  · exact absurd ⟨k, k1, k2⟩ b1
  · exact absurd ⟨j, j1, j2⟩ a1
  · exact hn (a2.trans b2.symm) a3 b3
end
section
/-! THE CLASS: time passes; order; step. -/
abbrev rm_X_pass : Room := { frames := 4, cells := 0, slots := 0, locals := 88 }
set_option maxHeartbeats 4000000 in
set_option maxRecDepth 100000 in
/-- pass(t) -/
theorem c_X_pass (l : Launch) (D : va_G) (sz : Nat) (xa : Nat → Nat) (xc : Nat → ClassId) (ad : Nat → Nat) (S : gt_SS) (lt : Nat → Int32) (d : gt_Dy) (n F now : Nat) (ol : List Nat) (told : Int32) (oI oB : Nat → Int32) (oT : Nat → Int64) (t : Nat) (hs : gt_Hs n S) (hd : gt_Hd n S d) (ho : gt_Ho n S now d ol) (hxr : gt_XR n d ol F oI oB oT) (ht0 : now ≤ t) (ht : t ≤ 1000000000) : Met l y_X_pass w_X_pass rm_X_pass (gt_Pre D (gt_XK D xc) [.ref (xa 0), .long (lN t)] (gt_XW xa xc ad S lt d n F now ol.length told ((d.2 S.1).2.2.2.2) oI oB oT) sz) (gt_Qv D (gt_XW xa xc ad S lt d n F now ol.length told ((d.2 S.1).2.2.2.2) oI oB oT) sz (fun u : gt_Dy × List Nat × Nat × (Nat → Int32) × (Nat → Int32) × (Nat → Int64) => gt_Pass n S t d u.1 u.2.1 ∧ gt_Hd n S u.1 ∧ gt_Ho n S t u.1 u.2.1 ∧ gt_XR n u.1 u.2.1 u.2.2.1 u.2.2.2.1 u.2.2.2.2.1 u.2.2.2.2.2) (fun u : gt_Dy × List Nat × Nat × (Nat → Int32) × (Nat → Int32) × (Nat → Int64) => gt_XW xa xc ad S lt u.1 n u.2.2.1 t u.2.1.length told (u.1.2 S.1).2.2.2.2 u.2.2.2.1 u.2.2.2.2.1 u.2.2.2.2.2)) 0 0 (va_A (gt_XW xa xc ad S lt d n F now ol.length told ((d.2 S.1).2.2.2.2) oI oB oT) sz) := by
  refine gt_mut_v (own := R_X) (by decide) rfl (Nat.le_of_ble_eq_true rfl) ?_
  intro p e s m below meth c args A hx hb hml hown hnm hts hP hK0 hD hA Q hret ls hl
  have hS : va_S A s.heap s.heap [] := va_S.rf
  have hl : lv_has ls 4 [(0, .ref (xa 0)), (1, .long (lN t))] := hl
  have hK : va_K D gt_cl (gt_Xt xc) s := hK0.1
  have hN := hK0.2
  have hn : n ≤ 400 := hs.2.2.1
  have hG : S.1 ≤ 12 := hs.2.1
  have loop : ∀ (q : Nat) (d1 : gt_Dy) (ol1 : List Nat) (F1 : Nat) (oI1 oB1 : Nat → Int32) (oT1 : Nat → Int64) (b : Nat), gt_ms n d1 < q → gt_A n S t d d1 ol1 → gt_XR n d1 ol1 F1 oI1 oB1 oT1 → b ≤ n → gt_NI S d1 F1 (n + 1) b → ∀ (H : Heap) (locs : List Loc), va_P D gt_cl (gt_XW xa xc ad S lt d1 n F1 now ol1.length told ((d1.2 S.1).2.2.2.2) oI1 oB1 oT1) H → va_D A (gt_XW xa xc ad S lt d1 n F1 now ol1.length told ((d1.2 S.1).2.2.2.2) oI1 oB1 oT1) → va_S A s.heap H locs → ∀ ls, lv_has ls 4 [(3, .int (nI b)), (0, .ref (xa 0)), (1, .long (lN t))] → W p l e rm_X_pass s m args below meth c H locs 0 0 Q (F0 m 5 ls []) := by
    intro q
    induction q with
    | zero => intro d1 ol1 F1 oI1 oB1 oT1 b h1; omega
    | succ q ih =>
      intro d1 ol1 F1 oI1 oB1 oT1 b hq hA1 hx1 hbn hNI H locs hP hD hS ls hl
      refine lv_iload_n hx hb d_X_pass_5 rfl (lv_at hl 0 rfl) ?_
      refine lv_if_le (tgt := 36) hx hb d_X_pass_6 (by decide) (fun c1 => ?_) (fun c1 => ?_)
      · have hb0 : b = 0 := by
          rcases Nat.eq_zero_or_pos b with q | q
          · exact q
          · exact absurd c1 (nI_nle q (by omega))
        subst hb0
        have hend := gt_A_end hA1 (fun i i1 i2 ib => absurd ib (gt_NI_none hx1 hNI i i1 i2))
        refine lv_aload_n hx hb d_X_pass_36 rfl (lv_at hl 1 rfl) ?_
        refine lv_lload_n hx hb d_X_pass_37 rfl (lv_at hl 2 rfl) ?_
        refine va_put (D := D) (ci := 0) (v := .long (lN t)) (ty := .long) (C := R_X) (T := F_X) (N := 12) hx hb hts i_X t_X t_X_ok n_X hown hK hP hD hS 0 rfl rfl 5 (by decide) (hts _ kw_62) (fun _ h9 => h9) rfl (by decide +kernel) rfl rfl (Nat.le_of_ble_eq_true rfl) d_X_pass_38 (fun H locs hP hD hS => ?_)
        have hP : va_P D gt_cl (gt_XW xa xc ad S lt d1 n F1 t ol1.length told ((d1.2 S.1).2.2.2.2) oI1 oB1 oT1) H := hP
        have hD : va_D A (gt_XW xa xc ad S lt d1 n F1 t ol1.length told ((d1.2 S.1).2.2.2.2) oI1 oB1 oT1) := hD
        exact hret _ _ _ _ (d1, ol1, F1, oI1, oB1, oT1) d_X_pass_41 ⟨hend.1, hend.2.1, hend.2.2, hx1⟩ hP hD hS
      · have hb0 : ¬ b = 0 := fun q => c1 (by rw [q]; decide)
        have hmin := gt_NI_min hx1 hNI hb0
        have hb1 := hmin.1
        have hHd := hA1.2.1
        have hnx := (hHd.1 b hb1 hbn).1
        have hab := hs.2.2.2.1 b hb1 hbn
        refine lv_aload_n hx hb d_X_pass_9 rfl (lv_at hl 1 rfl) ?_
        refine va_get (D := D) (ci := 0) (v := .ref (xa 2)) (C := R_X) (T := F_X) (N := 12) hx hb hts i_X hown hK hP 0 rfl rfl 2 (by decide) (hts _ kw_59) (fun _ h9 => h9) rfl d_X_pass_10 ?_
        refine lv_iload_n hx hb d_X_pass_13 rfl (lv_at hl 0 rfl) ?_
        refine gt_qald (k := b) (b := ad (100 + b)) (C := "GateTimes$Item") hx hb hK hP 2 1 rfl rfl (by omega) (by decide) (gt_fi_at (by omega) (by omega)) d_X_pass_14 ?_
        refine vp_callSl (va_runV (As := []) (rest := []) ⟨hx, hb, hml, hown, hts⟩ (c_I_time l D (ad (100 + b)) (S.2.1 b) (lN (S.2.2.1 b)) (S.2.2.2.1 b) (lt b) (d1.1 b).1 (gt_oI (d1.1 b)) (by omega)) (cwV 0 hts (tb_inV kw_156 kw_157 kw_158 kw_5 kw_159) rfl rfl rfl (by decide +kernel) ⟨Nat.le_of_ble_eq_true rfl, Nat.le_of_ble_eq_true rfl⟩) (gt_PreP_V gt_K_mv (gt_recvP (X := gt_XH xa xc ad S n F1 now ol1.length told ((d1.2 S.1).2.2.2.2) oI1 oB1 oT1) (ad := ad) (K := gt_pk S.1 n) (f := gt_pf S lt d1) (key := 100 + b) hK hP (gt_pk_i (by omega) (by omega)) (gt_pf_i S lt d1 b) rfl) (gt_pl_one (X := gt_XH xa xc ad S n F1 now ol1.length told ((d1.2 S.1).2.2.2.2) oI1 oB1 oT1) (ad := ad) (K := gt_pk S.1 n) (f := gt_pf S lt d1) (k := 100 + b) hP (gt_pk_i (by omega) (by omega)) (gt_pf_i S lt d1 b)) (hK.sub [] rfl)) rfl rfl hl.1 rfl (lv_room (Nat.le_of_ble_eq_true rfl)) d_X_pass_15 ⟨Nat.zero_le _, Nat.zero_le _⟩).run (fun r1 hr1 => ?_)
        have hr1 : r1 = lN (gt_fr S.2.1 b (d1.1 b).1) := hr1
        subst hr1
        refine lv_lload_n hx hb d_X_pass_18 rfl (lv_at hl 2 rfl) ?_
        refine W.lcmp hx hb d_X_pass_19 ?_
        refine lv_if_gt (tgt := 36) hx hb d_X_pass_20 (by decide) (fun c2 => ?_) (fun c2 => ?_)
        · have c2 := (lg_cmp_gt _ _).mp c2
          rw [pk_lLT (by omega) (by unfold gt_fr; omega)] at c2
          have hend := gt_A_end hA1 (fun i i1 i2 ib => by
            by_cases e : i = b
            · rw [e]; exact c2
            · have := hmin.2.2.2 i i1 i2 ib e
              omega)
          refine lv_aload_n hx hb d_X_pass_36 rfl (lv_at hl 1 rfl) ?_
          refine lv_lload_n hx hb d_X_pass_37 rfl (lv_at hl 2 rfl) ?_
          refine va_put (D := D) (ci := 0) (v := .long (lN t)) (ty := .long) (C := R_X) (T := F_X) (N := 12) hx hb hts i_X t_X t_X_ok n_X hown hK hP hD hS 0 rfl rfl 5 (by decide) (hts _ kw_62) (fun _ h9 => h9) rfl (by decide +kernel) rfl rfl (Nat.le_of_ble_eq_true rfl) d_X_pass_38 (fun H locs hP hD hS => ?_)
          have hP : va_P D gt_cl (gt_XW xa xc ad S lt d1 n F1 t ol1.length told ((d1.2 S.1).2.2.2.2) oI1 oB1 oT1) H := hP
          have hD : va_D A (gt_XW xa xc ad S lt d1 n F1 t ol1.length told ((d1.2 S.1).2.2.2.2) oI1 oB1 oT1) := hD
          exact hret _ _ _ _ (d1, ol1, F1, oI1, oB1, oT1) d_X_pass_41 ⟨hend.1, hend.2.1, hend.2.2, hx1⟩ hP hD hS
        · have c2 : ¬ _ := fun q => c2 ((lg_cmp_gt _ _).mpr q)
          rw [pk_lLT (by omega) (by unfold gt_fr; omega)] at c2
          have hbo : b ∉ ol1 := fun q => ((hA1.2.2.2.1 b).mp q).2.2 hmin.2.2.1
          have hl1 : ol1.length < n := gt_len_lt hA1.2.2.1 (fun i hi => ⟨((hA1.2.2.2.1 i).mp hi).1, ((hA1.2.2.2.1 i).mp hi).2.1⟩) hbo hb1 hbn
          refine lv_aload_n hx hb d_X_pass_23 rfl (lv_at hl 1 rfl) ?_
          refine lv_iload_n hx hb d_X_pass_24 rfl (lv_at hl 0 rfl) ?_
          have hFc := gt_freeW hD hS hA
          refine va_callv (va_runV (As := [.int (nI b)]) (rest := []) ⟨hx, hb, hml, hown, hts⟩ (c_X_come l D H.size xa xc ad S lt d1 n F1 now ol1.length told oI1 oB1 oT1 b hb1 hbn hn (by omega) hx1.1 hx1.2.1 hG hnx hHd.2 (by omega) hab.2.2 hmin.2.2.1) (cwV 1 hts (tb_inV kw_165 kw_167 ks_X_come kw_1 kw_168) rfl rfl rfl (by decide +kernel) ⟨Nat.le_of_ble_eq_true rfl, Nat.le_of_ble_eq_true rfl⟩) (gt_Pre_V gt_XK_mv (va_recv hK hP (ci := 0) (q0 := 0) rfl rfl) hP hK0 hD) rfl rfl hl.1 rfl (lv_room (Nat.le_of_ble_eq_true rfl)) d_X_pass_25 ⟨Nat.zero_le _, Nat.zero_le _⟩) hS (fun q _ h => hFc q h) hFc (fun u t9 H1 locs ht9 hvm9 hw hB hz1 hk1 hS => ?_)
          obtain ⟨hP1, hD1⟩ := hB
          rw [ht9] at hP1
          obtain ⟨F2, c2n, oI2, oB2, oT2⟩ := u
          have hD := hD1.weaken (fun _ _ _ h => hFc _ h)
          have hP := hP1
          have hP : va_P D gt_cl (gt_XW xa xc ad S lt (gt_act S d1 b) n F2 now c2n told (((gt_act S d1 b).2 S.1).2.2.2.2) oI2 oB2 oT2) H1 := hP
          have hD : va_D A (gt_XW xa xc ad S lt (gt_act S d1 b) n F2 now c2n told (((gt_act S d1 b).2 S.1).2.2.2.2) oI2 oB2 oT2) := hD
          obtain ⟨hcn, hx2⟩ := gt_XR_step hA1 hmin hx1 hw.1 hw.2.1 hw.2.2.1 hw.2.2.2.1 hw.2.2.2.2
          subst hcn
          have hA2 := gt_A_step hs ht hA1 hmin (by omega)
          refine lv_aload_n hx hb d_X_pass_28 rfl (lv_at hl 1 rfl) ?_
          refine vp_callSi (va_runV (As := []) (rest := []) ⟨hx, hb, hml, hown, hts⟩ (c_X_nextItem l D xa xc ad S lt (gt_act S d1 b) n F2 now (gt_olS S d1 b ol1).length told ((gt_act S d1 b).2 S.1).2.2.2.2 oI2 oB2 oT2 hx2.1 hx2.2.1 hn (fun i i1 i2 => ⟨Nat.le_trans (hA2.2.1.1 i i1 i2).1 hG, (hs.2.2.2.1 i i1 i2).1⟩)) (cwV 0 hts (tb_inV kw_152 kw_154 ks_X_nextItem kw_1 kw_155) rfl rfl rfl (by decide +kernel) ⟨Nat.le_of_ble_eq_true rfl, Nat.le_of_ble_eq_true rfl⟩) (gt_PreP_V gt_XK_mv (va_recv hK hP (ci := 0) (q0 := 0) rfl rfl) hP hK0) rfl rfl hl.1 rfl (lv_room (Nat.le_of_ble_eq_true rfl)) d_X_pass_29 ⟨Nat.zero_le _, Nat.zero_le _⟩).run (fun r hr => ?_)
          obtain ⟨b2, hb2, rfl, hNI2⟩ := hr
          refine lv_istore_n (lv' := [(3, .int (nI b2)), (0, .ref (xa 0)), (1, .long (lN t))]) hx hb d_X_pass_32 rfl hl (by decide) rfl (fun ls hl => ?_)
          refine lv_goto (tgt := 5) hx hb d_X_pass_33 (by decide) ?_
          have hm := gt_ms_lt hs hHd (gt_Min_En hs hmin (t := t) (by omega))
          exact ih (gt_act S d1 b) (gt_olS S d1 b ol1) F2 oI2 oB2 oT2 b2 (by omega) hA2 hx2 hb2 hNI2 _ _ hP hD hS ls (lv_sub hl [0, 1, 2] rfl)
  refine lv_aload_n hx hb d_X_pass_0 rfl (lv_at hl 0 rfl) ?_
  refine vp_callSi (va_runV (As := []) (rest := []) ⟨hx, hb, hml, hown, hts⟩ (c_X_nextItem l D xa xc ad S lt d n F now ol.length told (d.2 S.1).2.2.2.2 oI oB oT hxr.1 hxr.2.1 hn (fun i i1 i2 => ⟨Nat.le_trans (hd.1 i i1 i2).1 hG, (hs.2.2.2.1 i i1 i2).1⟩)) (cwV 0 hts (tb_inV kw_152 kw_154 ks_X_nextItem kw_1 kw_155) rfl rfl rfl (by decide +kernel) ⟨Nat.le_of_ble_eq_true rfl, Nat.le_of_ble_eq_true rfl⟩) (gt_PreP_V gt_XK_mv (va_recv hK hP (ci := 0) (q0 := 0) rfl rfl) hP hK0) rfl rfl hl.1 rfl (lv_room (Nat.le_of_ble_eq_true rfl)) d_X_pass_1 ⟨Nat.zero_le _, Nat.zero_le _⟩).run (fun r hr => ?_)
  obtain ⟨b, hbn, rfl, hNI⟩ := hr
  refine lv_istore_n (lv' := [(3, .int (nI b)), (0, .ref (xa 0)), (1, .long (lN t))]) hx hb d_X_pass_4 rfl hl (by decide) rfl (fun ls hl => ?_)
  exact loop (gt_ms n d + 1) d ol F oI oB oT b (Nat.lt_succ_self _) (gt_A_init hd ho ht0) hxr hbn hNI _ _ hP hD hS ls (lv_sub hl [0, 1, 2] rfl)
theorem gt_Inv_late {n : Nat} {S : gt_SS} {lt : Nat → Int32} {d : gt_Dy} {now : Nat} {ol : List Nat} (h : gt_Inv n S lt d now ol) {i : Nat} (hi : i ≤ n) (v : Int32) : gt_Inv n S (va_up lt i v) d now ol :=
  ⟨h.1, h.2.1, h.2.2.1, h.2.2.2.1, h.2.2.2.2.1, fun j hj => by rw [va_up_ne _ _ (by omega)]; exact h.2.2.2.2.2 j hj⟩
theorem gt_Inv_ord {n : Nat} {S : gt_SS} {lt : Nat → Int32} {d : gt_Dy} {now : Nat} {ol : List Nat} (h : gt_Inv n S lt d now ol) {i g : Nat} (hg : g ≤ 100) : gt_Inv n (S.1, S.2.1, S.2.2.1, va_up S.2.2.2.1 i (nI g), S.2.2.2.2) lt d now ol :=
  ⟨h.1, h.2.1, h.2.2.1, h.2.2.2.1, fun j h1 h2 => by
    show va_up S.2.2.2.1 i (nI g) j = -1 ∨ 0 ≤ va_up S.2.2.2.1 i (nI g) j
    by_cases e : j = i
    · rw [e, va_up_self]; exact Or.inr (nI_pos' (by omega))
    · rw [va_up_ne _ _ e]; exact h.2.2.2.2.1 j h1 h2, h.2.2.2.2.2⟩
abbrev rm_X_order : Room := { frames := 5, cells := 0, slots := 0, locals := 111 }
set_option maxHeartbeats 4000000 in
set_option maxRecDepth 100000 in
/-- order(item, bin, t) -/
theorem c_X_order (l : Launch) (D : va_G) (sz : Nat) (xa : Nat → Nat) (xc : Nat → ClassId) (ad : Nat → Nat) (S : gt_SS) (lt : Nat → Int32) (d : gt_Dy) (n F now : Nat) (ol : List Nat) (told : Int32) (oI oB : Nat → Int32) (oT : Nat → Int64) (x y : Int32) (tt : Int64) (hinv : gt_Inv n S lt d now ol) (hxr : gt_XR n d ol F oI oB oT) : Met l y_X_order w_X_order rm_X_order (gt_Pre D (gt_XK D xc) [.ref (xa 0), .int x, .int y, .long tt] (gt_XW xa xc ad S lt d n F now ol.length told ((d.2 S.1).2.2.2.2) oI oB oT) sz) (gt_Qi D (gt_XW xa xc ad S lt d n F now ol.length told ((d.2 S.1).2.2.2.2) oI oB oT) sz (fun (r : Int32) (u : gt_St × Nat × (Nat → Int32) × (Nat → Int32) × (Nat → Int64)) => gt_ROrder n (S, lt, d, now, ol) x y tt r u.1 ∧ gt_Inv n u.1.1 u.1.2.1 u.1.2.2.1 u.1.2.2.2.1 u.1.2.2.2.2 ∧ gt_XR n u.1.2.2.1 u.1.2.2.2.2 u.2.1 u.2.2.1 u.2.2.2.1 u.2.2.2.2) (fun u : gt_St × Nat × (Nat → Int32) × (Nat → Int32) × (Nat → Int64) => gt_XW xa xc ad u.1.1 u.1.2.1 u.1.2.2.1 n u.2.1 u.1.2.2.2.1 u.1.2.2.2.2.length told (u.1.2.2.1.2 u.1.1.1).2.2.2.2 u.2.2.1 u.2.2.2.1 u.2.2.2.2)) 0 0 (va_A (gt_XW xa xc ad S lt d n F now ol.length told ((d.2 S.1).2.2.2.2) oI oB oT) sz) := by
  refine gt_mut_i (own := R_X) (by decide) rfl (Nat.le_of_ble_eq_true rfl) ?_
  intro p e s m below meth c args A hx hb hml hown hts hP hK0 hD hA Q hret ls hl
  have hS : va_S A s.heap s.heap [] := va_S.rf
  have hl : lv_has ls 8 [(0, .ref (xa 0)), (1, .int x), (2, .int y), (3, .long tt)] := hl
  have hK : va_K D gt_cl (gt_Xt xc) s := hK0.1
  have hN := hK0.2
  have hn : n ≤ 400 := hinv.1.2.2.1
  have hG : S.1 ≤ 12 := hinv.1.2.1
  have hlen := gt_Inv_len hinv
  have hnow : now ≤ 1000000000 := hinv.2.2.2.1
  refine lv_aload_n hx hb d_X_order_0 rfl (lv_at hl 0 rfl) ?_
  refine lv_iload_n hx hb d_X_order_1 rfl (lv_at hl 1 rfl) ?_
  refine vp_callSi (va_runV (As := [.int x]) (rest := []) ⟨hx, hb, hml, hown, hts⟩ (c_X_isItem l D xa xc ad S lt d n F now ol.length told (d.2 S.1).2.2.2.2 oI oB oT x hn) (cwV 1 hts (tb_inV kw_136 kw_138 ks_X_isItem kw_1 kw_139) rfl rfl rfl (by decide +kernel) ⟨Nat.le_of_ble_eq_true rfl, Nat.le_of_ble_eq_true rfl⟩) (gt_PreP_V gt_XK_mv (va_recv hK hP (ci := 0) (q0 := 0) rfl rfl) hP hK0) rfl rfl hl.1 rfl (lv_room (Nat.le_of_ble_eq_true rfl)) d_X_order_2 ⟨Nat.zero_le _, Nat.zero_le _⟩).run (fun r1 h1 => ?_)
  refine lv_if_eq (tgt := 16) hx hb d_X_order_5 (by decide) (fun c1 => ?_) (fun c1 => ?_)
  · refine lv_bipush (v := (-101)) hx hb d_X_order_16 (by decide) ?_
    exact hret _ _ _ _ _ ((S, lt, d, now, ol), F, oI, oB, oT) d_X_order_18 ⟨Or.inl ⟨fun q => h1.no c1 q.1, rfl, rfl⟩, hinv, hxr⟩ hP hD hS
  · refine lv_aload_n hx hb d_X_order_8 rfl (lv_at hl 0 rfl) ?_
    refine lv_iload_n hx hb d_X_order_9 rfl (lv_at hl 2 rfl) ?_
    refine vp_callSi (va_runV (As := [.int y]) (rest := []) ⟨hx, hb, hml, hown, hts⟩ (c_X_isBin l D xa xc ad S lt d n F now ol.length told (d.2 S.1).2.2.2.2 oI oB oT y hG) (cwV 1 hts (tb_inV kw_140 kw_142 ks_X_isBin kw_1 kw_143) rfl rfl rfl (by decide +kernel) ⟨Nat.le_of_ble_eq_true rfl, Nat.le_of_ble_eq_true rfl⟩) (gt_PreP_V gt_XK_mv (va_recv hK hP (ci := 0) (q0 := 0) rfl rfl) hP hK0) rfl rfl hl.1 rfl (lv_room (Nat.le_of_ble_eq_true rfl)) d_X_order_10 ⟨Nat.zero_le _, Nat.zero_le _⟩).run (fun r2 h2 => ?_)
    refine lv_if_ne (tgt := 19) hx hb d_X_order_13 (by decide) (fun c2 => ?_) (fun c2 => ?_)
    · obtain ⟨i, i1, i2, rfl⟩ := h1.yes c1
      obtain ⟨g, g1, rfl⟩ := h2.yes c2
      refine lv_aload_n hx hb d_X_order_19 rfl (lv_at hl 0 rfl) ?_
      refine lv_lload_n hx hb d_X_order_20 rfl (lv_at hl 3 rfl) ?_
      refine vp_callSi (va_runV (As := [.long tt]) (rest := []) ⟨hx, hb, hml, hown, hts⟩ (c_X_isNoTime l D xa xc ad S lt d n F now ol.length told (d.2 S.1).2.2.2.2 oI oB oT tt) (cwV 1 hts (tb_inV kw_144 kw_146 ks_X_isNoTime kw_1 kw_147) rfl rfl rfl (by decide +kernel) ⟨Nat.le_of_ble_eq_true rfl, Nat.le_of_ble_eq_true rfl⟩) (gt_PreP_V gt_XK_mv (va_recv hK hP (ci := 0) (q0 := 0) rfl rfl) hP hK0) rfl rfl hl.1 rfl (lv_room (Nat.le_of_ble_eq_true rfl)) d_X_order_21 ⟨Nat.zero_le _, Nat.zero_le _⟩).run (fun r3 h3 => ?_)
      refine lv_if_eq (tgt := 30) hx hb d_X_order_24 (by decide) (fun c3 => ?_) (fun c3 => ?_)
      · obtain ⟨t, t1, t2, rfl⟩ := (gt_num_time (by omega) (by omega)).mp (h3.no c3)
        refine lv_aload_n hx hb d_X_order_30 rfl (lv_at hl 0 rfl) ?_
        refine lv_lload_n hx hb d_X_order_31 rfl (lv_at hl 3 rfl) ?_
        have hFc := gt_freeW hD hS hA
        refine va_callv (va_runV (As := [.long (lN t)]) (rest := []) ⟨hx, hb, hml, hown, hts⟩ (c_X_pass l D s.heap.size xa xc ad S lt d n F now ol told oI oB oT t hinv.1 hinv.2.1 hinv.2.2.1 hxr t1 t2) (cwV 1 hts (tb_inV kw_148 kw_150 ks_X_pass kw_1 kw_151) rfl rfl rfl (by decide +kernel) ⟨Nat.le_of_ble_eq_true rfl, Nat.le_of_ble_eq_true rfl⟩) (gt_Pre_V gt_XK_mv (va_recv hK hP (ci := 0) (q0 := 0) rfl rfl) hP hK0 hD) rfl rfl hl.1 rfl (lv_room (Nat.le_of_ble_eq_true rfl)) d_X_order_32 ⟨Nat.zero_le _, Nat.zero_le _⟩) hS (fun q _ h => hFc q h) hFc (fun u t9 H1 locs ht9 hvm9 hw hB hz1 hk1 hS => ?_)
        obtain ⟨hP1, hD1⟩ := hB
        rw [ht9] at hP1
        obtain ⟨d1, ol1, F1, oI1, oB1, oT1⟩ := u
        have hD := hD1.weaken (fun _ _ _ h => hFc _ h)
        have hP := hP1
        have hP : va_P D gt_cl (gt_XW xa xc ad S lt d1 n F1 t ol1.length told ((d1.2 S.1).2.2.2.2) oI1 oB1 oT1) H1 := hP
        have hD : va_D A (gt_XW xa xc ad S lt d1 n F1 t ol1.length told ((d1.2 S.1).2.2.2.2) oI1 oB1 oT1) := hD
        obtain ⟨hp, hd1, ho1, hx1⟩ := hw
        have hinv1 := gt_Inv_pass hinv t2 hd1 ho1
        have hnx := (hd1.1 i i1 i2).1
        have hab := hinv.1.2.2.2.1 i i1 i2
        refine lv_aload_n hx hb d_X_order_35 rfl (lv_at hl 0 rfl) ?_
        refine va_get (D := D) (ci := 0) (v := .ref (xa 2)) (C := R_X) (T := F_X) (N := 12) hx hb hts i_X hown hK hP 0 rfl rfl 2 (by decide) (hts _ kw_59) (fun _ h9 => h9) rfl d_X_order_36 ?_
        refine lv_iload_n hx hb d_X_order_39 rfl (lv_at hl 1 rfl) ?_
        refine gt_qald (k := i) (b := ad (100 + i)) (C := "GateTimes$Item") hx hb hK hP 2 1 rfl rfl (by omega) (by decide) (gt_fi_at (by omega) (by omega)) d_X_order_40 ?_
        refine lv_astore (lv' := [(5, .ref (ad (100 + i))), (0, .ref (xa 0)), (1, .int (nI i)), (2, .int (nI g)), (3, .long (lN t))]) hx hb d_X_order_41 hl (by decide) rfl (fun ls hl => ?_)
        refine lv_aload hx hb d_X_order_43 (lv_at hl 0 rfl) ?_
        refine gt_getP (X := gt_XH xa xc ad S n F1 t ol1.length told ((d1.2 S.1).2.2.2.2) oI1 oB1 oT1) (ad := ad) (K := gt_pk S.1 n) (f := gt_pf S lt d1) (key := 100 + i) (D := D) (ci := 2) (v := .int (gt_oI (d1.1 i))) (C := R_I) (T := F_I) (N := 6) hx hb hts i_I hown hK hP (gt_pk_i (by omega) (by omega)) (gt_pf_i S lt d1 i) rfl 5 (by decide) (va_Nw.use rfl (hN (.fieldLinkNest "GateTimes" 75 "GateTimes$Item" "isOut" "Z" "GateTimes") (by decide +kernel))) (fun _ h9 => h9) rfl d_X_order_45 ?_
        refine lv_if_eq (tgt := 53) hx hb d_X_order_48 (by decide) (fun c4 => ?_) (fun c4 => ?_)
        · rw [gt_oI_0] at c4
          refine lv_aload hx hb d_X_order_53 (lv_at hl 0 rfl) ?_
          refine gt_getP (X := gt_XH xa xc ad S n F1 t ol1.length told ((d1.2 S.1).2.2.2.2) oI1 oB1 oT1) (ad := ad) (K := gt_pk S.1 n) (f := gt_pf S lt d1) (key := 100 + i) (D := D) (ci := 2) (v := .int (S.2.2.2.1 i)) (C := R_I) (T := F_I) (N := 6) hx hb hts i_I hown hK hP (gt_pk_i (by omega) (by omega)) (gt_pf_i S lt d1 i) rfl 2 (by decide) (va_Nw.use rfl (hN (.fieldLinkNest "GateTimes" 96 "GateTimes$Item" "order" "I" "GateTimes") (by decide +kernel))) (fun _ h9 => h9) rfl d_X_order_55 ?_
          refine lv_iconst (v := (-1)) hx hb d_X_order_58 (by decide) ?_
          refine lv_icmp_eq (tgt := 64) hx hb d_X_order_59 (by decide) (fun c5 => ?_) (fun c5 => ?_)
          · refine lv_aload hx hb d_X_order_64 (lv_at hl 0 rfl) ?_
            refine lv_iload_n hx hb d_X_order_66 rfl (lv_at hl 3 rfl) ?_
            refine vp_callSl (va_runV (As := [.int (nI g)]) (rest := []) ⟨hx, hb, hml, hown, hts⟩ (c_I_front l D (ad (100 + i)) (S.2.1 i) (lN (S.2.2.1 i)) (S.2.2.2.1 i) (lt i) (nI (d1.1 i).1) (gt_oI (d1.1 i)) g (by omega)) (cwV 1 hts (tb_inV kw_190 kw_161 kw_162 kw_5 kw_163) rfl rfl rfl (by decide +kernel) ⟨Nat.le_of_ble_eq_true rfl, Nat.le_of_ble_eq_true rfl⟩) (gt_PreP_V gt_K_mv (gt_recvP (X := gt_XH xa xc ad S n F1 t ol1.length told ((d1.2 S.1).2.2.2.2) oI1 oB1 oT1) (ad := ad) (K := gt_pk S.1 n) (f := gt_pf S lt d1) (key := 100 + i) hK hP (gt_pk_i (by omega) (by omega)) (gt_pf_i S lt d1 i) rfl) (gt_pl_one (X := gt_XH xa xc ad S n F1 t ol1.length told ((d1.2 S.1).2.2.2.2) oI1 oB1 oT1) (ad := ad) (K := gt_pk S.1 n) (f := gt_pf S lt d1) (k := 100 + i) hP (gt_pk_i (by omega) (by omega)) (gt_pf_i S lt d1 i)) (hK.sub [] rfl)) rfl rfl hl.1 rfl (lv_room (Nat.le_of_ble_eq_true rfl)) d_X_order_67 ⟨Nat.zero_le _, Nat.zero_le _⟩).run (fun r4 hr4 => ?_)
            have hr4 : r4 = lN (gt_fr S.2.1 i g) := hr4
            subst hr4
            refine lv_ldc2 (v := lN 200) hx hb hown (hts _ kw_191) d_X_order_70 ?_
            refine lv_lsub hx hb d_X_order_73 ?_
            rw [lN_sub (by unfold gt_fr; omega)]
            refine lv_lstore (lv' := [(6, .long (lN (gt_fr S.2.1 i g - 200))), (5, .ref (ad (100 + i))), (0, .ref (xa 0)), (1, .int (nI i)), (2, .int (nI g)), (3, .long (lN t))]) hx hb d_X_order_74 hl (by decide) rfl (fun ls hl => ?_)
            refine lv_lload_n hx hb d_X_order_76 rfl (lv_at hl 5 rfl) ?_
            refine lv_lload hx hb d_X_order_77 (lv_at hl 0 rfl) ?_
            refine W.lcmp hx hb d_X_order_79 ?_
            refine lv_if_le (tgt := 95) hx hb d_X_order_80 (by decide) (fun c6 => ?_) (fun c6 => ?_)
            · have c6 := (lg_cmp_le _ _).mp c6
              rw [pk_lLE (by omega) (by unfold gt_fr; omega)] at c6
              have hf200 : 200 ≤ gt_fr S.2.1 i g := by unfold gt_fr; omega
              refine lv_aload hx hb d_X_order_95 (lv_at hl 1 rfl) ?_
              refine lv_iload_n hx hb d_X_order_97 rfl (lv_at hl 4 rfl) ?_
              refine gt_putP (X := gt_XH xa xc ad S n F1 t ol1.length told ((d1.2 S.1).2.2.2.2) oI1 oB1 oT1) (ad := ad) (K := gt_pk S.1 n) (f := gt_pf S lt d1) (key := 100 + i) (D := D) (ci := 2) (v := .int (nI g)) (ty := .int) (C := R_I) (T := F_I) (N := 6) hx hb hts i_I t_I t_I_ok n_I hown hK hP hD hS (gt_pk_i (by omega) (by omega)) (gt_pf_i S lt d1 i) rfl 2 (by decide) (va_Nw.use rfl (hN (.fieldLinkNest "GateTimes" 96 "GateTimes$Item" "order" "I" "GateTimes") (by decide +kernel))) (fun _ h9 => h9) rfl (by decide +kernel) rfl rfl (Nat.le_of_ble_eq_true rfl) d_X_order_98 (fun H locs hP hD hS => ?_)
              have e1 : va_up (gt_pf S lt d1) (100 + i) (.inr (2, [.long (lN (S.2.1 i)), .long (lN (S.2.2.1 i)), .int (nI g), .int (lt i), .int (nI (d1.1 i).1), .int (gt_oI (d1.1 i))])) = gt_pf (S.1, S.2.1, S.2.2.1, va_up S.2.2.2.1 i (nI g), S.2.2.2.2) lt d1 := gt_pf_seti (by unfold gt_iC; simp only [va_up_self]) (fun j hj => by unfold gt_iC; simp only [va_up_ne _ _ hj]) (fun k => rfl)
              have hP : va_P D gt_cl (gt_XH xa xc ad S n F1 t ol1.length told ((d1.2 S.1).2.2.2.2) oI1 oB1 oT1 ++ gt_pl ad (gt_pk S.1 n) (va_up (gt_pf S lt d1) (100 + i) (.inr (2, [.long (lN (S.2.1 i)), .long (lN (S.2.2.1 i)), .int (nI g), .int (lt i), .int (nI (d1.1 i).1), .int (gt_oI (d1.1 i))])))) H := hP
              have hD : va_D A (gt_XH xa xc ad S n F1 t ol1.length told ((d1.2 S.1).2.2.2.2) oI1 oB1 oT1 ++ gt_pl ad (gt_pk S.1 n) (va_up (gt_pf S lt d1) (100 + i) (.inr (2, [.long (lN (S.2.1 i)), .long (lN (S.2.2.1 i)), .int (nI g), .int (lt i), .int (nI (d1.1 i).1), .int (gt_oI (d1.1 i))])))) := hD
              rw [e1] at hP hD
              have hP : va_P D gt_cl (gt_XW xa xc ad (S.1, S.2.1, S.2.2.1, va_up S.2.2.2.1 i (nI g), S.2.2.2.2) lt d1 n F1 t ol1.length told ((d1.2 S.1).2.2.2.2) oI1 oB1 oT1) H := hP
              have hD : va_D A (gt_XW xa xc ad (S.1, S.2.1, S.2.2.1, va_up S.2.2.2.1 i (nI g), S.2.2.2.2) lt d1 n F1 t ol1.length told ((d1.2 S.1).2.2.2.2) oI1 oB1 oT1) := hD
              refine lv_iconst (v := 1) hx hb d_X_order_101 (by decide) ?_
              have c7 : ¬ gt_fr S.2.1 i g < t + 200 := by omega
              exact hret _ _ _ _ _ (((S.1, S.2.1, S.2.2.1, va_up S.2.2.2.1 i (nI g), S.2.2.2.2), lt, d1, t, ol1), F1, oI1, oB1, oT1) d_X_order_102 ⟨Or.inr ⟨i, g, i1, i2, rfl, g1, rfl, Or.inr ⟨t, t1, t2, rfl, hp, rfl, Or.inr (Or.inr (Or.inr ⟨c4, c5, c7, rfl, rfl, rfl⟩))⟩⟩, gt_Inv_ord hinv1 (by omega), hx1⟩ hP hD hS
            · have c6 : ¬ _ := fun q => c6 ((lg_cmp_le _ _).mpr q)
              rw [pk_lLE (by omega) (by unfold gt_fr; omega)] at c6
              have hf200 : 200 ≤ gt_fr S.2.1 i g := by unfold gt_fr; omega
              refine lv_aload hx hb d_X_order_83 (lv_at hl 1 rfl) ?_
              refine lv_lload_n hx hb d_X_order_85 rfl (lv_at hl 5 rfl) ?_
              refine lv_lload hx hb d_X_order_86 (lv_at hl 0 rfl) ?_
              refine lv_lsub hx hb d_X_order_88 ?_
              rw [lN_sub (by omega), show t - (gt_fr S.2.1 i g - 200) = t + 200 - gt_fr S.2.1 i g by omega]
              refine lv_l2i (v := nI (t + 200 - gt_fr S.2.1 i g)) hx hb d_X_order_89 (lN_i _) ?_
              refine gt_putP (X := gt_XH xa xc ad S n F1 t ol1.length told ((d1.2 S.1).2.2.2.2) oI1 oB1 oT1) (ad := ad) (K := gt_pk S.1 n) (f := gt_pf S lt d1) (key := 100 + i) (D := D) (ci := 2) (v := .int (nI (t + 200 - gt_fr S.2.1 i g))) (ty := .int) (C := R_I) (T := F_I) (N := 6) hx hb hts i_I t_I t_I_ok n_I hown hK hP hD hS (gt_pk_i (by omega) (by omega)) (gt_pf_i S lt d1 i) rfl 3 (by decide) (va_Nw.use rfl (hN (.fieldLinkNest "GateTimes" 139 "GateTimes$Item" "late" "I" "GateTimes") (by decide +kernel))) (fun _ h9 => h9) rfl (by decide +kernel) rfl rfl (Nat.le_of_ble_eq_true rfl) d_X_order_90 (fun H locs hP hD hS => ?_)
              have e1 : va_up (gt_pf S lt d1) (100 + i) (.inr (2, [.long (lN (S.2.1 i)), .long (lN (S.2.2.1 i)), .int (S.2.2.2.1 i), .int (nI (t + 200 - gt_fr S.2.1 i g)), .int (nI (d1.1 i).1), .int (gt_oI (d1.1 i))])) = gt_pf S (va_up lt i (nI (t + 200 - gt_fr S.2.1 i g))) d1 := gt_pf_seti (by unfold gt_iC; simp only [va_up_self]) (fun j hj => by unfold gt_iC; simp only [va_up_ne _ _ hj]) (fun k => rfl)
              have hP : va_P D gt_cl (gt_XH xa xc ad S n F1 t ol1.length told ((d1.2 S.1).2.2.2.2) oI1 oB1 oT1 ++ gt_pl ad (gt_pk S.1 n) (va_up (gt_pf S lt d1) (100 + i) (.inr (2, [.long (lN (S.2.1 i)), .long (lN (S.2.2.1 i)), .int (S.2.2.2.1 i), .int (nI (t + 200 - gt_fr S.2.1 i g)), .int (nI (d1.1 i).1), .int (gt_oI (d1.1 i))])))) H := hP
              have hD : va_D A (gt_XH xa xc ad S n F1 t ol1.length told ((d1.2 S.1).2.2.2.2) oI1 oB1 oT1 ++ gt_pl ad (gt_pk S.1 n) (va_up (gt_pf S lt d1) (100 + i) (.inr (2, [.long (lN (S.2.1 i)), .long (lN (S.2.2.1 i)), .int (S.2.2.2.1 i), .int (nI (t + 200 - gt_fr S.2.1 i g)), .int (nI (d1.1 i).1), .int (gt_oI (d1.1 i))])))) := hD
              rw [e1] at hP hD
              have hP : va_P D gt_cl (gt_XW xa xc ad S (va_up lt i (nI (t + 200 - gt_fr S.2.1 i g))) d1 n F1 t ol1.length told ((d1.2 S.1).2.2.2.2) oI1 oB1 oT1) H := hP
              have hD : va_D A (gt_XW xa xc ad S (va_up lt i (nI (t + 200 - gt_fr S.2.1 i g))) d1 n F1 t ol1.length told ((d1.2 S.1).2.2.2.2) oI1 oB1 oT1) := hD
              refine lv_iconst (v := 0) hx hb d_X_order_93 (by decide) ?_
              have c7 : gt_fr S.2.1 i g < t + 200 := by omega
              exact hret _ _ _ _ _ ((S, va_up lt i (nI (t + 200 - gt_fr S.2.1 i g)), d1, t, ol1), F1, oI1, oB1, oT1) d_X_order_94 ⟨Or.inr ⟨i, g, i1, i2, rfl, g1, rfl, Or.inr ⟨t, t1, t2, rfl, hp, rfl, Or.inr (Or.inr (Or.inl ⟨c4, c5, c7, rfl, rfl, rfl⟩))⟩⟩, gt_Inv_late hinv1 i2 _, hx1⟩ hP hD hS
          · refine lv_iconst (v := 2) hx hb d_X_order_62 (by decide) ?_
            exact hret _ _ _ _ _ ((S, lt, d1, t, ol1), F1, oI1, oB1, oT1) d_X_order_63 ⟨Or.inr ⟨i, g, i1, i2, rfl, g1, rfl, Or.inr ⟨t, t1, t2, rfl, hp, rfl, Or.inr (Or.inl ⟨c4, c5, rfl, rfl, rfl⟩)⟩⟩, hinv1, hx1⟩ hP hD hS
        · rw [gt_oI_0] at c4
          refine lv_iconst (v := 0) hx hb d_X_order_51 (by decide) ?_
          exact hret _ _ _ _ _ ((S, lt, d1, t, ol1), F1, oI1, oB1, oT1) d_X_order_52 ⟨Or.inr ⟨i, g, i1, i2, rfl, g1, rfl, Or.inr ⟨t, t1, t2, rfl, hp, rfl, Or.inl ⟨c4, rfl, rfl, rfl⟩⟩⟩, hinv1, hx1⟩ hP hD hS
      · refine lv_bipush (v := (-102)) hx hb d_X_order_27 (by decide) ?_
        exact hret _ _ _ _ _ ((S, lt, d, now, ol), F, oI, oB, oT) d_X_order_29 ⟨Or.inr ⟨i, g, i1, i2, rfl, g1, rfl, Or.inl ⟨fun q => (gt_num_time (by omega) (by omega)).mpr q (h3.yes c3), rfl, rfl⟩⟩, hinv, hxr⟩ hP hD hS
    · refine lv_bipush (v := (-101)) hx hb d_X_order_16 (by decide) ?_
      exact hret _ _ _ _ _ ((S, lt, d, now, ol), F, oI, oB, oT) d_X_order_18 ⟨Or.inl ⟨fun q => h2.no c2 q.2, rfl, rfl⟩, hinv, hxr⟩ hP hD hS
abbrev rm_X_step : Room := { frames := 5, cells := 0, slots := 0, locals := 111 }
set_option maxHeartbeats 4000000 in
set_option maxRecDepth 100000 in
/-- step(t) -/
theorem c_X_step (l : Launch) (D : va_G) (sz : Nat) (xa : Nat → Nat) (xc : Nat → ClassId) (ad : Nat → Nat) (S : gt_SS) (lt : Nat → Int32) (d : gt_Dy) (n F now : Nat) (ol : List Nat) (told : Int32) (oI oB : Nat → Int32) (oT : Nat → Int64) (tt : Int64) (hinv : gt_Inv n S lt d now ol) (hxr : gt_XR n d ol F oI oB oT) : Met l y_X_step w_X_step rm_X_step (gt_Pre D (gt_XK D xc) [.ref (xa 0), .long tt] (gt_XW xa xc ad S lt d n F now ol.length told ((d.2 S.1).2.2.2.2) oI oB oT) sz) (gt_Qi D (gt_XW xa xc ad S lt d n F now ol.length told ((d.2 S.1).2.2.2.2) oI oB oT) sz (fun (r : Int32) (v : (gt_St × Nat × (Nat → Int32) × (Nat → Int32) × (Nat → Int64)) × Int32) => gt_RStep n (S, lt, d, now, ol) told tt r v.1.1 v.2 ∧ gt_Inv n v.1.1.1 v.1.1.2.1 v.1.1.2.2.1 v.1.1.2.2.2.1 v.1.1.2.2.2.2 ∧ gt_XR n v.1.1.2.2.1 v.1.1.2.2.2.2 v.1.2.1 v.1.2.2.1 v.1.2.2.2.1 v.1.2.2.2.2) (fun v : (gt_St × Nat × (Nat → Int32) × (Nat → Int32) × (Nat → Int64)) × Int32 => gt_XW xa xc ad v.1.1.1 v.1.1.2.1 v.1.1.2.2.1 n v.1.2.1 v.1.1.2.2.2.1 v.1.1.2.2.2.2.length v.2 (v.1.1.2.2.1.2 v.1.1.1.1).2.2.2.2 v.1.2.2.1 v.1.2.2.2.1 v.1.2.2.2.2)) 0 0 (va_A (gt_XW xa xc ad S lt d n F now ol.length told ((d.2 S.1).2.2.2.2) oI oB oT) sz) := by
  refine gt_mut_i (own := R_X) (by decide) rfl (Nat.le_of_ble_eq_true rfl) ?_
  intro p e s m below meth c args A hx hb hml hown hts hP hK0 hD hA Q hret ls hl
  have hS : va_S A s.heap s.heap [] := va_S.rf
  have hl : lv_has ls 4 [(0, .ref (xa 0)), (1, .long tt)] := hl
  have hK : va_K D gt_cl (gt_Xt xc) s := hK0.1
  have hN := hK0.2
  have hn : n ≤ 400 := hinv.1.2.2.1
  have hG : S.1 ≤ 12 := hinv.1.2.1
  have hlen := gt_Inv_len hinv
  have hnow : now ≤ 1000000000 := hinv.2.2.2.1
  refine lv_aload_n hx hb d_X_step_0 rfl (lv_at hl 0 rfl) ?_
  refine lv_lload_n hx hb d_X_step_1 rfl (lv_at hl 1 rfl) ?_
  refine vp_callSi (va_runV (As := [.long tt]) (rest := []) ⟨hx, hb, hml, hown, hts⟩ (c_X_isNoTime l D xa xc ad S lt d n F now ol.length told (d.2 S.1).2.2.2.2 oI oB oT tt) (cwV 1 hts (tb_inV kw_144 kw_146 ks_X_isNoTime kw_1 kw_147) rfl rfl rfl (by decide +kernel) ⟨Nat.le_of_ble_eq_true rfl, Nat.le_of_ble_eq_true rfl⟩) (gt_PreP_V gt_XK_mv (va_recv hK hP (ci := 0) (q0 := 0) rfl rfl) hP hK0) rfl rfl hl.1 rfl (lv_room (Nat.le_of_ble_eq_true rfl)) d_X_step_2 ⟨Nat.zero_le _, Nat.zero_le _⟩).run (fun r3 h3 => ?_)
  refine lv_if_eq (tgt := 11) hx hb d_X_step_5 (by decide) (fun c3 => ?_) (fun c3 => ?_)
  · obtain ⟨t, t1, t2, rfl⟩ := (gt_num_time (by omega) (by omega)).mp (h3.no c3)
    refine lv_aload_n hx hb d_X_step_11 rfl (lv_at hl 0 rfl) ?_
    refine lv_lload_n hx hb d_X_step_12 rfl (lv_at hl 1 rfl) ?_
    have hFc := gt_freeW hD hS hA
    refine va_callv (va_runV (As := [.long (lN t)]) (rest := []) ⟨hx, hb, hml, hown, hts⟩ (c_X_pass l D s.heap.size xa xc ad S lt d n F now ol told oI oB oT t hinv.1 hinv.2.1 hinv.2.2.1 hxr t1 t2) (cwV 1 hts (tb_inV kw_148 kw_150 ks_X_pass kw_1 kw_151) rfl rfl rfl (by decide +kernel) ⟨Nat.le_of_ble_eq_true rfl, Nat.le_of_ble_eq_true rfl⟩) (gt_Pre_V gt_XK_mv (va_recv hK hP (ci := 0) (q0 := 0) rfl rfl) hP hK0 hD) rfl rfl hl.1 rfl (lv_room (Nat.le_of_ble_eq_true rfl)) d_X_step_13 ⟨Nat.zero_le _, Nat.zero_le _⟩) hS (fun q _ h => hFc q h) hFc (fun u t9 H1 locs ht9 hvm9 hw hB hz1 hk1 hS => ?_)
    obtain ⟨hP1, hD1⟩ := hB
    rw [ht9] at hP1
    obtain ⟨d1, ol1, F1, oI1, oB1, oT1⟩ := u
    have hD := hD1.weaken (fun _ _ _ h => hFc _ h)
    have hP := hP1
    have hP : va_P D gt_cl (gt_XW xa xc ad S lt d1 n F1 t ol1.length told ((d1.2 S.1).2.2.2.2) oI1 oB1 oT1) H1 := hP
    have hD : va_D A (gt_XW xa xc ad S lt d1 n F1 t ol1.length told ((d1.2 S.1).2.2.2.2) oI1 oB1 oT1) := hD
    obtain ⟨hp, hd1, ho1, hx1⟩ := hw
    have hinv1 := gt_Inv_pass hinv t2 hd1 ho1
    refine lv_aload_n hx hb d_X_step_16 rfl (lv_at hl 0 rfl) ?_
    refine va_get (D := D) (ci := 0) (v := .int (nI ol1.length)) (C := R_X) (T := F_X) (N := 12) hx hb hts i_X hown hK hP 0 rfl rfl 9 (by decide) (hts _ kw_66) (fun _ h9 => h9) rfl d_X_step_17 ?_
    refine lv_aload_n hx hb d_X_step_20 rfl (lv_at hl 0 rfl) ?_
    refine va_get (D := D) (ci := 0) (v := .int told) (C := R_X) (T := F_X) (N := 12) hx hb hts i_X hown hK hP 0 rfl rfl 10 (by decide) (hts _ kw_67) (fun _ h9 => h9) rfl d_X_step_21 ?_
    refine lv_isub hx hb d_X_step_24 ?_
    refine lv_istore_n (lv' := [(3, .int ((nI ol1.length) - told)), (0, .ref (xa 0)), (1, .long (lN t))]) hx hb d_X_step_25 rfl hl (by decide) rfl (fun ls hl => ?_)
    refine lv_aload_n hx hb d_X_step_26 rfl (lv_at hl 1 rfl) ?_
    refine lv_aload_n hx hb d_X_step_27 rfl (lv_at hl 1 rfl) ?_
    refine va_get (D := D) (ci := 0) (v := .int (nI ol1.length)) (C := R_X) (T := F_X) (N := 12) hx hb hts i_X hown hK hP 0 rfl rfl 9 (by decide) (hts _ kw_66) (fun _ h9 => h9) rfl d_X_step_28 ?_
    refine va_put (D := D) (ci := 0) (v := .int (nI ol1.length)) (ty := .int) (C := R_X) (T := F_X) (N := 12) hx hb hts i_X t_X t_X_ok n_X hown hK hP hD hS 0 rfl rfl 10 (by decide) (hts _ kw_67) (fun _ h9 => h9) rfl (by decide +kernel) rfl rfl (Nat.le_of_ble_eq_true rfl) d_X_step_31 (fun H locs hP hD hS => ?_)
    have hP : va_P D gt_cl (gt_XW xa xc ad S lt d1 n F1 t ol1.length (nI ol1.length) ((d1.2 S.1).2.2.2.2) oI1 oB1 oT1) H := hP
    have hD : va_D A (gt_XW xa xc ad S lt d1 n F1 t ol1.length (nI ol1.length) ((d1.2 S.1).2.2.2.2) oI1 oB1 oT1) := hD
    refine lv_iload_n hx hb d_X_step_34 rfl (lv_at hl 0 rfl) ?_
    exact hret _ _ _ _ _ (((S, lt, d1, t, ol1), F1, oI1, oB1, oT1), nI ol1.length) d_X_step_35 ⟨Or.inr ⟨t, t1, t2, rfl, hp, rfl, rfl, rfl, rfl, rfl⟩, hinv1, hx1⟩ hP hD hS
  · refine lv_bipush (v := (-102)) hx hb d_X_step_8 (by decide) ?_
    exact hret _ _ _ _ _ (((S, lt, d, now, ol), F, oI, oB, oT), told) d_X_step_10 ⟨Or.inl ⟨fun q => (gt_num_time (by omega) (by omega)).mpr q (h3.yes c3), rfl, rfl, rfl⟩, hinv, hxr⟩ hP hD hS
end
section
/-! PURE: more of what the calls answer. -/
theorem gt_w2 {w : Int32} (h1 : ¬ w < 0) (h2 : w ≤ 2) (h3 : ¬ w = 0) (h4 : ¬ w = 1) : w = 2 := by
  obtain ⟨j, hj, rfl⟩ := nI_of2 (M := 2) (n := 2) (by decide) h1 h2
  rcases (show j = 0 ∨ j = 1 ∨ j = 2 by omega) with e | e | e
  · subst e; exact absurd (by decide) h3
  · subst e; exact absurd (by decide) h4
  · subst e; decide
theorem gt_wlo {w : Int32} (h : w < 0) : ¬ w = 0 ∧ ¬ w = 1 ∧ ¬ w = 2 := ⟨fun e => absurd (e ▸ h) (by decide), fun e => absurd (e ▸ h) (by decide), fun e => absurd (e ▸ h) (by decide)⟩
theorem gt_whi {w : Int32} (h : ¬ w ≤ 2) : ¬ w = 0 ∧ ¬ w = 1 ∧ ¬ w = 2 := ⟨fun e => h (by rw [e]; decide), fun e => h (by rw [e]; decide), fun e => h (by rw [e]; decide)⟩
theorem gt_sel_no {w a b c : Int32} (h : ¬ w = 0 ∧ ¬ w = 1 ∧ ¬ w = 2) : gt_sel w a b c (-1) := Or.inr (Or.inr (Or.inr ⟨h.1, h.2.1, h.2.2, rfl⟩))
def gt_RLate (n : Nat) (lt : Nat → Int32) (x r : Int32) : Prop := (∃ i, 1 ≤ i ∧ i ≤ n ∧ x = nI i ∧ r = lt i) ∨ ((¬ ∃ i, 1 ≤ i ∧ i ≤ n ∧ x = nI i) ∧ r = -101)
theorem gt_RLate_one {n : Nat} {lt : Nat → Int32} {x r1 r2 : Int32} (hn : n ≤ 400) (h1 : gt_RLate n lt x r1) (h2 : gt_RLate n lt x r2) : r1 = r2 := by
  rcases h1 with ⟨k, k1, k2, k3, k4⟩ | ⟨a1, a2⟩ <;> rcases h2 with ⟨j, j1, j2, j3, j4⟩ | ⟨b1, b2⟩
  · have e : k = j := gt_nI_inj (by omega) (by omega) (k3.symm.trans j3)
    subst e
    exact k4.trans j4.symm
  · exact absurd ⟨k, k1, k2, k3⟩ b1
  · exact absurd ⟨j, j1, j2, j3⟩ a1
  · exact a2.trans b2.symm
def gt_RCount (S : gt_SS) (d : gt_Dy) (y r : Int32) : Prop := gt_RBin (S.1 + 1) y r (fun g => r = (d.2 g).2.2.2.2) True
def gt_RHeight (S : gt_SS) (y v r : Int32) (h : Nat → Int32) : Prop := gt_RBin S.1 y r (fun g => (¬ (v.toInt64 < lN 1 ∨ lN 1000 < v.toInt64) ∧ r = S.2.2.2.2.2 g ∧ h = va_up S.2.2.2.2.2 g v) ∨ ((v.toInt64 < lN 1 ∨ lN 1000 < v.toInt64) ∧ r = -102 ∧ h = S.2.2.2.2.2)) (h = S.2.2.2.2.2)
def gt_RSwap (S : gt_SS) (d : gt_Dy) (y r : Int32) (gs : Nat → gt_GS) : Prop := gt_RBin S.1 y r (fun g => r = (d.2 g).2.2.2.1 ∧ gs = va_up d.2 g ((d.2 g).1, (d.2 g).2.1, (d.2 g).2.2.1, 0, (d.2 g).2.2.2.2)) (gs = d.2)
def gt_RStuck (S : gt_SS) (y on r : Int32) (k : Nat → Int32) : Prop := gt_RBin S.1 y r (fun g => ((S.2.2.2.2.1 g = on ∧ r = 0) ∨ (¬ S.2.2.2.2.1 g = on ∧ r = 1)) ∧ k = va_up S.2.2.2.2.1 g on) (k = S.2.2.2.2.1)
theorem gt_RVer_w {S : gt_SS} {d : gt_Dy} {ol : List Nat} {x w : Int32} (h : ¬ w = 0 ∧ ¬ w = 1 ∧ ¬ w = 2) : gt_RVer S d ol x w (-1) := by
  rcases Classical.em (∃ k, gt_hit S d ol x k) with ⟨k, q⟩ | q
  · exact Or.inl ⟨k, q, gt_sel_no h⟩
  · exact Or.inr ⟨q, rfl⟩
theorem gt_RVer_neg {S : gt_SS} {d : gt_Dy} {ol : List Nat} {x w : Int32} (hl : ol.length ≤ 400) (h : x < 0) : gt_RVer S d ol x w (-1) := by
  refine Or.inr ⟨fun ⟨k, h1, h2, h3⟩ => ?_, rfl⟩
  have := gt_ct_le S d ol k
  rw [h3] at h
  exact nI_pos (by omega) h
theorem gt_RVer_end {S : gt_SS} {d : gt_Dy} {ol : List Nat} {x w : Int32} (h : ∀ k, k < ol.length → ¬ gt_hit S d ol x k) : gt_RVer S d ol x w (-1) := Or.inr ⟨fun ⟨k, q⟩ => h k q.1 q, rfl⟩
theorem gt_nI_inj2 {a b : Nat} (ha : a < 2 ^ 31) (hb : b < 2 ^ 31) (h : nI a = nI b) : a = b := (nI_eq ha hb).mp h
/-! THE CLASS: out, late, count, height, swap, stuck, verify. -/
abbrev rm_X_out : Room := { frames := 0, cells := 0, slots := 0, locals := 0 }
set_option maxHeartbeats 4000000 in
set_option maxRecDepth 100000 in
/-- out(i, what) -/
theorem c_X_out (l : Launch) (D : va_G) (xa : Nat → Nat) (xc : Nat → ClassId) (ad : Nat → Nat) (S : gt_SS) (lt : Nat → Int32) (d : gt_Dy) (n F now : Nat) (ol : List Nat) (told : Int32) (oI oB : Nat → Int32) (oT : Nat → Int64) (x w : Int32) (hinv : gt_Inv n S lt d now ol) (hxr : gt_XR n d ol F oI oB oT) : Met l y_X_out w_X_out rm_X_out (gt_PreP D (gt_XK D xc) [.ref (xa 0), .int x, .int w] (gt_XW xa xc ad S lt d n F now ol.length told ((d.2 S.1).2.2.2.2) oI oB oT)) (vp_Si (fun r => gt_ROut d ol x w r)) 0 0 (fun _ => False) := by
  refine gt_pure_i (own := R_X) (by decide) rfl (Nat.le_of_ble_eq_true rfl) ?_
  intro p e s m below meth c args hx hb hml hown hts hP hK0 Q hret ls hl
  have hl : lv_has ls 3 [(0, .ref (xa 0)), (1, .int x), (2, .int w)] := hl
  have hK : va_K D gt_cl (gt_Xt xc) s := hK0.1
  have hN := hK0.2
  have hn : n ≤ 400 := hinv.1.2.2.1
  have hG : S.1 ≤ 12 := hinv.1.2.1
  have hlen := gt_Inv_len hinv
  have hnow : now ≤ 1000000000 := hinv.2.2.2.1
  refine lv_iload_n hx hb d_X_out_0 rfl (lv_at hl 1 rfl) ?_
  refine lv_if_lt (tgt := 21) hx hb d_X_out_1 (by decide) (fun c1 => ?_) (fun c1 => ?_)
  · refine lv_iconst (v := (-1)) hx hb d_X_out_21 (by decide) ?_
    exact hret _ _ _ d_X_out_22 (Or.inr ⟨gt_num_bin0 (by omega) c1, rfl⟩)
  · refine lv_iload_n hx hb d_X_out_4 rfl (lv_at hl 1 rfl) ?_
    refine lv_aload_n hx hb d_X_out_5 rfl (lv_at hl 0 rfl) ?_
    refine va_get (D := D) (ci := 0) (v := .int (nI ol.length)) (C := R_X) (T := F_X) (N := 12) hx hb hts i_X hown hK hP 0 rfl rfl 9 (by decide) (hts _ kw_66) (fun _ h9 => h9) rfl d_X_out_6 ?_
    refine lv_icmp_ge (tgt := 21) hx hb d_X_out_9 (by decide) (fun c2 => ?_) (fun c2 => ?_)
    · refine lv_iconst (v := (-1)) hx hb d_X_out_21 (by decide) ?_
      exact hret _ _ _ d_X_out_22 (Or.inr ⟨gt_num_bin1 (by omega) c2, rfl⟩)
    · obtain ⟨k, hk, rfl⟩ := gt_num_bin (by omega) c1 c2
      have hxk := hxr.2.2.2 k hk
      refine lv_iload_n hx hb d_X_out_12 rfl (lv_at hl 2 rfl) ?_
      refine lv_if_lt (tgt := 21) hx hb d_X_out_13 (by decide) (fun c3 => ?_) (fun c3 => ?_)
      · refine lv_iconst (v := (-1)) hx hb d_X_out_21 (by decide) ?_
        exact hret _ _ _ d_X_out_22 (Or.inl ⟨k, hk, rfl, gt_sel_no (gt_wlo c3)⟩)
      · refine lv_iload_n hx hb d_X_out_16 rfl (lv_at hl 2 rfl) ?_
        refine lv_iconst (v := 2) hx hb d_X_out_17 (by decide) ?_
        refine lv_icmp_le (tgt := 23) hx hb d_X_out_18 (by decide) (fun c4 => ?_) (fun c4 => ?_)
        · refine lv_iload_n hx hb d_X_out_23 rfl (lv_at hl 2 rfl) ?_
          refine lv_if_ne (tgt := 36) hx hb d_X_out_24 (by decide) (fun c5 => ?_) (fun c5 => ?_)
          · refine lv_iload_n hx hb d_X_out_36 rfl (lv_at hl 2 rfl) ?_
            refine lv_iconst (v := 1) hx hb d_X_out_37 (by decide) ?_
            refine lv_icmp_ne (tgt := 50) hx hb d_X_out_38 (by decide) (fun c6 => ?_) (fun c6 => ?_)
            · refine lv_aload_n hx hb d_X_out_50 rfl (lv_at hl 0 rfl) ?_
              refine va_get (D := D) (ci := 0) (v := .ref (xa 5)) (C := R_X) (T := F_X) (N := 12) hx hb hts i_X hown hK hP 0 rfl rfl 8 (by decide) (hts _ kw_65) (fun _ h9 => h9) rfl d_X_out_51 ?_
              refine lv_iload_n hx hb d_X_out_54 rfl (lv_at hl 1 rfl) ?_
              refine gt_lald (k := k) hx hb hK hP 5 4 rfl rfl (by omega) (by decide) d_X_out_55 ?_
              refine lv_l2i (v := (oT k).toInt32) hx hb d_X_out_56 rfl ?_
              exact hret _ _ _ d_X_out_57 (Or.inl ⟨k, hk, rfl, Or.inr (Or.inr (Or.inl ⟨gt_w2 c3 c4 c5 c6, by rw [hxk.2.2]; exact lN_i _⟩))⟩)
            · refine lv_aload_n hx hb d_X_out_41 rfl (lv_at hl 0 rfl) ?_
              refine va_get (D := D) (ci := 0) (v := .ref (xa 4)) (C := R_X) (T := F_X) (N := 12) hx hb hts i_X hown hK hP 0 rfl rfl 7 (by decide) (hts _ kw_64) (fun _ h9 => h9) rfl d_X_out_42 ?_
              refine lv_iload_n hx hb d_X_out_45 rfl (lv_at hl 1 rfl) ?_
              refine gt_iald (k := k) hx hb hK hP 4 3 rfl rfl (by omega) (by decide) d_X_out_46 ?_
              refine lv_goto (tgt := 57) hx hb d_X_out_47 (by decide) ?_
              exact hret _ _ _ d_X_out_57 (Or.inl ⟨k, hk, rfl, Or.inr (Or.inl ⟨c6, hxk.2.1⟩)⟩)
          · refine lv_aload_n hx hb d_X_out_27 rfl (lv_at hl 0 rfl) ?_
            refine va_get (D := D) (ci := 0) (v := .ref (xa 3)) (C := R_X) (T := F_X) (N := 12) hx hb hts i_X hown hK hP 0 rfl rfl 6 (by decide) (hts _ kw_63) (fun _ h9 => h9) rfl d_X_out_28 ?_
            refine lv_iload_n hx hb d_X_out_31 rfl (lv_at hl 1 rfl) ?_
            refine gt_iald (k := k) hx hb hK hP 3 2 rfl rfl (by omega) (by decide) d_X_out_32 ?_
            refine lv_goto (tgt := 57) hx hb d_X_out_33 (by decide) ?_
            exact hret _ _ _ d_X_out_57 (Or.inl ⟨k, hk, rfl, Or.inl ⟨c5, hxk.1⟩⟩)
        · refine lv_iconst (v := (-1)) hx hb d_X_out_21 (by decide) ?_
          exact hret _ _ _ d_X_out_22 (Or.inl ⟨k, hk, rfl, gt_sel_no (gt_whi c4)⟩)
abbrev rm_X_late : Room := { frames := 1, cells := 0, slots := 0, locals := 21 }
set_option maxHeartbeats 4000000 in
set_option maxRecDepth 100000 in
/-- late(item) -/
theorem c_X_late (l : Launch) (D : va_G) (xa : Nat → Nat) (xc : Nat → ClassId) (ad : Nat → Nat) (S : gt_SS) (lt : Nat → Int32) (d : gt_Dy) (n F now : Nat) (ol : List Nat) (told : Int32) (oI oB : Nat → Int32) (oT : Nat → Int64) (x : Int32) (hinv : gt_Inv n S lt d now ol) (hxr : gt_XR n d ol F oI oB oT) : Met l y_X_late w_X_late rm_X_late (gt_PreP D (gt_XK D xc) [.ref (xa 0), .int x] (gt_XW xa xc ad S lt d n F now ol.length told ((d.2 S.1).2.2.2.2) oI oB oT)) (vp_Si (fun r => gt_RLate n lt x r)) 0 0 (fun _ => False) := by
  refine gt_pure_i (own := R_X) (by decide) rfl (Nat.le_of_ble_eq_true rfl) ?_
  intro p e s m below meth c args hx hb hml hown hts hP hK0 Q hret ls hl
  have hl : lv_has ls 2 [(0, .ref (xa 0)), (1, .int x)] := hl
  have hK : va_K D gt_cl (gt_Xt xc) s := hK0.1
  have hN := hK0.2
  have hn : n ≤ 400 := hinv.1.2.2.1
  have hG : S.1 ≤ 12 := hinv.1.2.1
  have hlen := gt_Inv_len hinv
  have hnow : now ≤ 1000000000 := hinv.2.2.2.1
  refine lv_aload_n hx hb d_X_late_0 rfl (lv_at hl 0 rfl) ?_
  refine lv_iload_n hx hb d_X_late_1 rfl (lv_at hl 1 rfl) ?_
  refine vp_callSi (va_runV (As := [.int x]) (rest := []) ⟨hx, hb, hml, hown, hts⟩ (c_X_isItem l D xa xc ad S lt d n F now ol.length told (d.2 S.1).2.2.2.2 oI oB oT x hn) (cwV 1 hts (tb_inV kw_136 kw_138 ks_X_isItem kw_1 kw_139) rfl rfl rfl (by decide +kernel) ⟨Nat.le_of_ble_eq_true rfl, Nat.le_of_ble_eq_true rfl⟩) (gt_PreP_V gt_XK_mv (va_recv hK hP (ci := 0) (q0 := 0) rfl rfl) hP hK0) rfl rfl hl.1 rfl (lv_room (Nat.le_of_ble_eq_true rfl)) d_X_late_2 ⟨Nat.zero_le _, Nat.zero_le _⟩).run (fun r1 h1 => ?_)
  refine lv_if_eq (tgt := 20) hx hb d_X_late_5 (by decide) (fun c1 => ?_) (fun c1 => ?_)
  · refine lv_bipush (v := (-101)) hx hb d_X_late_20 (by decide) ?_
    exact hret _ _ _ d_X_late_22 (Or.inr ⟨h1.no c1, rfl⟩)
  · obtain ⟨i, i1, i2, rfl⟩ := h1.yes c1
    refine lv_aload_n hx hb d_X_late_8 rfl (lv_at hl 0 rfl) ?_
    refine va_get (D := D) (ci := 0) (v := .ref (xa 2)) (C := R_X) (T := F_X) (N := 12) hx hb hts i_X hown hK hP 0 rfl rfl 2 (by decide) (hts _ kw_59) (fun _ h9 => h9) rfl d_X_late_9 ?_
    refine lv_iload_n hx hb d_X_late_12 rfl (lv_at hl 1 rfl) ?_
    refine gt_qald (k := i) (b := ad (100 + i)) (C := "GateTimes$Item") hx hb hK hP 2 1 rfl rfl (by omega) (by decide) (gt_fi_at (by omega) (by omega)) d_X_late_13 ?_
    refine gt_getP (X := gt_XH xa xc ad S n F now ol.length told ((d.2 S.1).2.2.2.2) oI oB oT) (ad := ad) (K := gt_pk S.1 n) (f := gt_pf S lt d) (key := 100 + i) (D := D) (ci := 2) (v := .int (lt i)) (C := R_I) (T := F_I) (N := 6) hx hb hts i_I hown hK hP (gt_pk_i (by omega) (by omega)) (gt_pf_i S lt d i) rfl 3 (by decide) (va_Nw.use rfl (hN (.fieldLinkNest "GateTimes" 139 "GateTimes$Item" "late" "I" "GateTimes") (by decide +kernel))) (fun _ h9 => h9) rfl d_X_late_14 ?_
    refine lv_goto (tgt := 22) hx hb d_X_late_17 (by decide) ?_
    exact hret _ _ _ d_X_late_22 (Or.inl ⟨i, i1, i2, rfl, rfl⟩)
abbrev rm_X_count : Room := { frames := 1, cells := 0, slots := 0, locals := 21 }
set_option maxHeartbeats 4000000 in
set_option maxRecDepth 100000 in
/-- count(bin) -/
theorem c_X_count (l : Launch) (D : va_G) (xa : Nat → Nat) (xc : Nat → ClassId) (ad : Nat → Nat) (S : gt_SS) (lt : Nat → Int32) (d : gt_Dy) (n F now : Nat) (ol : List Nat) (told : Int32) (oI oB : Nat → Int32) (oT : Nat → Int64) (y : Int32) (hinv : gt_Inv n S lt d now ol) (hxr : gt_XR n d ol F oI oB oT) : Met l y_X_count w_X_count rm_X_count (gt_PreP D (gt_XK D xc) [.ref (xa 0), .int y] (gt_XW xa xc ad S lt d n F now ol.length told ((d.2 S.1).2.2.2.2) oI oB oT)) (vp_Si (fun r => gt_RCount S d y r)) 0 0 (fun _ => False) := by
  refine gt_pure_i (own := R_X) (by decide) rfl (Nat.le_of_ble_eq_true rfl) ?_
  intro p e s m below meth c args hx hb hml hown hts hP hK0 Q hret ls hl
  have hl : lv_has ls 2 [(0, .ref (xa 0)), (1, .int y)] := hl
  have hK : va_K D gt_cl (gt_Xt xc) s := hK0.1
  have hN := hK0.2
  have hn : n ≤ 400 := hinv.1.2.2.1
  have hG : S.1 ≤ 12 := hinv.1.2.1
  have hlen := gt_Inv_len hinv
  have hnow : now ≤ 1000000000 := hinv.2.2.2.1
  refine lv_iload_n hx hb d_X_count_0 rfl (lv_at hl 1 rfl) ?_
  refine lv_aload_n hx hb d_X_count_1 rfl (lv_at hl 0 rfl) ?_
  refine va_get (D := D) (ci := 0) (v := .int (nI S.1)) (C := R_X) (T := F_X) (N := 12) hx hb hts i_X hown hK hP 0 rfl rfl 0 (by decide) (hts _ kw_57) (fun _ h9 => h9) rfl d_X_count_2 ?_
  refine lv_icmp_ne (tgt := 15) hx hb d_X_count_5 (by decide) (fun c1 => ?_) (fun c1 => ?_)
  · refine lv_aload_n hx hb d_X_count_15 rfl (lv_at hl 0 rfl) ?_
    refine lv_iload_n hx hb d_X_count_16 rfl (lv_at hl 1 rfl) ?_
    refine vp_callSi (va_runV (As := [.int y]) (rest := []) ⟨hx, hb, hml, hown, hts⟩ (c_X_isBin l D xa xc ad S lt d n F now ol.length told (d.2 S.1).2.2.2.2 oI oB oT y hG) (cwV 1 hts (tb_inV kw_140 kw_142 ks_X_isBin kw_1 kw_143) rfl rfl rfl (by decide +kernel) ⟨Nat.le_of_ble_eq_true rfl, Nat.le_of_ble_eq_true rfl⟩) (gt_PreP_V gt_XK_mv (va_recv hK hP (ci := 0) (q0 := 0) rfl rfl) hP hK0) rfl rfl hl.1 rfl (lv_room (Nat.le_of_ble_eq_true rfl)) d_X_count_17 ⟨Nat.zero_le _, Nat.zero_le _⟩).run (fun r2 h2 => ?_)
    refine lv_if_eq (tgt := 35) hx hb d_X_count_20 (by decide) (fun c2 => ?_) (fun c2 => ?_)
    · refine lv_bipush (v := (-101)) hx hb d_X_count_35 (by decide) ?_
      exact hret _ _ _ d_X_count_37 (Or.inr ⟨fun ⟨g, g1, g2⟩ => by
        by_cases e : g = S.1
        · exact c1 (by rw [g2, e])
        · exact h2.no c2 ⟨g, by omega, g2⟩, rfl, trivial⟩)
    · obtain ⟨g, g1, rfl⟩ := h2.yes c2
      refine lv_aload_n hx hb d_X_count_23 rfl (lv_at hl 0 rfl) ?_
      refine va_get (D := D) (ci := 0) (v := .ref (xa 1)) (C := R_X) (T := F_X) (N := 12) hx hb hts i_X hown hK hP 0 rfl rfl 1 (by decide) (hts _ kw_58) (fun _ h9 => h9) rfl d_X_count_24 ?_
      refine lv_iload_n hx hb d_X_count_27 rfl (lv_at hl 1 rfl) ?_
      refine gt_qald (k := g) (b := ad g) (C := "GateTimes$Gate") hx hb hK hP 1 0 rfl rfl (by omega) (by omega) (gt_fg_at (by omega)) d_X_count_28 ?_
      refine gt_getP (X := gt_XH xa xc ad S n F now ol.length told ((d.2 S.1).2.2.2.2) oI oB oT) (ad := ad) (K := gt_pk S.1 n) (f := gt_pf S lt d) (key := g) (D := D) (ci := 1) (v := .int ((d.2 g).2.2.2.2)) (C := R_G) (T := F_G) (N := 7) hx hb hts i_G hown hK hP (gt_pk_g (by omega)) (gt_pf_g (by omega)) rfl 6 (by decide) (va_Nw.use rfl (hN (.fieldLinkNest "GateTimes" 156 "GateTimes$Gate" "count" "I" "GateTimes") (by decide +kernel))) (fun _ h9 => h9) rfl d_X_count_29 ?_
      refine lv_goto (tgt := 37) hx hb d_X_count_32 (by decide) ?_
      exact hret _ _ _ d_X_count_37 (Or.inl ⟨g, by omega, rfl, rfl⟩)
  · refine lv_aload_n hx hb d_X_count_8 rfl (lv_at hl 0 rfl) ?_
    refine va_get (D := D) (ci := 0) (v := .int ((d.2 S.1).2.2.2.2)) (C := R_X) (T := F_X) (N := 12) hx hb hts i_X hown hK hP 0 rfl rfl 11 (by decide) (hts _ kw_68) (fun _ h9 => h9) rfl d_X_count_9 ?_
    refine lv_goto (tgt := 37) hx hb d_X_count_12 (by decide) ?_
    exact hret _ _ _ d_X_count_37 (Or.inl ⟨S.1, by omega, c1, rfl⟩)
abbrev rm_X_height : Room := { frames := 1, cells := 0, slots := 0, locals := 25 }
set_option maxHeartbeats 4000000 in
set_option maxRecDepth 100000 in
/-- height(bin, n) -/
theorem c_X_height (l : Launch) (D : va_G) (sz : Nat) (xa : Nat → Nat) (xc : Nat → ClassId) (ad : Nat → Nat) (S : gt_SS) (lt : Nat → Int32) (d : gt_Dy) (n F now : Nat) (ol : List Nat) (told : Int32) (oI oB : Nat → Int32) (oT : Nat → Int64) (y v : Int32) (hinv : gt_Inv n S lt d now ol) (hxr : gt_XR n d ol F oI oB oT) : Met l y_X_height w_X_height rm_X_height (gt_Pre D (gt_XK D xc) [.ref (xa 0), .int y, .int v] (gt_XW xa xc ad S lt d n F now ol.length told ((d.2 S.1).2.2.2.2) oI oB oT) sz) (gt_Qi D (gt_XW xa xc ad S lt d n F now ol.length told ((d.2 S.1).2.2.2.2) oI oB oT) sz (fun (r : Int32) (u : Nat → Int32) => gt_RHeight S y v r u) (fun u : Nat → Int32 => gt_XW xa xc ad (S.1, S.2.1, S.2.2.1, S.2.2.2.1, S.2.2.2.2.1, u) lt d n F now ol.length told ((d.2 S.1).2.2.2.2) oI oB oT)) 0 0 (va_A (gt_XW xa xc ad S lt d n F now ol.length told ((d.2 S.1).2.2.2.2) oI oB oT) sz) := by
  refine gt_mut_i (own := R_X) (by decide) rfl (Nat.le_of_ble_eq_true rfl) ?_
  intro p e s m below meth c args A hx hb hml hown hts hP hK0 hD hA Q hret ls hl
  have hS : va_S A s.heap s.heap [] := va_S.rf
  have hl : lv_has ls 4 [(0, .ref (xa 0)), (1, .int y), (2, .int v)] := hl
  have hK : va_K D gt_cl (gt_Xt xc) s := hK0.1
  have hN := hK0.2
  have hn : n ≤ 400 := hinv.1.2.2.1
  have hG : S.1 ≤ 12 := hinv.1.2.1
  have hlen := gt_Inv_len hinv
  have hnow : now ≤ 1000000000 := hinv.2.2.2.1
  refine lv_aload_n hx hb d_X_height_0 rfl (lv_at hl 0 rfl) ?_
  refine lv_iload_n hx hb d_X_height_1 rfl (lv_at hl 1 rfl) ?_
  refine vp_callSi (va_runV (As := [.int y]) (rest := []) ⟨hx, hb, hml, hown, hts⟩ (c_X_isBin l D xa xc ad S lt d n F now ol.length told (d.2 S.1).2.2.2.2 oI oB oT y hG) (cwV 1 hts (tb_inV kw_140 kw_142 ks_X_isBin kw_1 kw_143) rfl rfl rfl (by decide +kernel) ⟨Nat.le_of_ble_eq_true rfl, Nat.le_of_ble_eq_true rfl⟩) (gt_PreP_V gt_XK_mv (va_recv hK hP (ci := 0) (q0 := 0) rfl rfl) hP hK0) rfl rfl hl.1 rfl (lv_room (Nat.le_of_ble_eq_true rfl)) d_X_height_2 ⟨Nat.zero_le _, Nat.zero_le _⟩).run (fun r2 h2 => ?_)
  refine lv_if_ne (tgt := 11) hx hb d_X_height_5 (by decide) (fun c2 => ?_) (fun c2 => ?_)
  · obtain ⟨g, g1, rfl⟩ := h2.yes c2
    refine lv_iload_n hx hb d_X_height_11 rfl (lv_at hl 2 rfl) ?_
    refine lv_i2l (v := v.toInt64) hx hb d_X_height_12 rfl ?_
    refine lv_lconst (v := lN 1) hx hb d_X_height_13 rfl ?_
    refine lv_ldc2 (v := lN 1000) hx hb hown (hts _ kw_204) d_X_height_14 ?_
    refine vp_callSi (va_runS (As := [.long v.toInt64, .long (lN 1), .long (lN 1000)]) (rest := []) ⟨hx, hb, hml, hown, hts⟩ (c_X_outside l D v.toInt64 (lN 1) (lN 1000)) (cwS 3 hts (tb_inS kw_99 kw_100 kw_1 kw_101) rfl rfl rfl (by decide +kernel) ⟨Nat.le_of_ble_eq_true rfl, Nat.le_of_ble_eq_true rfl⟩) (gt_PreP_S gt_T_mv gt_P0 trivial) rfl rfl hl.1 rfl (lv_room (Nat.le_of_ble_eq_true rfl)) d_X_height_17 ⟨Nat.zero_le _, Nat.zero_le _⟩).run (fun r3 h3 => ?_)
    refine lv_if_eq (tgt := 26) hx hb d_X_height_20 (by decide) (fun c3 => ?_) (fun c3 => ?_)
    · refine lv_aload_n hx hb d_X_height_26 rfl (lv_at hl 0 rfl) ?_
      refine va_get (D := D) (ci := 0) (v := .ref (xa 1)) (C := R_X) (T := F_X) (N := 12) hx hb hts i_X hown hK hP 0 rfl rfl 1 (by decide) (hts _ kw_58) (fun _ h9 => h9) rfl d_X_height_27 ?_
      refine lv_iload_n hx hb d_X_height_30 rfl (lv_at hl 1 rfl) ?_
      refine gt_qald (k := g) (b := ad g) (C := "GateTimes$Gate") hx hb hK hP 1 0 rfl rfl (by omega) (by omega) (gt_fg_at (by omega)) d_X_height_31 ?_
      refine gt_getP (X := gt_XH xa xc ad S n F now ol.length told ((d.2 S.1).2.2.2.2) oI oB oT) (ad := ad) (K := gt_pk S.1 n) (f := gt_pf S lt d) (key := g) (D := D) (ci := 1) (v := .int (S.2.2.2.2.2 g)) (C := R_G) (T := F_G) (N := 7) hx hb hts i_G hown hK hP (gt_pk_g (by omega)) (gt_pf_g (by omega)) rfl 4 (by decide) (va_Nw.use rfl (hN (.fieldLinkNest "GateTimes" 147 "GateTimes$Gate" "height" "I" "GateTimes") (by decide +kernel))) (fun _ h9 => h9) rfl d_X_height_32 ?_
      refine lv_istore_n (lv' := [(3, .int (S.2.2.2.2.2 g)), (0, .ref (xa 0)), (1, .int (nI g)), (2, .int v)]) hx hb d_X_height_35 rfl hl (by decide) rfl (fun ls hl => ?_)
      refine lv_aload_n hx hb d_X_height_36 rfl (lv_at hl 1 rfl) ?_
      refine va_get (D := D) (ci := 0) (v := .ref (xa 1)) (C := R_X) (T := F_X) (N := 12) hx hb hts i_X hown hK hP 0 rfl rfl 1 (by decide) (hts _ kw_58) (fun _ h9 => h9) rfl d_X_height_37 ?_
      refine lv_iload_n hx hb d_X_height_40 rfl (lv_at hl 2 rfl) ?_
      refine gt_qald (k := g) (b := ad g) (C := "GateTimes$Gate") hx hb hK hP 1 0 rfl rfl (by omega) (by omega) (gt_fg_at (by omega)) d_X_height_41 ?_
      refine lv_iload_n hx hb d_X_height_42 rfl (lv_at hl 3 rfl) ?_
      refine gt_putP (X := gt_XH xa xc ad S n F now ol.length told ((d.2 S.1).2.2.2.2) oI oB oT) (ad := ad) (K := gt_pk S.1 n) (f := gt_pf S lt d) (key := g) (D := D) (ci := 1) (v := .int v) (ty := .int) (C := R_G) (T := F_G) (N := 7) hx hb hts i_G t_G t_G_ok n_G hown hK hP hD hS (gt_pk_g (by omega)) (gt_pf_g (by omega)) rfl 4 (by decide) (va_Nw.use rfl (hN (.fieldLinkNest "GateTimes" 147 "GateTimes$Gate" "height" "I" "GateTimes") (by decide +kernel))) (fun _ h9 => h9) rfl (by decide +kernel) rfl rfl (Nat.le_of_ble_eq_true rfl) d_X_height_43 (fun H locs hP hD hS => ?_)
      have e1 : va_up (gt_pf S lt d) (g) (.inr (1, [.int ((d.2 g).1), .int (S.2.2.2.2.1 g), .int ((d.2 g).2.1), .long (lN (d.2 g).2.2.1), .int v, .int ((d.2 g).2.2.2.1), .int ((d.2 g).2.2.2.2)])) = gt_pf (S.1, S.2.1, S.2.2.1, S.2.2.2.1, S.2.2.2.2.1, va_up S.2.2.2.2.2 g v) lt d := gt_pf_setg (by omega) (by unfold gt_gC; simp only [va_up_self]) (fun j hj => by unfold gt_gC; simp only [va_up_ne _ _ hj]) (fun k => rfl)
      have hP : va_P D gt_cl (gt_XH xa xc ad S n F now ol.length told ((d.2 S.1).2.2.2.2) oI oB oT ++ gt_pl ad (gt_pk S.1 n) (va_up (gt_pf S lt d) (g) (.inr (1, [.int ((d.2 g).1), .int (S.2.2.2.2.1 g), .int ((d.2 g).2.1), .long (lN (d.2 g).2.2.1), .int v, .int ((d.2 g).2.2.2.1), .int ((d.2 g).2.2.2.2)])))) H := hP
      have hD : va_D A (gt_XH xa xc ad S n F now ol.length told ((d.2 S.1).2.2.2.2) oI oB oT ++ gt_pl ad (gt_pk S.1 n) (va_up (gt_pf S lt d) (g) (.inr (1, [.int ((d.2 g).1), .int (S.2.2.2.2.1 g), .int ((d.2 g).2.1), .long (lN (d.2 g).2.2.1), .int v, .int ((d.2 g).2.2.2.1), .int ((d.2 g).2.2.2.2)])))) := hD
      rw [e1] at hP hD
      have hP : va_P D gt_cl (gt_XW xa xc ad (S.1, S.2.1, S.2.2.1, S.2.2.2.1, S.2.2.2.2.1, va_up S.2.2.2.2.2 g v) lt d n F now ol.length told ((d.2 S.1).2.2.2.2) oI oB oT) H := hP
      have hD : va_D A (gt_XW xa xc ad (S.1, S.2.1, S.2.2.1, S.2.2.2.1, S.2.2.2.2.1, va_up S.2.2.2.2.2 g v) lt d n F now ol.length told ((d.2 S.1).2.2.2.2) oI oB oT) := hD
      refine lv_iload_n hx hb d_X_height_46 rfl (lv_at hl 0 rfl) ?_
      exact hret _ _ _ _ _ (va_up S.2.2.2.2.2 g v) d_X_height_47 (Or.inl ⟨g, g1, rfl, Or.inl ⟨h3.no c3, rfl, rfl⟩⟩) hP hD hS
    · refine lv_bipush (v := (-102)) hx hb d_X_height_23 (by decide) ?_
      exact hret _ _ _ _ _ S.2.2.2.2.2 d_X_height_25 (Or.inl ⟨g, g1, rfl, Or.inr ⟨h3.yes c3, rfl, rfl⟩⟩) hP hD hS
  · refine lv_bipush (v := (-101)) hx hb d_X_height_8 (by decide) ?_
    exact hret _ _ _ _ _ S.2.2.2.2.2 d_X_height_10 (Or.inr ⟨h2.no c2, rfl, rfl⟩) hP hD hS
abbrev rm_X_swap : Room := { frames := 1, cells := 0, slots := 0, locals := 21 }
set_option maxHeartbeats 4000000 in
set_option maxRecDepth 100000 in
/-- swap(bin) -/
theorem c_X_swap (l : Launch) (D : va_G) (sz : Nat) (xa : Nat → Nat) (xc : Nat → ClassId) (ad : Nat → Nat) (S : gt_SS) (lt : Nat → Int32) (d : gt_Dy) (n F now : Nat) (ol : List Nat) (told : Int32) (oI oB : Nat → Int32) (oT : Nat → Int64) (y : Int32) (hinv : gt_Inv n S lt d now ol) (hxr : gt_XR n d ol F oI oB oT) : Met l y_X_swap w_X_swap rm_X_swap (gt_Pre D (gt_XK D xc) [.ref (xa 0), .int y] (gt_XW xa xc ad S lt d n F now ol.length told ((d.2 S.1).2.2.2.2) oI oB oT) sz) (gt_Qi D (gt_XW xa xc ad S lt d n F now ol.length told ((d.2 S.1).2.2.2.2) oI oB oT) sz (fun (r : Int32) (u : Nat → gt_GS) => gt_RSwap S d y r u) (fun u : Nat → gt_GS => gt_XW xa xc ad S lt (d.1, u) n F now ol.length told ((d.2 S.1).2.2.2.2) oI oB oT)) 0 0 (va_A (gt_XW xa xc ad S lt d n F now ol.length told ((d.2 S.1).2.2.2.2) oI oB oT) sz) := by
  refine gt_mut_i (own := R_X) (by decide) rfl (Nat.le_of_ble_eq_true rfl) ?_
  intro p e s m below meth c args A hx hb hml hown hts hP hK0 hD hA Q hret ls hl
  have hS : va_S A s.heap s.heap [] := va_S.rf
  have hl : lv_has ls 3 [(0, .ref (xa 0)), (1, .int y)] := hl
  have hK : va_K D gt_cl (gt_Xt xc) s := hK0.1
  have hN := hK0.2
  have hn : n ≤ 400 := hinv.1.2.2.1
  have hG : S.1 ≤ 12 := hinv.1.2.1
  have hlen := gt_Inv_len hinv
  have hnow : now ≤ 1000000000 := hinv.2.2.2.1
  refine lv_aload_n hx hb d_X_swap_0 rfl (lv_at hl 0 rfl) ?_
  refine lv_iload_n hx hb d_X_swap_1 rfl (lv_at hl 1 rfl) ?_
  refine vp_callSi (va_runV (As := [.int y]) (rest := []) ⟨hx, hb, hml, hown, hts⟩ (c_X_isBin l D xa xc ad S lt d n F now ol.length told (d.2 S.1).2.2.2.2 oI oB oT y hG) (cwV 1 hts (tb_inV kw_140 kw_142 ks_X_isBin kw_1 kw_143) rfl rfl rfl (by decide +kernel) ⟨Nat.le_of_ble_eq_true rfl, Nat.le_of_ble_eq_true rfl⟩) (gt_PreP_V gt_XK_mv (va_recv hK hP (ci := 0) (q0 := 0) rfl rfl) hP hK0) rfl rfl hl.1 rfl (lv_room (Nat.le_of_ble_eq_true rfl)) d_X_swap_2 ⟨Nat.zero_le _, Nat.zero_le _⟩).run (fun r2 h2 => ?_)
  refine lv_if_ne (tgt := 11) hx hb d_X_swap_5 (by decide) (fun c2 => ?_) (fun c2 => ?_)
  · obtain ⟨g, g1, rfl⟩ := h2.yes c2
    refine lv_aload_n hx hb d_X_swap_11 rfl (lv_at hl 0 rfl) ?_
    refine va_get (D := D) (ci := 0) (v := .ref (xa 1)) (C := R_X) (T := F_X) (N := 12) hx hb hts i_X hown hK hP 0 rfl rfl 1 (by decide) (hts _ kw_58) (fun _ h9 => h9) rfl d_X_swap_12 ?_
    refine lv_iload_n hx hb d_X_swap_15 rfl (lv_at hl 1 rfl) ?_
    refine gt_qald (k := g) (b := ad g) (C := "GateTimes$Gate") hx hb hK hP 1 0 rfl rfl (by omega) (by omega) (gt_fg_at (by omega)) d_X_swap_16 ?_
    refine gt_getP (X := gt_XH xa xc ad S n F now ol.length told ((d.2 S.1).2.2.2.2) oI oB oT) (ad := ad) (K := gt_pk S.1 n) (f := gt_pf S lt d) (key := g) (D := D) (ci := 1) (v := .int ((d.2 g).2.2.2.1)) (C := R_G) (T := F_G) (N := 7) hx hb hts i_G hown hK hP (gt_pk_g (by omega)) (gt_pf_g (by omega)) rfl 5 (by decide) (va_Nw.use rfl (hN (.fieldLinkNest "GateTimes" 150 "GateTimes$Gate" "holds" "I" "GateTimes") (by decide +kernel))) (fun _ h9 => h9) rfl d_X_swap_17 ?_
    refine lv_istore_n (lv' := [(2, .int ((d.2 g).2.2.2.1)), (0, .ref (xa 0)), (1, .int (nI g))]) hx hb d_X_swap_20 rfl hl (by decide) rfl (fun ls hl => ?_)
    refine lv_aload_n hx hb d_X_swap_21 rfl (lv_at hl 1 rfl) ?_
    refine va_get (D := D) (ci := 0) (v := .ref (xa 1)) (C := R_X) (T := F_X) (N := 12) hx hb hts i_X hown hK hP 0 rfl rfl 1 (by decide) (hts _ kw_58) (fun _ h9 => h9) rfl d_X_swap_22 ?_
    refine lv_iload_n hx hb d_X_swap_25 rfl (lv_at hl 2 rfl) ?_
    refine gt_qald (k := g) (b := ad g) (C := "GateTimes$Gate") hx hb hK hP 1 0 rfl rfl (by omega) (by omega) (gt_fg_at (by omega)) d_X_swap_26 ?_
    refine lv_iconst (v := 0) hx hb d_X_swap_27 (by decide) ?_
    refine gt_putP (X := gt_XH xa xc ad S n F now ol.length told ((d.2 S.1).2.2.2.2) oI oB oT) (ad := ad) (K := gt_pk S.1 n) (f := gt_pf S lt d) (key := g) (D := D) (ci := 1) (v := .int 0) (ty := .int) (C := R_G) (T := F_G) (N := 7) hx hb hts i_G t_G t_G_ok n_G hown hK hP hD hS (gt_pk_g (by omega)) (gt_pf_g (by omega)) rfl 5 (by decide) (va_Nw.use rfl (hN (.fieldLinkNest "GateTimes" 150 "GateTimes$Gate" "holds" "I" "GateTimes") (by decide +kernel))) (fun _ h9 => h9) rfl (by decide +kernel) rfl rfl (Nat.le_of_ble_eq_true rfl) d_X_swap_28 (fun H locs hP hD hS => ?_)
    have e1 : va_up (gt_pf S lt d) (g) (.inr (1, [.int ((d.2 g).1), .int (S.2.2.2.2.1 g), .int ((d.2 g).2.1), .long (lN (d.2 g).2.2.1), .int (S.2.2.2.2.2 g), .int 0, .int ((d.2 g).2.2.2.2)])) = gt_pf S lt (d.1, va_up d.2 g ((d.2 g).1, (d.2 g).2.1, (d.2 g).2.2.1, 0, (d.2 g).2.2.2.2)) := gt_pf_setg (by omega) (by unfold gt_gC; simp only [va_up_self]) (fun j hj => by unfold gt_gC; simp only [va_up_ne _ _ hj]) (fun k => rfl)
    have hP : va_P D gt_cl (gt_XH xa xc ad S n F now ol.length told ((d.2 S.1).2.2.2.2) oI oB oT ++ gt_pl ad (gt_pk S.1 n) (va_up (gt_pf S lt d) (g) (.inr (1, [.int ((d.2 g).1), .int (S.2.2.2.2.1 g), .int ((d.2 g).2.1), .long (lN (d.2 g).2.2.1), .int (S.2.2.2.2.2 g), .int 0, .int ((d.2 g).2.2.2.2)])))) H := hP
    have hD : va_D A (gt_XH xa xc ad S n F now ol.length told ((d.2 S.1).2.2.2.2) oI oB oT ++ gt_pl ad (gt_pk S.1 n) (va_up (gt_pf S lt d) (g) (.inr (1, [.int ((d.2 g).1), .int (S.2.2.2.2.1 g), .int ((d.2 g).2.1), .long (lN (d.2 g).2.2.1), .int (S.2.2.2.2.2 g), .int 0, .int ((d.2 g).2.2.2.2)])))) := hD
    rw [e1] at hP hD
    have hP : va_P D gt_cl (gt_XW xa xc ad S lt (d.1, va_up d.2 g ((d.2 g).1, (d.2 g).2.1, (d.2 g).2.2.1, 0, (d.2 g).2.2.2.2)) n F now ol.length told ((d.2 S.1).2.2.2.2) oI oB oT) H := hP
    have hD : va_D A (gt_XW xa xc ad S lt (d.1, va_up d.2 g ((d.2 g).1, (d.2 g).2.1, (d.2 g).2.2.1, 0, (d.2 g).2.2.2.2)) n F now ol.length told ((d.2 S.1).2.2.2.2) oI oB oT) := hD
    refine lv_iload_n hx hb d_X_swap_31 rfl (lv_at hl 0 rfl) ?_
    exact hret _ _ _ _ _ (va_up d.2 g ((d.2 g).1, (d.2 g).2.1, (d.2 g).2.2.1, 0, (d.2 g).2.2.2.2)) d_X_swap_32 (Or.inl ⟨g, g1, rfl, rfl, rfl⟩) hP hD hS
  · refine lv_bipush (v := (-101)) hx hb d_X_swap_8 (by decide) ?_
    exact hret _ _ _ _ _ d.2 d_X_swap_10 (Or.inr ⟨h2.no c2, rfl, rfl⟩) hP hD hS
abbrev rm_X_stuck : Room := { frames := 1, cells := 0, slots := 0, locals := 21 }
set_option maxHeartbeats 4000000 in
set_option maxRecDepth 100000 in
/-- stuck(gate, on) -/
theorem c_X_stuck (l : Launch) (D : va_G) (sz : Nat) (xa : Nat → Nat) (xc : Nat → ClassId) (ad : Nat → Nat) (S : gt_SS) (lt : Nat → Int32) (d : gt_Dy) (n F now : Nat) (ol : List Nat) (told : Int32) (oI oB : Nat → Int32) (oT : Nat → Int64) (y on : Int32) (hinv : gt_Inv n S lt d now ol) (hxr : gt_XR n d ol F oI oB oT) (hon : on = 0 ∨ on = 1) : Met l y_X_stuck w_X_stuck rm_X_stuck (gt_Pre D (gt_XK D xc) [.ref (xa 0), .int y, .int on] (gt_XW xa xc ad S lt d n F now ol.length told ((d.2 S.1).2.2.2.2) oI oB oT) sz) (gt_Qi D (gt_XW xa xc ad S lt d n F now ol.length told ((d.2 S.1).2.2.2.2) oI oB oT) sz (fun (r : Int32) (u : Nat → Int32) => gt_RStuck S y on r u) (fun u : Nat → Int32 => gt_XW xa xc ad (S.1, S.2.1, S.2.2.1, S.2.2.2.1, u, S.2.2.2.2.2) lt d n F now ol.length told ((d.2 S.1).2.2.2.2) oI oB oT)) 0 0 (va_A (gt_XW xa xc ad S lt d n F now ol.length told ((d.2 S.1).2.2.2.2) oI oB oT) sz) := by
  refine gt_mut_i (own := R_X) (by decide) rfl (Nat.le_of_ble_eq_true rfl) ?_
  intro p e s m below meth c args A hx hb hml hown hts hP hK0 hD hA Q hret ls hl
  have hS : va_S A s.heap s.heap [] := va_S.rf
  have hl : lv_has ls 4 [(0, .ref (xa 0)), (1, .int y), (2, .int on)] := hl
  have hK : va_K D gt_cl (gt_Xt xc) s := hK0.1
  have hN := hK0.2
  have hn : n ≤ 400 := hinv.1.2.2.1
  have hG : S.1 ≤ 12 := hinv.1.2.1
  have hlen := gt_Inv_len hinv
  have hnow : now ≤ 1000000000 := hinv.2.2.2.1
  refine lv_aload_n hx hb d_X_stuck_0 rfl (lv_at hl 0 rfl) ?_
  refine lv_iload_n hx hb d_X_stuck_1 rfl (lv_at hl 1 rfl) ?_
  refine vp_callSi (va_runV (As := [.int y]) (rest := []) ⟨hx, hb, hml, hown, hts⟩ (c_X_isBin l D xa xc ad S lt d n F now ol.length told (d.2 S.1).2.2.2.2 oI oB oT y hG) (cwV 1 hts (tb_inV kw_140 kw_142 ks_X_isBin kw_1 kw_143) rfl rfl rfl (by decide +kernel) ⟨Nat.le_of_ble_eq_true rfl, Nat.le_of_ble_eq_true rfl⟩) (gt_PreP_V gt_XK_mv (va_recv hK hP (ci := 0) (q0 := 0) rfl rfl) hP hK0) rfl rfl hl.1 rfl (lv_room (Nat.le_of_ble_eq_true rfl)) d_X_stuck_2 ⟨Nat.zero_le _, Nat.zero_le _⟩).run (fun r2 h2 => ?_)
  refine lv_if_ne (tgt := 11) hx hb d_X_stuck_5 (by decide) (fun c2 => ?_) (fun c2 => ?_)
  · obtain ⟨g, g1, rfl⟩ := h2.yes c2
    refine lv_aload_n hx hb d_X_stuck_11 rfl (lv_at hl 0 rfl) ?_
    refine va_get (D := D) (ci := 0) (v := .ref (xa 1)) (C := R_X) (T := F_X) (N := 12) hx hb hts i_X hown hK hP 0 rfl rfl 1 (by decide) (hts _ kw_58) (fun _ h9 => h9) rfl d_X_stuck_12 ?_
    refine lv_iload_n hx hb d_X_stuck_15 rfl (lv_at hl 1 rfl) ?_
    refine gt_qald (k := g) (b := ad g) (C := "GateTimes$Gate") hx hb hK hP 1 0 rfl rfl (by omega) (by omega) (gt_fg_at (by omega)) d_X_stuck_16 ?_
    refine gt_getP (X := gt_XH xa xc ad S n F now ol.length told ((d.2 S.1).2.2.2.2) oI oB oT) (ad := ad) (K := gt_pk S.1 n) (f := gt_pf S lt d) (key := g) (D := D) (ci := 1) (v := .int (S.2.2.2.2.1 g)) (C := R_G) (T := F_G) (N := 7) hx hb hts i_G hown hK hP (gt_pk_g (by omega)) (gt_pf_g (by omega)) rfl 1 (by decide) (va_Nw.use rfl (hN (.fieldLinkNest "GateTimes" 153 "GateTimes$Gate" "stuck" "Z" "GateTimes") (by decide +kernel))) (fun _ h9 => h9) rfl d_X_stuck_17 ?_
    refine lv_iload_n hx hb d_X_stuck_20 rfl (lv_at hl 2 rfl) ?_
    refine lv_icmp_eq (tgt := 28) hx hb d_X_stuck_21 (by decide) (fun c3 => ?_) (fun c3 => ?_)
    · refine lv_iconst (v := 0) hx hb d_X_stuck_28 (by decide) ?_
      refine lv_istore_n (lv' := [(3, .int 0), (0, .ref (xa 0)), (1, .int (nI g)), (2, .int on)]) hx hb d_X_stuck_29 rfl hl (by decide) rfl (fun ls hl => ?_)
      refine lv_aload_n hx hb d_X_stuck_30 rfl (lv_at hl 1 rfl) ?_
      refine va_get (D := D) (ci := 0) (v := .ref (xa 1)) (C := R_X) (T := F_X) (N := 12) hx hb hts i_X hown hK hP 0 rfl rfl 1 (by decide) (hts _ kw_58) (fun _ h9 => h9) rfl d_X_stuck_31 ?_
      refine lv_iload_n hx hb d_X_stuck_34 rfl (lv_at hl 2 rfl) ?_
      refine gt_qald (k := g) (b := ad g) (C := "GateTimes$Gate") hx hb hK hP 1 0 rfl rfl (by omega) (by omega) (gt_fg_at (by omega)) d_X_stuck_35 ?_
      refine lv_iload_n hx hb d_X_stuck_36 rfl (lv_at hl 3 rfl) ?_
      refine gt_putP (X := gt_XH xa xc ad S n F now ol.length told ((d.2 S.1).2.2.2.2) oI oB oT) (ad := ad) (K := gt_pk S.1 n) (f := gt_pf S lt d) (key := g) (D := D) (ci := 1) (v := .int on) (ty := .boolean) (C := R_G) (T := F_G) (N := 7) hx hb hts i_G t_G t_G_ok n_G hown hK hP hD hS (gt_pk_g (by omega)) (gt_pf_g (by omega)) rfl 1 (by decide) (va_Nw.use rfl (hN (.fieldLinkNest "GateTimes" 153 "GateTimes$Gate" "stuck" "Z" "GateTimes") (by decide +kernel))) (fun _ h9 => h9) rfl (by decide +kernel) (gt_bool hon).1 (gt_bool hon).2.1 (Nat.le_of_ble_eq_true rfl) d_X_stuck_37 (fun H locs hP hD hS => ?_)
      have e1 : va_up (gt_pf S lt d) (g) (.inr (1, [.int ((d.2 g).1), .int on, .int ((d.2 g).2.1), .long (lN (d.2 g).2.2.1), .int (S.2.2.2.2.2 g), .int ((d.2 g).2.2.2.1), .int ((d.2 g).2.2.2.2)])) = gt_pf (S.1, S.2.1, S.2.2.1, S.2.2.2.1, va_up S.2.2.2.2.1 g on, S.2.2.2.2.2) lt d := gt_pf_setg (by omega) (by unfold gt_gC; simp only [va_up_self]) (fun j hj => by unfold gt_gC; simp only [va_up_ne _ _ hj]) (fun k => rfl)
      have hP : va_P D gt_cl (gt_XH xa xc ad S n F now ol.length told ((d.2 S.1).2.2.2.2) oI oB oT ++ gt_pl ad (gt_pk S.1 n) (va_up (gt_pf S lt d) (g) (.inr (1, [.int ((d.2 g).1), .int on, .int ((d.2 g).2.1), .long (lN (d.2 g).2.2.1), .int (S.2.2.2.2.2 g), .int ((d.2 g).2.2.2.1), .int ((d.2 g).2.2.2.2)])))) H := hP
      have hD : va_D A (gt_XH xa xc ad S n F now ol.length told ((d.2 S.1).2.2.2.2) oI oB oT ++ gt_pl ad (gt_pk S.1 n) (va_up (gt_pf S lt d) (g) (.inr (1, [.int ((d.2 g).1), .int on, .int ((d.2 g).2.1), .long (lN (d.2 g).2.2.1), .int (S.2.2.2.2.2 g), .int ((d.2 g).2.2.2.1), .int ((d.2 g).2.2.2.2)])))) := hD
      rw [e1] at hP hD
      have hP : va_P D gt_cl (gt_XW xa xc ad (S.1, S.2.1, S.2.2.1, S.2.2.2.1, va_up S.2.2.2.2.1 g on, S.2.2.2.2.2) lt d n F now ol.length told ((d.2 S.1).2.2.2.2) oI oB oT) H := hP
      have hD : va_D A (gt_XW xa xc ad (S.1, S.2.1, S.2.2.1, S.2.2.2.1, va_up S.2.2.2.2.1 g on, S.2.2.2.2.2) lt d n F now ol.length told ((d.2 S.1).2.2.2.2) oI oB oT) := hD
      refine lv_iload_n hx hb d_X_stuck_40 rfl (lv_at hl 0 rfl) ?_
      exact hret _ _ _ _ _ (va_up S.2.2.2.2.1 g on) d_X_stuck_41 (Or.inl ⟨g, g1, rfl, Or.inl ⟨c3, rfl⟩, rfl⟩) hP hD hS
    · refine lv_iconst (v := 1) hx hb d_X_stuck_24 (by decide) ?_
      refine lv_goto (tgt := 29) hx hb d_X_stuck_25 (by decide) ?_
      refine lv_istore_n (lv' := [(3, .int 1), (0, .ref (xa 0)), (1, .int (nI g)), (2, .int on)]) hx hb d_X_stuck_29 rfl hl (by decide) rfl (fun ls hl => ?_)
      refine lv_aload_n hx hb d_X_stuck_30 rfl (lv_at hl 1 rfl) ?_
      refine va_get (D := D) (ci := 0) (v := .ref (xa 1)) (C := R_X) (T := F_X) (N := 12) hx hb hts i_X hown hK hP 0 rfl rfl 1 (by decide) (hts _ kw_58) (fun _ h9 => h9) rfl d_X_stuck_31 ?_
      refine lv_iload_n hx hb d_X_stuck_34 rfl (lv_at hl 2 rfl) ?_
      refine gt_qald (k := g) (b := ad g) (C := "GateTimes$Gate") hx hb hK hP 1 0 rfl rfl (by omega) (by omega) (gt_fg_at (by omega)) d_X_stuck_35 ?_
      refine lv_iload_n hx hb d_X_stuck_36 rfl (lv_at hl 3 rfl) ?_
      refine gt_putP (X := gt_XH xa xc ad S n F now ol.length told ((d.2 S.1).2.2.2.2) oI oB oT) (ad := ad) (K := gt_pk S.1 n) (f := gt_pf S lt d) (key := g) (D := D) (ci := 1) (v := .int on) (ty := .boolean) (C := R_G) (T := F_G) (N := 7) hx hb hts i_G t_G t_G_ok n_G hown hK hP hD hS (gt_pk_g (by omega)) (gt_pf_g (by omega)) rfl 1 (by decide) (va_Nw.use rfl (hN (.fieldLinkNest "GateTimes" 153 "GateTimes$Gate" "stuck" "Z" "GateTimes") (by decide +kernel))) (fun _ h9 => h9) rfl (by decide +kernel) (gt_bool hon).1 (gt_bool hon).2.1 (Nat.le_of_ble_eq_true rfl) d_X_stuck_37 (fun H locs hP hD hS => ?_)
      have e1 : va_up (gt_pf S lt d) (g) (.inr (1, [.int ((d.2 g).1), .int on, .int ((d.2 g).2.1), .long (lN (d.2 g).2.2.1), .int (S.2.2.2.2.2 g), .int ((d.2 g).2.2.2.1), .int ((d.2 g).2.2.2.2)])) = gt_pf (S.1, S.2.1, S.2.2.1, S.2.2.2.1, va_up S.2.2.2.2.1 g on, S.2.2.2.2.2) lt d := gt_pf_setg (by omega) (by unfold gt_gC; simp only [va_up_self]) (fun j hj => by unfold gt_gC; simp only [va_up_ne _ _ hj]) (fun k => rfl)
      have hP : va_P D gt_cl (gt_XH xa xc ad S n F now ol.length told ((d.2 S.1).2.2.2.2) oI oB oT ++ gt_pl ad (gt_pk S.1 n) (va_up (gt_pf S lt d) (g) (.inr (1, [.int ((d.2 g).1), .int on, .int ((d.2 g).2.1), .long (lN (d.2 g).2.2.1), .int (S.2.2.2.2.2 g), .int ((d.2 g).2.2.2.1), .int ((d.2 g).2.2.2.2)])))) H := hP
      have hD : va_D A (gt_XH xa xc ad S n F now ol.length told ((d.2 S.1).2.2.2.2) oI oB oT ++ gt_pl ad (gt_pk S.1 n) (va_up (gt_pf S lt d) (g) (.inr (1, [.int ((d.2 g).1), .int on, .int ((d.2 g).2.1), .long (lN (d.2 g).2.2.1), .int (S.2.2.2.2.2 g), .int ((d.2 g).2.2.2.1), .int ((d.2 g).2.2.2.2)])))) := hD
      rw [e1] at hP hD
      have hP : va_P D gt_cl (gt_XW xa xc ad (S.1, S.2.1, S.2.2.1, S.2.2.2.1, va_up S.2.2.2.2.1 g on, S.2.2.2.2.2) lt d n F now ol.length told ((d.2 S.1).2.2.2.2) oI oB oT) H := hP
      have hD : va_D A (gt_XW xa xc ad (S.1, S.2.1, S.2.2.1, S.2.2.2.1, va_up S.2.2.2.2.1 g on, S.2.2.2.2.2) lt d n F now ol.length told ((d.2 S.1).2.2.2.2) oI oB oT) := hD
      refine lv_iload_n hx hb d_X_stuck_40 rfl (lv_at hl 0 rfl) ?_
      exact hret _ _ _ _ _ (va_up S.2.2.2.2.1 g on) d_X_stuck_41 (Or.inl ⟨g, g1, rfl, Or.inr ⟨c3, rfl⟩, rfl⟩) hP hD hS
  · refine lv_bipush (v := (-101)) hx hb d_X_stuck_8 (by decide) ?_
    exact hret _ _ _ _ _ S.2.2.2.2.1 d_X_stuck_10 (Or.inr ⟨h2.no c2, rfl, rfl⟩) hP hD hS
abbrev rm_X_verify : Room := { frames := 1, cells := 0, slots := 0, locals := 21 }
set_option maxHeartbeats 4000000 in
set_option maxRecDepth 100000 in
/-- verify(i, what) -/
theorem c_X_verify (l : Launch) (D : va_G) (xa : Nat → Nat) (xc : Nat → ClassId) (ad : Nat → Nat) (S : gt_SS) (lt : Nat → Int32) (d : gt_Dy) (n F now : Nat) (ol : List Nat) (told : Int32) (oI oB : Nat → Int32) (oT : Nat → Int64) (x w : Int32) (hinv : gt_Inv n S lt d now ol) (hxr : gt_XR n d ol F oI oB oT) : Met l y_X_verify w_X_verify rm_X_verify (gt_PreP D (gt_XK D xc) [.ref (xa 0), .int x, .int w] (gt_XW xa xc ad S lt d n F now ol.length told ((d.2 S.1).2.2.2.2) oI oB oT)) (vp_Si (fun r => gt_RVer S d ol x w r)) 0 0 (fun _ => False) := by
  refine gt_pure_i (own := R_X) (by decide) rfl (Nat.le_of_ble_eq_true rfl) ?_
  intro p e s m below meth c args hx hb hml hown hts hP hK0 Q hret ls hl
  have hl : lv_has ls 6 [(0, .ref (xa 0)), (1, .int x), (2, .int w)] := hl
  have hK : va_K D gt_cl (gt_Xt xc) s := hK0.1
  have hN := hK0.2
  have hn : n ≤ 400 := hinv.1.2.2.1
  have hG : S.1 ≤ 12 := hinv.1.2.1
  have hlen := gt_Inv_len hinv
  have hnow : now ≤ 1000000000 := hinv.2.2.2.1
  refine lv_iload_n hx hb d_X_verify_0 rfl (lv_at hl 2 rfl) ?_
  refine lv_if_lt (tgt := 13) hx hb d_X_verify_1 (by decide) (fun c1 => ?_) (fun c1 => ?_)
  · refine lv_iconst (v := (-1)) hx hb d_X_verify_13 (by decide) ?_
    exact hret _ _ _ d_X_verify_14 (gt_RVer_w (gt_wlo c1))
  · refine lv_iload_n hx hb d_X_verify_4 rfl (lv_at hl 2 rfl) ?_
    refine lv_iconst (v := 2) hx hb d_X_verify_5 (by decide) ?_
    refine lv_icmp_gt (tgt := 13) hx hb d_X_verify_6 (by decide) (fun c2 => ?_) (fun c2 => ?_)
    · refine lv_iconst (v := (-1)) hx hb d_X_verify_13 (by decide) ?_
      exact hret _ _ _ d_X_verify_14 (gt_RVer_w (gt_whi (Int32.not_le.mpr c2)))
    · refine lv_iload_n hx hb d_X_verify_9 rfl (lv_at hl 1 rfl) ?_
      refine lv_if_ge (tgt := 15) hx hb d_X_verify_10 (by decide) (fun c3 => ?_) (fun c3 => ?_)
      · obtain ⟨j, hj, rfl⟩ := nI_of (x := x) (Int32.not_lt.mpr c3)
        refine lv_iload_n hx hb d_X_verify_15 rfl (lv_at hl 1 rfl) ?_
        refine lv_istore_n (lv' := [(3, .int (nI j)), (0, .ref (xa 0)), (1, .int (nI j)), (2, .int w)]) hx hb d_X_verify_16 rfl hl (by decide) rfl (fun ls hl => ?_)
        refine lv_iconst (v := 0) hx hb d_X_verify_17 (by decide) ?_
        refine lv_istore (lv' := [(4, .int 0), (3, .int (nI j)), (0, .ref (xa 0)), (1, .int (nI j)), (2, .int w)]) hx hb d_X_verify_18 hl (by decide) rfl (fun ls hl => ?_)
        have loop : ∀ (q k : Nat), k ≤ ol.length → ol.length < k + q → gt_ct S d ol k ≤ j → (∀ i, i < k → ¬ gt_hit S d ol (nI j) i) → ∀ ls, lv_has ls 6 [(4, .int (nI k)), (3, .int (nI (j - gt_ct S d ol k))), (0, .ref (xa 0)), (2, .int w)] → W p l e rm_X_verify s m args below meth c s.heap [] 0 0 Q (F0 m 20 ls []) := by
          intro q
          induction q with
          | zero => intro k h1 h2; omega
          | succ q ih =>
            intro k k1 k2 k3 hno ls hl
            refine lv_iload hx hb d_X_verify_20 (lv_at hl 0 rfl) ?_
            refine lv_aload_n hx hb d_X_verify_22 rfl (lv_at hl 2 rfl) ?_
            refine va_get (D := D) (ci := 0) (v := .int (nI ol.length)) (C := R_X) (T := F_X) (N := 12) hx hb hts i_X hown hK hP 0 rfl rfl 9 (by decide) (hts _ kw_66) (fun _ h9 => h9) rfl d_X_verify_23 ?_
            refine lv_icmp_ge (tgt := 109) hx hb d_X_verify_26 (by decide) (fun c4 => ?_) (fun c4 => ?_)
            · rw [nI_leI (by omega) (by omega)] at c4
              refine lv_iconst (v := (-1)) hx hb d_X_verify_109 (by decide) ?_
              exact hret _ _ _ d_X_verify_110 (gt_RVer_end (fun i hi => hno i (by omega)))
            · rw [nI_leI (by omega) (by omega)] at c4
              have hk : k < ol.length := by omega
              have hxk := hxr.2.2.2 k hk
              have hm := (hinv.2.2.1.2.1 _).mp (gt_getD_mem hk)
              have hm1 := hm.1
              have hm2 := hm.2.1
              refine lv_aload_n hx hb d_X_verify_29 rfl (lv_at hl 2 rfl) ?_
              refine va_get (D := D) (ci := 0) (v := .ref (xa 2)) (C := R_X) (T := F_X) (N := 12) hx hb hts i_X hown hK hP 0 rfl rfl 2 (by decide) (hts _ kw_59) (fun _ h9 => h9) rfl d_X_verify_30 ?_
              refine lv_aload_n hx hb d_X_verify_33 rfl (lv_at hl 2 rfl) ?_
              refine va_get (D := D) (ci := 0) (v := .ref (xa 3)) (C := R_X) (T := F_X) (N := 12) hx hb hts i_X hown hK hP 0 rfl rfl 6 (by decide) (hts _ kw_63) (fun _ h9 => h9) rfl d_X_verify_34 ?_
              refine lv_iload hx hb d_X_verify_37 (lv_at hl 0 rfl) ?_
              refine gt_iald (k := k) hx hb hK hP 3 2 rfl rfl (by omega) (by decide) d_X_verify_39 ?_
              rw [hxk.1]
              refine gt_qald (k := ol.getD k 0) (b := ad (100 + ol.getD k 0)) (C := "GateTimes$Item") hx hb hK hP 2 1 rfl rfl (by omega) (by decide) (gt_fi_at (by omega) (by omega)) d_X_verify_40 ?_
              refine lv_astore (lv' := [(5, .ref (ad (100 + ol.getD k 0))), (4, .int (nI k)), (3, .int (nI (j - gt_ct S d ol k))), (0, .ref (xa 0)), (2, .int w)]) hx hb d_X_verify_41 hl (by decide) rfl (fun ls hl => ?_)
              refine lv_aload hx hb d_X_verify_43 (lv_at hl 0 rfl) ?_
              refine lv_aload_n hx hb d_X_verify_45 rfl (lv_at hl 3 rfl) ?_
              refine va_get (D := D) (ci := 0) (v := .ref (xa 4)) (C := R_X) (T := F_X) (N := 12) hx hb hts i_X hown hK hP 0 rfl rfl 7 (by decide) (hts _ kw_64) (fun _ h9 => h9) rfl d_X_verify_46 ?_
              refine lv_iload hx hb d_X_verify_49 (lv_at hl 1 rfl) ?_
              refine gt_iald (k := k) hx hb hK hP 4 3 rfl rfl (by omega) (by decide) d_X_verify_51 ?_
              refine vp_callSi (va_runV (As := [.int (oB k)]) (rest := []) ⟨hx, hb, hml, hown, hts⟩ (c_I_isWrong l D (ad (100 + ol.getD k 0)) (S.2.1 (ol.getD k 0)) (lN (S.2.2.1 (ol.getD k 0))) (S.2.2.2.1 (ol.getD k 0)) (lt (ol.getD k 0)) (nI (d.1 (ol.getD k 0)).1) (gt_oI (d.1 (ol.getD k 0))) (oB k)) (cwV 1 hts (tb_inV kw_225 kw_226 kw_227 kw_5 kw_228) rfl rfl rfl (by decide +kernel) ⟨Nat.le_of_ble_eq_true rfl, Nat.le_of_ble_eq_true rfl⟩) (gt_PreP_V gt_K_mv (gt_recvP (X := gt_XH xa xc ad S n F now ol.length told ((d.2 S.1).2.2.2.2) oI oB oT) (ad := ad) (K := gt_pk S.1 n) (f := gt_pf S lt d) (key := 100 + ol.getD k 0) hK hP (gt_pk_i (by omega) (by omega)) (gt_pf_i S lt d (ol.getD k 0)) rfl) (gt_pl_one (X := gt_XH xa xc ad S n F now ol.length told ((d.2 S.1).2.2.2.2) oI oB oT) (ad := ad) (K := gt_pk S.1 n) (f := gt_pf S lt d) (k := 100 + ol.getD k 0) hP (gt_pk_i (by omega) (by omega)) (gt_pf_i S lt d (ol.getD k 0))) (hK.sub [] rfl)) rfl rfl hl.1 rfl (lv_room (Nat.le_of_ble_eq_true rfl)) d_X_verify_52 ⟨Nat.zero_le _, Nat.zero_le _⟩).run (fun r hr => ?_)
              rw [hxk.2.1] at hr
              have hr : gt_Bit r (gt_wr S d ol k) := hr
              have hct := gt_ct_le S d ol k
              refine lv_if_ne (tgt := 61) hx hb d_X_verify_55 (by decide) (fun c5 => ?_) (fun c5 => ?_)
              · refine lv_iload_n hx hb d_X_verify_61 rfl (lv_at hl 2 rfl) ?_
                refine lv_if_ne (tgt := 100) hx hb d_X_verify_62 (by decide) (fun c6 => ?_) (fun c6 => ?_)
                · have hlt : gt_ct S d ol k < j := by
                    rcases Nat.lt_or_ge (gt_ct S d ol k) j with e | e
                    · exact e
                    · exact absurd (by rw [show j - gt_ct S d ol k = 0 by omega]; exact nI_0) c6
                  have hw5 := gt_ct_y (hr.yes c5)
                  refine lv_iinc (v := nI (j - gt_ct S d ol (k + 1))) (lv' := [(3, .int (nI (j - gt_ct S d ol (k + 1)))), (5, .ref (ad (100 + ol.getD k 0))), (4, .int (nI k)), (0, .ref (xa 0)), (2, .int w)]) hx hb d_X_verify_100 hl (k := 2) rfl (by rw [show Int32.ofInt (-1) = (-1 : Int32) by decide, sb_m1 (by omega), hw5, Nat.sub_sub]) (by decide) rfl (fun ls hl => ?_)
                  refine lv_iinc (v := nI (k + 1)) (lv' := [(4, .int (nI (k + 1))), (3, .int (nI (j - gt_ct S d ol (k + 1)))), (5, .ref (ad (100 + ol.getD k 0))), (0, .ref (xa 0)), (2, .int w)]) hx hb d_X_verify_103 hl (k := 2) rfl (nI_1 _) (by decide) rfl (fun ls hl => ?_)
                  refine lv_goto (tgt := 20) hx hb d_X_verify_106 (by decide) ?_
                  exact ih (k + 1) (by omega) (by omega) (by omega) (fun i hi => by
                    by_cases e : i = k
                    · subst e
                      intro hh
                      have := gt_nI_inj2 hj (by omega) hh.2.2
                      omega
                    · exact hno i (by omega)) ls (lv_sub hl [0, 1, 3, 4] rfl)
                · have heq : nI j = nI (gt_ct S d ol k) := by
                    have : j - gt_ct S d ol k = 0 := by
                      rcases Nat.eq_zero_or_pos (j - gt_ct S d ol k) with e | e
                      · exact e
                      · exact absurd c6 (nI_ne0 e (by omega))
                    rw [show j = gt_ct S d ol k by omega]
                  have hh : gt_hit S d ol (nI j) k := ⟨hk, hr.yes c5, heq⟩
                  refine lv_iload_n hx hb d_X_verify_65 rfl (lv_at hl 4 rfl) ?_
                  refine lv_if_ne (tgt := 79) hx hb d_X_verify_66 (by decide) (fun c7 => ?_) (fun c7 => ?_)
                  · refine lv_iload_n hx hb d_X_verify_79 rfl (lv_at hl 4 rfl) ?_
                    refine lv_iconst (v := 1) hx hb d_X_verify_80 (by decide) ?_
                    refine lv_icmp_ne (tgt := 92) hx hb d_X_verify_81 (by decide) (fun c8 => ?_) (fun c8 => ?_)
                    · refine lv_aload_n hx hb d_X_verify_92 rfl (lv_at hl 3 rfl) ?_
                      refine va_get (D := D) (ci := 0) (v := .ref (xa 4)) (C := R_X) (T := F_X) (N := 12) hx hb hts i_X hown hK hP 0 rfl rfl 7 (by decide) (hts _ kw_64) (fun _ h9 => h9) rfl d_X_verify_93 ?_
                      refine lv_iload hx hb d_X_verify_96 (lv_at hl 1 rfl) ?_
                      refine gt_iald (k := k) hx hb hK hP 4 3 rfl rfl (by omega) (by decide) d_X_verify_98 ?_
                      exact hret _ _ _ d_X_verify_99 (Or.inl ⟨k, hh, Or.inr (Or.inr (Or.inl ⟨gt_w2 c1 (Int32.not_lt.mp c2) c7 c8, hxk.2.1⟩))⟩)
                    · refine lv_aload hx hb d_X_verify_84 (lv_at hl 0 rfl) ?_
                      refine gt_getP (X := gt_XH xa xc ad S n F now ol.length told ((d.2 S.1).2.2.2.2) oI oB oT) (ad := ad) (K := gt_pk S.1 n) (f := gt_pf S lt d) (key := 100 + ol.getD k 0) (D := D) (ci := 2) (v := .int (S.2.2.2.1 (ol.getD k 0))) (C := R_I) (T := F_I) (N := 6) hx hb hts i_I hown hK hP (gt_pk_i (by omega) (by omega)) (gt_pf_i S lt d (ol.getD k 0)) rfl 2 (by decide) (va_Nw.use rfl (hN (.fieldLinkNest "GateTimes" 96 "GateTimes$Item" "order" "I" "GateTimes") (by decide +kernel))) (fun _ h9 => h9) rfl d_X_verify_86 ?_
                      refine lv_goto (tgt := 99) hx hb d_X_verify_89 (by decide) ?_
                      exact hret _ _ _ d_X_verify_99 (Or.inl ⟨k, hh, Or.inr (Or.inl ⟨c8, rfl⟩)⟩)
                  · refine lv_aload_n hx hb d_X_verify_69 rfl (lv_at hl 3 rfl) ?_
                    refine va_get (D := D) (ci := 0) (v := .ref (xa 3)) (C := R_X) (T := F_X) (N := 12) hx hb hts i_X hown hK hP 0 rfl rfl 6 (by decide) (hts _ kw_63) (fun _ h9 => h9) rfl d_X_verify_70 ?_
                    refine lv_iload hx hb d_X_verify_73 (lv_at hl 1 rfl) ?_
                    refine gt_iald (k := k) hx hb hK hP 3 2 rfl rfl (by omega) (by decide) d_X_verify_75 ?_
                    refine lv_goto (tgt := 99) hx hb d_X_verify_76 (by decide) ?_
                    exact hret _ _ _ d_X_verify_99 (Or.inl ⟨k, hh, Or.inl ⟨c7, hxk.1⟩⟩)
              · have hw5 := gt_ct_n (hr.no c5)
                refine lv_goto (tgt := 103) hx hb d_X_verify_58 (by decide) ?_
                refine lv_iinc (v := nI (k + 1)) (lv' := [(4, .int (nI (k + 1))), (5, .ref (ad (100 + ol.getD k 0))), (3, .int (nI (j - gt_ct S d ol k))), (0, .ref (xa 0)), (2, .int w)]) hx hb d_X_verify_103 hl (k := 1) rfl (nI_1 _) (by decide) rfl (fun ls hl => ?_)
                refine lv_goto (tgt := 20) hx hb d_X_verify_106 (by decide) ?_
                rw [← hw5] at hl
                exact ih (k + 1) (by omega) (by omega) (by omega) (fun i hi => by
                  by_cases e : i = k
                  · subst e
                    exact fun hh => hr.no c5 hh.2.1
                  · exact hno i (by omega)) ls (lv_sub hl [0, 2, 3, 4] rfl)
        exact loop (ol.length + 1) 0 (Nat.zero_le _) (by omega) (Nat.zero_le j) (fun i hi => by omega) ls (lv_sub hl [0, 1, 2, 4] rfl)
      · refine lv_iconst (v := (-1)) hx hb d_X_verify_13 (by decide) ?_
        exact hret _ _ _ d_X_verify_14 (gt_RVer_neg (by omega) (Int32.not_le.mp c3))
end
section
/-! BASE, for constructors and new objects. -/
section GB2
variable {p : Program} {l : Launch} {e : Env} {R : Room} {s : State} {m : MethodId} {args : Array Value} {below : List Frame} {meth : Method} {c : Code} {H : Heap} {locs : List Loc} {cells slots : Nat} {Q : State → Prop}
variable {cc : ByteArray} {pc : Nat} {ls : Array Slot} {rest : List Value} {D : va_G} {cl : List vw_C} {A : Nat → Prop} {a : Nat} {tys : List (ClassId × FieldType)} {H0 : Heap}
/-- a pooled object goes into an array of references -/
theorem gt_qast {X : va_W} {ad : Nat → Nat} {K : List Nat} {f : Nat → va_E} {key : Nat} (hexec : p.tables.exec = Jvm.exec) (hb : c.code = cc) (hK : va_K D cl tys s) (hP : va_P D cl (X ++ gt_pl ad K f) H) (hD : va_D A (X ++ gt_pl ad K f)) (hS : va_S A H0 H locs) (q0 t0 ci : Nat) {cA : ClassId} {r : vw_C} {n : Nat} {fs : List Value} {g : Nat → Option Nat} (ha : (X ++ gt_pl ad K f)[q0]? = some (a, .inl (cA, n, .inr (.inr (.inr (.inr g)))))) (ht : tys[t0]? = some (cA, .object r.1)) (hkey : key ∈ K) (he : f key = .inr (ci, fs)) (hc : cl[ci]? = some r) {k : Nat} (hk : k < n) (hn : n < 2 ^ 31) (hdg : decode cc pc = .ok (.aastore, 1))
    (kk : ∀ (H1 : Heap) (locs1 : List Loc), va_P D cl ((X ++ gt_pl ad K f).set q0 (a, .inl (cA, n, .inr (.inr (.inr (.inr (va_up g k (some (ad key)))))))) ) H1 → va_D A ((X ++ gt_pl ad K f).set q0 (a, .inl (cA, n, .inr (.inr (.inr (.inr (va_up g k (some (ad key)))))))) ) → va_S A H0 H1 locs1 → W p l e R s m args below meth c H1 locs1 cells slots Q (F0 m (pc + 1) ls rest)) : W p l e R s m args below meth c H locs cells slots Q (F0 m pc ls (.ref (ad key) :: .int (nI k) :: .ref a :: rest)) := by
  obtain ⟨j, hj⟩ := gt_pl_get (X := X) (ad := ad) (f := f) hkey
  refine va_astq hexec hb hK hP hD hS q0 t0 j ci ha ht (by rw [hj, he]) hc (vp_in_nI hk hn) hdg (fun H1 locs1 h1 h2 h3 => ?_)
  rw [nI_clamp (by omega)] at h1 h2
  exact kk H1 locs1 h1 h2 h3
end GB2
section GS2
variable {l : Launch} {y : MethodName} {cc : ByteArray} {maxL mc ms sz : Nat} {rm : Room} {D : va_G} {K : State → Prop} {av : List Value} {w : va_W} {own : String}
abbrev gt_Qk {σ : Type} (D : va_G) (w : va_W) (sz : Nat) (post : σ → Prop) (f : σ → va_W) (tys : σ → List (ClassId × FieldType)) : Array Value → State → Outcome → State → Prop := va_Qv post (fun u t => va_P D gt_cl (f u) t.heap ∧ va_K D gt_cl (tys u) t ∧ va_D (va_A w sz) (f u)) (va_A w sz)
/-- a constructor that makes arrays -/
theorem gt_ctor {σ : Type} {post : σ → Prop} {f : σ → va_W} {tys : σ → List (ClassId × FieldType)} (hy : plainName y.cls = true) (hcls : y.cls = own) (hle : (lg_sl av).length ≤ maxL)
    (body : ∀ (p : Program) (e : Env) (s : State) (m : MethodId) (below : List Frame) (meth : Method) (c : Code) (args : Array Value) (A : Nat → Prop), p.tables.exec = Jvm.exec → c.code = cc → c.maxLocals = maxL → s.vm.findClass own = some m.cls → meth.name = y.name → (∀ w ∈ tb, w.before args s = true) → va_P D gt_cl w s.heap → K s → va_D A w → (∀ q : Nat, s.heap.size ≤ q → A q) → ∀ Q : State → Prop,
      (∀ (H : Heap) (locs : List Loc) (pc : Nat) (ls : Array Slot) (u : σ), decode cc pc = .ok (.return_, 1) → post u → va_P D gt_cl (f u) H → va_K D gt_cl (tys u) s → va_D A (f u) → va_S A s.heap H locs → W p l e rm s m args below meth c H locs mc ms Q (F0 m pc ls [])) → ∀ ls : Array Slot, lv_has ls maxL (lv_args 0 av) → W p l e rm s m args below meth c s.heap [] 0 0 Q (F0 m 0 ls [])) :
    Met l y (.code y cc maxL none :: tb) rm (gt_Pre D K av w sz) (gt_Qk D w sz post f tys) mc ms (va_A w sz) := by
  refine Met.ofW (cc := cc) (maxL := maxL) (ret := none) hy rfl ?_
  intro p e s m args below meth c s₁ B hml hv
  obtain ⟨rfl, hsz, hP, hK, hD0⟩ := hv
  subst hsz
  have hlocks := B.notSynchronized
  rw [lg_entry_eq]
  exact body p e s m below meth c _ (va_A w s.heap.size) B.exec B.bytes hml (by rw [← hcls]; exact findClass_of_methodNamed B.named) (name_of_methodNamed B.named B.method).1 (fun w h => atoms_spec (ws := .code y cc maxL none :: tb) B.pre w (List.mem_cons_of_mem _ h)) hP hK (hD0.self (sz := s.heap.size)) (fun q h => Or.inr h) _ (fun H locs pc ls u hd hp hP1 hK1 hD1 hS => W.vret B.exec B.bytes B.returns (fun t ht hW => ⟨⟨u, rfl, hp, by rw [ht]; exact hP1, va_K.moved hW.alike hK1, hD1⟩, hS.F ht⟩) hS.2.2 hd) _ (lv_entry av hle)
end GS2
/-- the nest mate's constructor, the two classes of arrays -/
def gt_Cx (U : State) : Prop := va_AO "GateTimes$Item" U ∧ va_AO "GateTimes$Gate" U ∧ va_Nw (.methodLinkNest "GateTimes" 48 y_G_init "GateTimes") U
theorem gt_Cx_mv : gt_mv gt_Cx :=
  ⟨fun s U hW h => ⟨h.1.moved hW.alike, h.2.1.moved hW.alike, va_Nw.warmM hW h.2.2⟩,
   fun s U e h => ⟨h.1.moved (by rw [e]; exact Vm.Alike.refl U.vm), h.2.1.moved (by rw [e]; exact Vm.Alike.refl U.vm), va_Nw.same rfl e h.2.2⟩⟩
def gt_CK (D : va_G) : State → Prop := fun U => va_K D gt_cl [] U ∧ gt_Cx U
theorem gt_CK_mv {D : va_G} : gt_mv (gt_CK D) := gt_and_mv gt_K_mv gt_Cx_mv
/-! the start -/
def gt_h13 (k : Nat) : Nat → Int32 := fun g => if g < k then 1000 else 0
def gt_S0 (G : Nat) : gt_SS := (G, fun _ => 0, fun _ => 0, fun _ => 0, fun _ => 0, gt_h13 13)
def gt_d0 : gt_Dy := (fun _ => (0, 0, 0), fun _ => (0, 0, 0, 0, 0))
def gt_G (x : Int32) : Nat := if x < 1 then 1 else if 12 < x then 12 else x.toNatClampNeg
theorem gt_G_in (x : Int32) : 1 ≤ gt_G x ∧ gt_G x ≤ 12 := by
  unfold gt_G
  split
  · omega
  · split
    · omega
    · rename_i h1 h2
      have e1 : (1 : Int32).toInt = 1 := by decide
      have e2 : (12 : Int32).toInt = 12 := by decide
      rw [Int32.lt_iff_toInt_lt] at h1 h2
      have : x.toNatClampNeg = x.toInt.toNat := rfl
      omega
theorem gt_G_self {x : Int32} (h1 : ¬ x < 1) (h2 : ¬ 12 < x) : x = nI (gt_G x) := by
  unfold gt_G
  rw [if_neg h1, if_neg h2]
  have e1 : (1 : Int32).toInt = 1 := by decide
  have e2 : (12 : Int32).toInt = 12 := by decide
  rw [Int32.lt_iff_toInt_lt] at h1 h2
  have : x.toNatClampNeg = x.toInt.toNat := rfl
  refine Int32.toInt_inj.mp ?_
  rw [nI_toInt (by omega)]
  omega
theorem gt_G_lo {x : Int32} (h1 : x < 1) : (1 : Int32) = nI (gt_G x) := by
  unfold gt_G
  rw [if_pos h1]
  decide
theorem gt_G_hi {x : Int32} (h2 : 12 < x) : (12 : Int32) = nI (gt_G x) := by
  have h1 : ¬ x < 1 := by
    have e1 : (1 : Int32).toInt = 1 := by decide
    have e2 : (12 : Int32).toInt = 12 := by decide
    rw [Int32.lt_iff_toInt_lt] at h2 ⊢
    omega
  unfold gt_G
  rw [if_neg h1, if_pos h2]
  decide
theorem gt_G_max (x : Int32) : (if (1 : Int32) < (if (12 : Int32) < x then 12 else x) then (if (12 : Int32) < x then 12 else x) else 1) = nI (gt_G x) := by
  by_cases h : (12 : Int32) < x
  · rw [if_pos h, if_pos (by decide)]
    exact gt_G_hi h
  · rw [if_neg h]
    by_cases h1 : x < 1
    · rw [if_neg (by rw [Int32.lt_iff_toInt_lt] at h1 ⊢; omega)]
      exact gt_G_lo h1
    · by_cases h2 : (1 : Int32) < x
      · rw [if_pos h2]
        exact gt_G_self h1 h
      · rw [if_neg h2]
        have e : x = 1 := Int32.toInt_inj.mp (by rw [Int32.lt_iff_toInt_lt] at h1 h2; omega)
        rw [e]
        decide
theorem gt_pk_g1 (g : Nat) : gt_pk (g + 1) 0 = gt_pk g 0 ++ [g] := by
  unfold gt_pk
  rw [List.range_succ]
  simp
theorem gt_fi_0 (ad : Nat → Nat) : gt_fi 0 ad = fun _ => none := by
  funext i
  unfold gt_fi
  rw [if_neg (by omega)]
theorem gt_fg_0 (ad : Nat → Nat) : gt_fg 0 ad = fun _ => none := by
  funext i
  unfold gt_fg
  rw [if_neg (by omega)]
theorem gt_fg_up {ad : Nat → Nat} {g q : Nat} : va_up (gt_fg g ad) g (some (va_up ad g q g)) = gt_fg (g + 1) (va_up ad g q) := by
  funext i
  unfold gt_fg
  by_cases h : i = g
  · subst h
    rw [va_up_self, if_pos (by omega)]
  · rw [va_up_ne _ _ h, va_up_ne _ _ h]
    by_cases h2 : i < g
    · rw [if_pos h2, if_pos (by omega)]
    · rw [if_neg h2, if_neg (by omega)]
theorem gt_fi_up {ad : Nat → Nat} {n q : Nat} : va_up (gt_fi n ad) (n + 1) (some (va_up ad (100 + (n + 1)) q (100 + (n + 1)))) = gt_fi (n + 1) (va_up ad (100 + (n + 1)) q) := by
  funext i
  unfold gt_fi
  by_cases h : i = n + 1
  · subst h
    rw [va_up_self, if_pos (by omega)]
  · rw [va_up_ne _ _ h, va_up_ne _ _ (show 100 + i ≠ 100 + (n + 1) by omega)]
    by_cases h2 : 1 ≤ i ∧ i ≤ n
    · rw [if_pos h2, if_pos (by omega)]
    · rw [if_neg h2, if_neg (by omega)]
theorem gt_fg_ad {G : Nat} {ad : Nat → Nat} {k q : Nat} (h : G ≤ k) : gt_fg G (va_up ad k q) = gt_fg G ad := by
  funext i
  unfold gt_fg
  by_cases h2 : i < G
  · rw [if_pos h2, if_pos h2, va_up_ne _ _ (by omega)]
  · rw [if_neg h2, if_neg h2]
theorem gt_up_id {α : Type} (f : Nat → α) (k : Nat) : va_up f k (f k) = f := by
  funext j
  unfold va_up
  by_cases h : j = k
  · rw [if_pos h, h]
  · rw [if_neg h]
def gt_f6 {α : Type} (a b c d e f : α) : Nat → α := fun k => match k with
  | 0 => a
  | 1 => b
  | 2 => c
  | 3 => d
  | 4 => e
  | _ => f
/-- a new item: what held holds -/
theorem gt_Inv_add {n : Nat} {S : gt_SS} {lt : Nat → Int32} {d : gt_Dy} {now : Nat} {ol : List Nat} {a b : Int64} {a' b' : Nat} (h : gt_Inv n S lt d now ol) (ho : gt_okI n now S a b a' b') (hn : n < 400) : gt_Inv (n + 1) (gt_Sadd S n a' b') lt (gt_dadd d n) now ol := by
  obtain ⟨hs, hd, hh, hnow, hod, hlt⟩ := h
  obtain ⟨-, -, o1, o2, o3, o4, o5⟩ := ho
  have hne : ∀ j, j ∈ ol → j ≠ n + 1 := fun j hj e => by have := ((hh.2.1 j).mp hj).2.1; omega
  have keep : ∀ j, j ≠ n + 1 → (gt_dadd d n).1 j = d.1 j := fun j hj => va_up_ne _ _ hj
  have new : (gt_dadd d n).1 (n + 1) = (0, -1, (d.1 (n + 1)).2.2) := va_up_self _ _ _
  refine ⟨⟨hs.1, hs.2.1, by omega, fun i i1 i2 => ?_, fun i j i1 ij j2 => ?_⟩, ⟨fun i i1 i2 => ?_, hd.2⟩, ⟨?_, fun i => ?_, fun i i1 i2 ib => ?_, fun i hi => ?_⟩, hnow, fun i i1 i2 => ?_, fun i hi => hlt i (by omega)⟩
  · show va_up S.2.1 (n + 1) a' i ≤ 1000000000 ∧ 1 ≤ va_up S.2.2.1 (n + 1) b' i ∧ va_up S.2.2.1 (n + 1) b' i ≤ 900
    by_cases e : i = n + 1
    · subst e
      rw [va_up_self, va_up_self]
      exact ⟨o2, o3, o4⟩
    · rw [va_up_ne _ _ e, va_up_ne _ _ e]
      exact hs.2.2.2.1 i i1 (by omega)
  · show va_up S.2.1 (n + 1) a' i < va_up S.2.1 (n + 1) a' j
    rw [va_up_ne _ _ (show i ≠ n + 1 by omega)]
    by_cases e : j = n + 1
    · subst e
      rw [va_up_self]
      have h0 : n ≠ 0 := by omega
      have h1 := o5.resolve_left h0
      by_cases e2 : i = n
      · subst e2; omega
      · have := hs.2.2.2.2 i n i1 (by omega) (Nat.le_refl n)
        omega
    · rw [va_up_ne _ _ e]
      exact hs.2.2.2.2 i j i1 ij (by omega)
  · by_cases e : i = n + 1
    · subst e
      rw [new]
      exact ⟨Nat.zero_le _, Or.inl rfl⟩
    · rw [keep i e]
      have := hd.1 i i1 (by omega)
      refine ⟨this.1, this.2.imp id (fun q => ⟨q.1, q.2.trans ?_⟩)⟩
      show gt_fr S.2.1 i _ = gt_fr (va_up S.2.1 (n + 1) a') i _
      unfold gt_fr
      rw [va_up_ne _ _ e]
  · refine hh.1.imp_of_mem (fun {x y} hx hy q => ?_)
    unfold gt_lx at q ⊢
    rw [keep x (hne x hx), keep y (hne y hy)]
    exact q
  · by_cases e : i = n + 1
    · subst e
      rw [new]
      exact ⟨fun q => absurd rfl (hne _ q), fun q => absurd gt_m1_neg q.2.2⟩
    · rw [keep i e, hh.2.1 i]
      exact ⟨fun q => ⟨q.1, by omega, q.2.2⟩, fun q => ⟨q.1, by omega, q.2.2⟩⟩
  · show now < gt_fr (va_up S.2.1 (n + 1) a') i _
    unfold gt_fr
    by_cases e : i = n + 1
    · subst e
      rw [va_up_self]
      omega
    · rw [va_up_ne _ _ e]
      rw [keep i e] at ib ⊢
      exact hh.2.2.1 i i1 (by omega) ib
  · rw [keep i (hne i hi)]
    exact hh.2.2.2 i hi
  · show va_up S.2.2.2.1 (n + 1) (-1) i = -1 ∨ 0 ≤ va_up S.2.2.2.1 (n + 1) (-1) i
    by_cases e : i = n + 1
    · subst e
      rw [va_up_self]
      exact Or.inl rfl
    · rw [va_up_ne _ _ e]
      exact hod i i1 (by omega)
theorem gt_XR_add {n : Nat} {S : gt_SS} {lt : Nat → Int32} {d : gt_Dy} {now : Nat} {ol : List Nat} {F : Nat} {oI oB : Nat → Int32} {oT : Nat → Int64} (h : gt_Inv n S lt d now ol) (hx : gt_XR n d ol F oI oB oT) : gt_XR (n + 1) (gt_dadd d n) ol F oI oB oT := by
  have hne : ∀ j, j ∈ ol → j ≠ n + 1 := fun j hj e => by have := ((h.2.2.1.2.1 j).mp hj).2.1; omega
  have keep : ∀ j, j ≠ n + 1 → (gt_dadd d n).1 j = d.1 j := fun j hj => va_up_ne _ _ hj
  have hF := hx.2.1
  refine ⟨hx.1, by omega, fun j j1 j2 => ?_, fun k hk => ?_⟩
  · rw [keep j (by omega)]
    exact hx.2.2.1 j j1 j2
  · rw [keep _ (hne _ (gt_getD_mem hk))]
    exact hx.2.2.2 k hk
theorem gt_Inv_0 {G : Nat} (h1 : 1 ≤ G) (h2 : G ≤ 12) : gt_Inv 0 (gt_S0 G) (fun _ => 0) gt_d0 0 [] := by
  refine ⟨⟨h1, h2, by omega, fun i i1 i2 => by omega, fun i j i1 ij j2 => by omega⟩, ⟨fun i i1 i2 => by omega, fun g _ => ⟨Or.inl rfl, Or.inl rfl, Nat.zero_le _⟩⟩, ⟨List.Pairwise.nil, fun i => ⟨fun q => absurd q List.not_mem_nil, fun q => by omega⟩, fun i i1 i2 => by omega, fun i q => absurd q List.not_mem_nil⟩, Nat.zero_le _, fun i i1 i2 => by omega, fun i _ => rfl⟩
theorem gt_XR_0 : gt_XR 0 gt_d0 [] 1 (fun _ => 0) (fun _ => 0) (fun _ => 0) :=
  ⟨Nat.le_refl 1, Nat.le_refl 1, fun j j1 j2 => by omega, fun k hk => absurd hk (Nat.not_lt_zero k)⟩
end
section
/-! THE CLASS: item; the constructor. -/
abbrev rm_X_item : Room := { frames := 2, cells := 1, slots := 6, locals := 50 }
set_option maxHeartbeats 4000000 in
set_option maxRecDepth 100000 in
/-- item(at, length) -/
theorem c_X_item (l : Launch) (D : va_G) (sz : Nat) (xa : Nat → Nat) (xc : Nat → ClassId) (ad : Nat → Nat) (S : gt_SS) (lt : Nat → Int32) (d : gt_Dy) (n F now : Nat) (ol : List Nat) (told : Int32) (oI oB : Nat → Int32) (oT : Nat → Int64) (a b : Int64) (hinv : gt_Inv n S lt d now ol) (hxr : gt_XR n d ol F oI oB oT) : Met l y_X_item w_X_item rm_X_item (gt_Pre D (gt_XK D xc) [.ref (xa 0), .long a, .long b] (gt_XW xa xc ad S lt d n F now ol.length told ((d.2 S.1).2.2.2.2) oI oB oT) sz) (gt_Qi D (gt_XW xa xc ad S lt d n F now ol.length told ((d.2 S.1).2.2.2.2) oI oB oT) sz (fun (r : Int32) (u : Nat × gt_SS × gt_Dy × (Nat → Nat)) => gt_RItem n now S d a b r u.1 u.2.1 u.2.2.1 ∧ gt_Inv u.1 u.2.1 lt u.2.2.1 now ol ∧ gt_XR u.1 u.2.2.1 ol F oI oB oT) (fun u : Nat × gt_SS × gt_Dy × (Nat → Nat) => gt_XW xa xc u.2.2.2 u.2.1 lt u.2.2.1 u.1 F now ol.length told (u.2.2.1.2 u.2.1.1).2.2.2.2 oI oB oT)) 1 6 (va_A (gt_XW xa xc ad S lt d n F now ol.length told ((d.2 S.1).2.2.2.2) oI oB oT) sz) := by
  refine gt_mut_i (own := R_X) (by decide) rfl (Nat.le_of_ble_eq_true rfl) ?_
  intro p e s m below meth c args A hx hb hml hown hts hP hK0 hD hA Q hret ls hl
  have hS : va_S A s.heap s.heap [] := va_S.rf
  have hl : lv_has ls 5 [(0, .ref (xa 0)), (1, .long a), (3, .long b)] := hl
  have hK : va_K D gt_cl (gt_Xt xc) s := hK0.1
  have hN := hK0.2
  have hn : n ≤ 400 := hinv.1.2.2.1
  have hG : S.1 ≤ 12 := hinv.1.2.1
  have hlen := gt_Inv_len hinv
  have hnow : now ≤ 1000000000 := hinv.2.2.2.1
  refine lv_lload_n hx hb d_X_item_0 rfl (lv_at hl 2 rfl) ?_
  refine lv_lconst (v := lN 1) hx hb d_X_item_1 rfl ?_
  refine lv_ldc2 (v := lN 900) hx hb hown (hts _ kw_98) d_X_item_2 ?_
  refine vp_callSi (va_runS (As := [.long b, .long (lN 1), .long (lN 900)]) (rest := []) ⟨hx, hb, hml, hown, hts⟩ (c_X_outside l D b (lN 1) (lN 900)) (cwS 3 hts (tb_inS kw_99 kw_100 kw_1 kw_101) rfl rfl rfl (by decide +kernel) ⟨Nat.le_of_ble_eq_true rfl, Nat.le_of_ble_eq_true rfl⟩) (gt_PreP_S gt_T_mv gt_P0 trivial) rfl rfl hl.1 rfl (lv_room (Nat.le_of_ble_eq_true rfl)) d_X_item_5 ⟨Nat.zero_le _, Nat.zero_le _⟩).run (fun r1 h1 => ?_)
  refine lv_if_ne (tgt := 25) hx hb d_X_item_8 (by decide) (fun c1 => ?_) (fun c1 => ?_)
  · refine lv_bipush (v := (-102)) hx hb d_X_item_25 (by decide) ?_
    refine W.widen (k := 1) (n := 6) (by decide) (by decide) ?_
    exact hret _ _ _ _ _ (n, S, d, ad) d_X_item_27 ⟨Or.inr (Or.inr ⟨fun ⟨a9, b9, o9⟩ => (gt_num_time (by omega) (by omega)).mpr ⟨b9, o9.2.2.2.2.1, o9.2.2.2.2.2.1, o9.2.1⟩ (h1.yes c1), rfl, rfl, rfl, rfl⟩), hinv, hxr⟩ hP hD hS
  · refine lv_lload_n hx hb d_X_item_11 rfl (lv_at hl 1 rfl) ?_
    refine lv_aload_n hx hb d_X_item_12 rfl (lv_at hl 0 rfl) ?_
    refine va_get (D := D) (ci := 0) (v := .long (lN now)) (C := R_X) (T := F_X) (N := 12) hx hb hts i_X hown hK hP 0 rfl rfl 5 (by decide) (hts _ kw_62) (fun _ h9 => h9) rfl d_X_item_13 ?_
    refine lv_ldc2 (v := lN 1000000000) hx hb hown (hts _ kw_102) d_X_item_16 ?_
    refine vp_callSi (va_runS (As := [.long a, .long (lN now), .long (lN 1000000000)]) (rest := []) ⟨hx, hb, hml, hown, hts⟩ (c_X_outside l D a (lN now) (lN 1000000000)) (cwS 3 hts (tb_inS kw_99 kw_100 kw_1 kw_101) rfl rfl rfl (by decide +kernel) ⟨Nat.le_of_ble_eq_true rfl, Nat.le_of_ble_eq_true rfl⟩) (gt_PreP_S gt_T_mv gt_P0 trivial) rfl rfl hl.1 rfl (lv_room (Nat.le_of_ble_eq_true rfl)) d_X_item_19 ⟨Nat.zero_le _, Nat.zero_le _⟩).run (fun r2 h2 => ?_)
    refine lv_if_eq (tgt := 28) hx hb d_X_item_22 (by decide) (fun c2 => ?_) (fun c2 => ?_)
    · obtain ⟨b1, b2, b3, rfl⟩ := (gt_num_time (by omega) (by omega)).mp (h1.no c1)
      obtain ⟨a1, a2, a3, rfl⟩ := (gt_num_time (by omega) (by omega)).mp (h2.no c2)
      have J : (n = 0 ∨ S.2.1 n + S.2.2.1 n + 50 ≤ a1) → W p l e rm_X_item s m args below meth c s.heap [] 0 0 Q (F0 m 72 ls []) := by
        intro hnear
        have hok : gt_okI n now S (lN a1) (lN b1) a1 b1 := ⟨rfl, rfl, a2, a3, b2, b3, hnear⟩
        refine lv_aload_n hx hb d_X_item_72 rfl (lv_at hl 0 rfl) ?_
        refine va_get (D := D) (ci := 0) (v := .int (nI n)) (C := R_X) (T := F_X) (N := 12) hx hb hts i_X hown hK hP 0 rfl rfl 3 (by decide) (hts _ kw_60) (fun _ h9 => h9) rfl d_X_item_73 ?_
        refine lv_sipush (v := 400) hx hb d_X_item_76 (by decide) ?_
        refine lv_icmp_ne (tgt := 85) hx hb d_X_item_79 (by decide) (fun c5 => ?_) (fun c5 => ?_)
        · have hn4 : n < 400 := by
            rcases Nat.lt_or_ge n 400 with e | e
            · exact e
            · exact absurd (show nI n = 400 by rw [show n = 400 by omega]; decide) c5
          have hP : va_P D gt_cl ([(xa 0, .inr (0, [.int (nI S.1), .ref (xa 1), .ref (xa 2), .int (nI n), .int (nI F), .long (lN now), .ref (xa 3), .ref (xa 4), .ref (xa 5), .int (nI ol.length), .int told, .int ((d.2 S.1).2.2.2.2)])), (xa 1, .inl (xc 1, S.1, .inr (.inr (.inr (.inr (gt_fg S.1 ad)))))), (xa 2, .inl (xc 2, 401, .inr (.inr (.inr (.inr (gt_fi n ad)))))), (xa 3, .inl (xc 3, 400, .inl oI)), (xa 4, .inl (xc 4, 400, .inl oB)), (xa 5, .inl (xc 5, 400, .inr (.inl oT)))] ++ gt_pl ad (gt_pk S.1 n) (gt_pf S lt d)) s.heap := hP
          have hD : va_D A ([(xa 0, .inr (0, [.int (nI S.1), .ref (xa 1), .ref (xa 2), .int (nI n), .int (nI F), .long (lN now), .ref (xa 3), .ref (xa 4), .ref (xa 5), .int (nI ol.length), .int told, .int ((d.2 S.1).2.2.2.2)])), (xa 1, .inl (xc 1, S.1, .inr (.inr (.inr (.inr (gt_fg S.1 ad)))))), (xa 2, .inl (xc 2, 401, .inr (.inr (.inr (.inr (gt_fi n ad)))))), (xa 3, .inl (xc 3, 400, .inl oI)), (xa 4, .inl (xc 4, 400, .inl oB)), (xa 5, .inl (xc 5, 400, .inr (.inl oT)))] ++ gt_pl ad (gt_pk S.1 n) (gt_pf S lt d)) := hD
          refine lv_aload_n hx hb d_X_item_85 rfl (lv_at hl 0 rfl) ?_
          refine lv_dup hx hb d_X_item_86 rfl ?_
          refine va_get (D := D) (ci := 0) (v := .int (nI n)) (C := R_X) (T := F_X) (N := 12) hx hb hts i_X hown hK hP 0 rfl rfl 3 (by decide) (hts _ kw_60) (fun _ h9 => h9) rfl d_X_item_87 ?_
          refine lv_iconst (v := 1) hx hb d_X_item_90 (by decide) ?_
          refine lv_iadd hx hb d_X_item_91 ?_
          rw [nI_1]
          refine va_put (D := D) (ci := 0) (v := .int (nI (n + 1))) (ty := .int) (C := R_X) (T := F_X) (N := 12) hx hb hts i_X t_X t_X_ok n_X hown hK hP hD hS 0 rfl rfl 3 (by decide) (hts _ kw_60) (fun _ h9 => h9) rfl (by decide +kernel) rfl rfl (Nat.le_of_ble_eq_true rfl) d_X_item_92 (fun H locs hP hD hS => ?_)
          have hP : va_P D gt_cl ([(xa 0, .inr (0, [.int (nI S.1), .ref (xa 1), .ref (xa 2), .int (nI (n + 1)), .int (nI F), .long (lN now), .ref (xa 3), .ref (xa 4), .ref (xa 5), .int (nI ol.length), .int told, .int ((d.2 S.1).2.2.2.2)])), (xa 1, .inl (xc 1, S.1, .inr (.inr (.inr (.inr (gt_fg S.1 ad)))))), (xa 2, .inl (xc 2, 401, .inr (.inr (.inr (.inr (gt_fi n ad)))))), (xa 3, .inl (xc 3, 400, .inl oI)), (xa 4, .inl (xc 4, 400, .inl oB)), (xa 5, .inl (xc 5, 400, .inr (.inl oT)))] ++ gt_pl ad (gt_pk S.1 n) (gt_pf S lt d)) H := hP
          have hD : va_D A ([(xa 0, .inr (0, [.int (nI S.1), .ref (xa 1), .ref (xa 2), .int (nI (n + 1)), .int (nI F), .long (lN now), .ref (xa 3), .ref (xa 4), .ref (xa 5), .int (nI ol.length), .int told, .int ((d.2 S.1).2.2.2.2)])), (xa 1, .inl (xc 1, S.1, .inr (.inr (.inr (.inr (gt_fg S.1 ad)))))), (xa 2, .inl (xc 2, 401, .inr (.inr (.inr (.inr (gt_fi n ad)))))), (xa 3, .inl (xc 3, 400, .inl oI)), (xa 4, .inl (xc 4, 400, .inl oB)), (xa 5, .inl (xc 5, 400, .inr (.inl oT)))] ++ gt_pl ad (gt_pk S.1 n) (gt_pf S lt d)) := hD
          refine lv_aload_n hx hb d_X_item_95 rfl (lv_at hl 0 rfl) ?_
          refine va_get (D := D) (ci := 0) (v := .ref (xa 2)) (C := R_X) (T := F_X) (N := 12) hx hb hts i_X hown hK hP 0 rfl rfl 2 (by decide) (hts _ kw_59) (fun _ h9 => h9) rfl d_X_item_96 ?_
          refine lv_aload_n hx hb d_X_item_99 rfl (lv_at hl 0 rfl) ?_
          refine va_get (D := D) (ci := 0) (v := .int (nI (n + 1))) (C := R_X) (T := F_X) (N := 12) hx hb hts i_X hown hK hP 0 rfl rfl 3 (by decide) (hts _ kw_60) (fun _ h9 => h9) rfl d_X_item_100 ?_
          refine va_new (ci := 2) (fs := [.long 0, .long 0, .int 0, .int 0, .int 0, .int 0]) (C := R_I) (T := F_I) (N := 6) hx hb hts i_I t_I t_I_ok hown (hts _ kw_14) (hts _ kw_104) (hts _ kw_5) hK hP hD hS hA rfl (fun j hj => by rcases (show j = 0 ∨ j = 1 ∨ j = 2 ∨ j = 3 ∨ j = 4 ∨ j = 5 by omega) with rfl | rfl | rfl | rfl | rfl | rfl <;> rfl) (by decide) (by decide) d_X_item_103 (fun q H hP hD hS => ?_)
          have hkn : 100 + (n + 1) ∉ gt_pk S.1 n := fun h => by have := gt_pk_n (by omega) h; omega
          have hP : va_P D gt_cl (([(xa 0, .inr (0, [.int (nI S.1), .ref (xa 1), .ref (xa 2), .int (nI (n + 1)), .int (nI F), .long (lN now), .ref (xa 3), .ref (xa 4), .ref (xa 5), .int (nI ol.length), .int told, .int ((d.2 S.1).2.2.2.2)])), (xa 1, .inl (xc 1, S.1, .inr (.inr (.inr (.inr (gt_fg S.1 ad)))))), (xa 2, .inl (xc 2, 401, .inr (.inr (.inr (.inr (gt_fi n ad)))))), (xa 3, .inl (xc 3, 400, .inl oI)), (xa 4, .inl (xc 4, 400, .inl oB)), (xa 5, .inl (xc 5, 400, .inr (.inl oT)))] ++ gt_pl ad (gt_pk S.1 n) (gt_pf S lt d)) ++ [(q, .inr (2, [.long 0, .long 0, .int 0, .int 0, .int 0, .int 0]))]) H := hP
          have hD : va_D A (([(xa 0, .inr (0, [.int (nI S.1), .ref (xa 1), .ref (xa 2), .int (nI (n + 1)), .int (nI F), .long (lN now), .ref (xa 3), .ref (xa 4), .ref (xa 5), .int (nI ol.length), .int told, .int ((d.2 S.1).2.2.2.2)])), (xa 1, .inl (xc 1, S.1, .inr (.inr (.inr (.inr (gt_fg S.1 ad)))))), (xa 2, .inl (xc 2, 401, .inr (.inr (.inr (.inr (gt_fi n ad)))))), (xa 3, .inl (xc 3, 400, .inl oI)), (xa 4, .inl (xc 4, 400, .inl oB)), (xa 5, .inl (xc 5, 400, .inr (.inl oT)))] ++ gt_pl ad (gt_pk S.1 n) (gt_pf S lt d)) ++ [(q, .inr (2, [.long 0, .long 0, .int 0, .int 0, .int 0, .int 0]))]) := hD
          rw [List.append_assoc, gt_pl_push hkn] at hP hD
          obtain ⟨ad1, had1⟩ : ∃ ad1, ad1 = va_up ad (100 + (n + 1)) q := ⟨_, rfl⟩
          have hq1 : ad1 (100 + (n + 1)) = q := by rw [had1, va_up_self]
          rw [← had1] at hP hD
          rw [← hq1]
          have hmem : 100 + (n + 1) ∈ gt_pk S.1 n ++ [100 + (n + 1)] := List.mem_append_right _ (List.mem_singleton.mpr rfl)
          refine lv_dup hx hb d_X_item_106 rfl ?_
          refine lv_lload_n hx hb d_X_item_107 rfl (lv_at hl 1 rfl) ?_
          refine lv_lload_n hx hb d_X_item_108 rfl (lv_at hl 2 rfl) ?_
          have hFc := gt_pl_free (X := [(xa 0, .inr (0, [.int (nI S.1), .ref (xa 1), .ref (xa 2), .int (nI (n + 1)), .int (nI F), .long (lN now), .ref (xa 3), .ref (xa 4), .ref (xa 5), .int (nI ol.length), .int told, .int ((d.2 S.1).2.2.2.2)])), (xa 1, .inl (xc 1, S.1, .inr (.inr (.inr (.inr (gt_fg S.1 ad)))))), (xa 2, .inl (xc 2, 401, .inr (.inr (.inr (.inr (gt_fi n ad)))))), (xa 3, .inl (xc 3, 400, .inl oI)), (xa 4, .inl (xc 4, 400, .inl oB)), (xa 5, .inl (xc 5, 400, .inr (.inl oT)))]) (ad := ad1) (K := gt_pk S.1 n ++ [100 + (n + 1)]) (f := va_up (gt_pf S lt d) (100 + (n + 1)) (.inr (2, [.long 0, .long 0, .int 0, .int 0, .int 0, .int 0]))) (k := 100 + (n + 1)) (e := .inr (2, [.long 0, .long 0, .int 0, .int 0, .int 0, .int 0])) hD hS hA hmem
          refine va_callv (va_runI (As := [.long (lN a1), .long (lN b1)]) (rest := [.ref (ad1 (100 + (n + 1))), .int (nI (n + 1)), .ref (xa 2)]) ⟨hx, hb, hml, hown, hts⟩ (c_I_init l D H.size (ad1 (100 + (n + 1))) (lN a1) (lN b1)) (cwI 2 hts (tb_in kw_107) rfl rfl rfl (hts _ kw_5) (hts _ kw_105) (hts _ kw_106) rfl (by decide +kernel) ⟨Nat.le_of_ble_eq_true rfl, Nat.le_of_ble_eq_true rfl⟩) (gt_Pre_S gt_K_mv (gt_pl_one (X := [(xa 0, .inr (0, [.int (nI S.1), .ref (xa 1), .ref (xa 2), .int (nI (n + 1)), .int (nI F), .long (lN now), .ref (xa 3), .ref (xa 4), .ref (xa 5), .int (nI ol.length), .int told, .int ((d.2 S.1).2.2.2.2)])), (xa 1, .inl (xc 1, S.1, .inr (.inr (.inr (.inr (gt_fg S.1 ad)))))), (xa 2, .inl (xc 2, 401, .inr (.inr (.inr (.inr (gt_fi n ad)))))), (xa 3, .inl (xc 3, 400, .inl oI)), (xa 4, .inl (xc 4, 400, .inl oB)), (xa 5, .inl (xc 5, 400, .inr (.inl oT)))]) (ad := ad1) (K := gt_pk S.1 n ++ [100 + (n + 1)]) (f := va_up (gt_pf S lt d) (100 + (n + 1)) (.inr (2, [.long 0, .long 0, .int 0, .int 0, .int 0, .int 0]))) (k := 100 + (n + 1)) hP hmem (va_up_self _ _ _)) (hK.sub [] rfl) (gt_D1 (A := fun _ => True) trivial)) rfl rfl hl.1 rfl (lv_room (Nat.le_of_ble_eq_true rfl)) d_X_item_109 ⟨Nat.le_of_ble_eq_true rfl, Nat.le_of_ble_eq_true rfl⟩) hS (fun q _ h => hFc q h) hFc (fun u t9 H1 locs ht9 hvm9 hw hB hz1 hk1 hS => ?_)
          obtain ⟨hP1, hD1⟩ := hB
          rw [ht9] at hP1
          obtain ⟨hP, hD⟩ := gt_join1 (X := [(xa 0, .inr (0, [.int (nI S.1), .ref (xa 1), .ref (xa 2), .int (nI (n + 1)), .int (nI F), .long (lN now), .ref (xa 3), .ref (xa 4), .ref (xa 5), .int (nI ol.length), .int told, .int ((d.2 S.1).2.2.2.2)])), (xa 1, .inl (xc 1, S.1, .inr (.inr (.inr (.inr (gt_fg S.1 ad)))))), (xa 2, .inl (xc 2, 401, .inr (.inr (.inr (.inr (gt_fi n ad)))))), (xa 3, .inl (xc 3, 400, .inl oI)), (xa 4, .inl (xc 4, 400, .inl oB)), (xa 5, .inl (xc 5, 400, .inr (.inl oT)))]) (ad := ad1) (K := gt_pk S.1 n ++ [100 + (n + 1)]) (f := va_up (gt_pf S lt d) (100 + (n + 1)) (.inr (2, [.long 0, .long 0, .int 0, .int 0, .int 0, .int 0]))) (k := 100 + (n + 1)) hP hD hmem hk1 hP1
          rw [bx_uu] at hP hD
          have e1 : va_up (gt_pf S lt d) (100 + (n + 1)) (.inr (2, [.long (lN a1), .long (lN b1), .int (-1), .int 0, .int 0, .int 0])) = gt_pf (gt_Sadd S n a1 b1) lt (gt_dadd d n) := gt_pf_seti (by
            unfold gt_iC gt_Sadd gt_dadd
            simp only [va_up_self]
            rw [hinv.2.2.2.2.2 (n + 1) (Nat.lt_succ_self n)]
            rfl) (fun j hj => by unfold gt_iC gt_Sadd gt_dadd; simp only [va_up_ne _ _ hj]) (fun k => rfl)
          rw [e1, ← gt_pk_snoc] at hP hD
          have hP : va_P D gt_cl ([(xa 0, .inr (0, [.int (nI S.1), .ref (xa 1), .ref (xa 2), .int (nI (n + 1)), .int (nI F), .long (lN now), .ref (xa 3), .ref (xa 4), .ref (xa 5), .int (nI ol.length), .int told, .int ((d.2 S.1).2.2.2.2)])), (xa 1, .inl (xc 1, S.1, .inr (.inr (.inr (.inr (gt_fg S.1 ad)))))), (xa 2, .inl (xc 2, 401, .inr (.inr (.inr (.inr (gt_fi n ad)))))), (xa 3, .inl (xc 3, 400, .inl oI)), (xa 4, .inl (xc 4, 400, .inl oB)), (xa 5, .inl (xc 5, 400, .inr (.inl oT)))] ++ gt_pl ad1 (gt_pk S.1 (n + 1)) (gt_pf (gt_Sadd S n a1 b1) lt (gt_dadd d n))) H1 := hP
          have hD : va_D A ([(xa 0, .inr (0, [.int (nI S.1), .ref (xa 1), .ref (xa 2), .int (nI (n + 1)), .int (nI F), .long (lN now), .ref (xa 3), .ref (xa 4), .ref (xa 5), .int (nI ol.length), .int told, .int ((d.2 S.1).2.2.2.2)])), (xa 1, .inl (xc 1, S.1, .inr (.inr (.inr (.inr (gt_fg S.1 ad)))))), (xa 2, .inl (xc 2, 401, .inr (.inr (.inr (.inr (gt_fi n ad)))))), (xa 3, .inl (xc 3, 400, .inl oI)), (xa 4, .inl (xc 4, 400, .inl oB)), (xa 5, .inl (xc 5, 400, .inr (.inl oT)))] ++ gt_pl ad1 (gt_pk S.1 (n + 1)) (gt_pf (gt_Sadd S n a1 b1) lt (gt_dadd d n))) := hD
          refine gt_qast (X := [(xa 0, .inr (0, [.int (nI S.1), .ref (xa 1), .ref (xa 2), .int (nI (n + 1)), .int (nI F), .long (lN now), .ref (xa 3), .ref (xa 4), .ref (xa 5), .int (nI ol.length), .int told, .int ((d.2 S.1).2.2.2.2)])), (xa 1, .inl (xc 1, S.1, .inr (.inr (.inr (.inr (gt_fg S.1 ad)))))), (xa 2, .inl (xc 2, 401, .inr (.inr (.inr (.inr (gt_fi n ad)))))), (xa 3, .inl (xc 3, 400, .inl oI)), (xa 4, .inl (xc 4, 400, .inl oB)), (xa 5, .inl (xc 5, 400, .inr (.inl oT)))]) (ad := ad1) (K := gt_pk S.1 (n + 1)) (f := gt_pf (gt_Sadd S n a1 b1) lt (gt_dadd d n)) (key := 100 + (n + 1)) (k := n + 1) hx hb hK hP hD hS 2 1 2 (r := (R_I, F_I, 6)) rfl rfl (gt_pk_i (by omega) (by omega)) (gt_pf_i (gt_Sadd S n a1 b1) lt (gt_dadd d n) (n + 1)) rfl (by omega) (by decide) d_X_item_112 (fun H locs hP hD hS => ?_)
          have hP : va_P D gt_cl ([(xa 0, .inr (0, [.int (nI S.1), .ref (xa 1), .ref (xa 2), .int (nI (n + 1)), .int (nI F), .long (lN now), .ref (xa 3), .ref (xa 4), .ref (xa 5), .int (nI ol.length), .int told, .int ((d.2 S.1).2.2.2.2)])), (xa 1, .inl (xc 1, S.1, .inr (.inr (.inr (.inr (gt_fg S.1 ad)))))), (xa 2, .inl (xc 2, 401, .inr (.inr (.inr (.inr (va_up (gt_fi n ad) (n + 1) (some (ad1 (100 + (n + 1)))))))))), (xa 3, .inl (xc 3, 400, .inl oI)), (xa 4, .inl (xc 4, 400, .inl oB)), (xa 5, .inl (xc 5, 400, .inr (.inl oT)))] ++ gt_pl ad1 (gt_pk S.1 (n + 1)) (gt_pf (gt_Sadd S n a1 b1) lt (gt_dadd d n))) H := hP
          have hD : va_D A ([(xa 0, .inr (0, [.int (nI S.1), .ref (xa 1), .ref (xa 2), .int (nI (n + 1)), .int (nI F), .long (lN now), .ref (xa 3), .ref (xa 4), .ref (xa 5), .int (nI ol.length), .int told, .int ((d.2 S.1).2.2.2.2)])), (xa 1, .inl (xc 1, S.1, .inr (.inr (.inr (.inr (gt_fg S.1 ad)))))), (xa 2, .inl (xc 2, 401, .inr (.inr (.inr (.inr (va_up (gt_fi n ad) (n + 1) (some (ad1 (100 + (n + 1)))))))))), (xa 3, .inl (xc 3, 400, .inl oI)), (xa 4, .inl (xc 4, 400, .inl oB)), (xa 5, .inl (xc 5, 400, .inr (.inl oT)))] ++ gt_pl ad1 (gt_pk S.1 (n + 1)) (gt_pf (gt_Sadd S n a1 b1) lt (gt_dadd d n))) := hD
          have e2 : va_up (gt_fi n ad) (n + 1) (some (ad1 (100 + (n + 1)))) = gt_fi (n + 1) ad1 := by rw [had1]; exact gt_fi_up
          have e3 : gt_fg S.1 ad = gt_fg S.1 ad1 := by rw [had1]; exact (gt_fg_ad (by omega)).symm
          rw [e2, e3] at hP hD
          refine lv_aload_n hx hb d_X_item_113 rfl (lv_at hl 0 rfl) ?_
          refine va_get (D := D) (ci := 0) (v := .int (nI (n + 1))) (C := R_X) (T := F_X) (N := 12) hx hb hts i_X hown hK hP 0 rfl rfl 3 (by decide) (hts _ kw_60) (fun _ h9 => h9) rfl d_X_item_114 ?_
          exact hret _ _ _ _ _ (n + 1, gt_Sadd S n a1 b1, gt_dadd d n, ad1) d_X_item_117 ⟨Or.inl ⟨a1, b1, hok, hn4, rfl, rfl, rfl, rfl⟩, gt_Inv_add hinv hok hn4, gt_XR_add hinv hxr⟩ hP hD hS
        · refine lv_bipush (v := (-104)) hx hb d_X_item_82 (by decide) ?_
          have hn4 : n = 400 := gt_nI_inj2 (b := 400) (by omega) (by omega) c5
          refine W.widen (k := 1) (n := 6) (by decide) (by decide) ?_
          exact hret _ _ _ _ _ (n, S, d, ad) d_X_item_84 ⟨Or.inr (Or.inl ⟨a1, b1, hok, hn4, rfl, rfl, rfl, rfl⟩), hinv, hxr⟩ hP hD hS
      refine lv_aload_n hx hb d_X_item_28 rfl (lv_at hl 0 rfl) ?_
      refine va_get (D := D) (ci := 0) (v := .int (nI n)) (C := R_X) (T := F_X) (N := 12) hx hb hts i_X hown hK hP 0 rfl rfl 3 (by decide) (hts _ kw_60) (fun _ h9 => h9) rfl d_X_item_29 ?_
      refine lv_if_le (tgt := 72) hx hb d_X_item_32 (by decide) (fun c3 => ?_) (fun c3 => ?_)
      · exact J (Or.inl (by
          rcases Nat.eq_zero_or_pos n with e | e
          · exact e
          · exact absurd c3 (nI_nle e (by omega))))
      · have hn1 : 1 ≤ n := by
          rcases Nat.eq_zero_or_pos n with e | e
          · exact absurd (show nI n ≤ 0 by rw [e]; decide) c3
          · exact e
        have hab := hinv.1.2.2.2.1 n hn1 (Nat.le_refl n)
        refine lv_lload_n hx hb d_X_item_35 rfl (lv_at hl 1 rfl) ?_
        refine lv_aload_n hx hb d_X_item_36 rfl (lv_at hl 0 rfl) ?_
        refine va_get (D := D) (ci := 0) (v := .ref (xa 2)) (C := R_X) (T := F_X) (N := 12) hx hb hts i_X hown hK hP 0 rfl rfl 2 (by decide) (hts _ kw_59) (fun _ h9 => h9) rfl d_X_item_37 ?_
        refine lv_aload_n hx hb d_X_item_40 rfl (lv_at hl 0 rfl) ?_
        refine va_get (D := D) (ci := 0) (v := .int (nI n)) (C := R_X) (T := F_X) (N := 12) hx hb hts i_X hown hK hP 0 rfl rfl 3 (by decide) (hts _ kw_60) (fun _ h9 => h9) rfl d_X_item_41 ?_
        refine gt_qald (k := n) (b := ad (100 + n)) (C := "GateTimes$Item") hx hb hK hP 2 1 rfl rfl (by omega) (by decide) (gt_fi_at (by omega) (by omega)) d_X_item_44 ?_
        refine gt_getP (X := gt_XH xa xc ad S n F now ol.length told ((d.2 S.1).2.2.2.2) oI oB oT) (ad := ad) (K := gt_pk S.1 n) (f := gt_pf S lt d) (key := 100 + n) (D := D) (ci := 2) (v := .long (lN (S.2.1 n))) (C := R_I) (T := F_I) (N := 6) hx hb hts i_I hown hK hP (gt_pk_i (by omega) (by omega)) (gt_pf_i S lt d n) rfl 0 (by decide) (va_Nw.use rfl (hN (.fieldLinkNest "GateTimes" 64 "GateTimes$Item" "at" "J" "GateTimes") (by decide +kernel))) (fun _ h9 => h9) rfl d_X_item_45 ?_
        refine lv_aload_n hx hb d_X_item_48 rfl (lv_at hl 0 rfl) ?_
        refine va_get (D := D) (ci := 0) (v := .ref (xa 2)) (C := R_X) (T := F_X) (N := 12) hx hb hts i_X hown hK hP 0 rfl rfl 2 (by decide) (hts _ kw_59) (fun _ h9 => h9) rfl d_X_item_49 ?_
        refine lv_aload_n hx hb d_X_item_52 rfl (lv_at hl 0 rfl) ?_
        refine va_get (D := D) (ci := 0) (v := .int (nI n)) (C := R_X) (T := F_X) (N := 12) hx hb hts i_X hown hK hP 0 rfl rfl 3 (by decide) (hts _ kw_60) (fun _ h9 => h9) rfl d_X_item_53 ?_
        refine gt_qald (k := n) (b := ad (100 + n)) (C := "GateTimes$Item") hx hb hK hP 2 1 rfl rfl (by omega) (by decide) (gt_fi_at (by omega) (by omega)) d_X_item_56 ?_
        refine gt_getP (X := gt_XH xa xc ad S n F now ol.length told ((d.2 S.1).2.2.2.2) oI oB oT) (ad := ad) (K := gt_pk S.1 n) (f := gt_pf S lt d) (key := 100 + n) (D := D) (ci := 2) (v := .long (lN (S.2.2.1 n))) (C := R_I) (T := F_I) (N := 6) hx hb hts i_I hown hK hP (gt_pk_i (by omega) (by omega)) (gt_pf_i S lt d n) rfl 1 (by decide) (va_Nw.use rfl (hN (.fieldLinkNest "GateTimes" 67 "GateTimes$Item" "length" "J" "GateTimes") (by decide +kernel))) (fun _ h9 => h9) rfl d_X_item_57 ?_
        refine lv_ladd hx hb d_X_item_60 ?_
        refine lv_ldc2 (v := lN 50) hx hb hown (hts _ kw_103) d_X_item_61 ?_
        refine lv_ladd hx hb d_X_item_64 ?_
        rw [lN_add, lN_add]
        refine W.lcmp hx hb d_X_item_65 ?_
        refine lv_if_ge (tgt := 72) hx hb d_X_item_66 (by decide) (fun c4 => ?_) (fun c4 => ?_)
        · have c4 := (lg_cmp_ge _ _).mp c4
          rw [pk_lLE (by omega) (by omega)] at c4
          exact J (Or.inr c4)
        · have c4 : ¬ _ := fun q => c4 ((lg_cmp_ge _ _).mpr q)
          rw [pk_lLE (by omega) (by omega)] at c4
          refine lv_bipush (v := (-102)) hx hb d_X_item_69 (by decide) ?_
          refine W.widen (k := 1) (n := 6) (by decide) (by decide) ?_
          exact hret _ _ _ _ _ (n, S, d, ad) d_X_item_71 ⟨Or.inr (Or.inr ⟨fun ⟨a9, b9, o9⟩ => by
            have e9 := gt_lN_inj o9.2.2.2.1 a3 o9.1.symm
            have := o9.2.2.2.2.2.2
            omega, rfl, rfl, rfl, rfl⟩), hinv, hxr⟩ hP hD hS
    · refine lv_bipush (v := (-102)) hx hb d_X_item_25 (by decide) ?_
      refine W.widen (k := 1) (n := 6) (by decide) (by decide) ?_
      exact hret _ _ _ _ _ (n, S, d, ad) d_X_item_27 ⟨Or.inr (Or.inr ⟨fun ⟨a9, b9, o9⟩ => (gt_num_time (by omega) (by omega)).mpr ⟨a9, o9.2.2.1, o9.2.2.2.1, o9.1⟩ (h2.yes c2), rfl, rfl, rfl, rfl⟩), hinv, hxr⟩ hP hD hS
end
section
/-! THE CLASS: the constructor. -/
abbrev rm_X_init : Room := { frames := 2, cells := 17, slots := 1697, locals := 32 }
set_option maxHeartbeats 4000000 in
set_option maxRecDepth 100000 in
/-- GateTimes(gates) -/
theorem c_X_init (l : Launch) (D : va_G) (sz h0 : Nat) (x : Int32) : Met l y_X_init w_X_init rm_X_init (gt_Pre D (gt_CK D) [.ref h0, .int x] ([(h0, .inr (0, [.int 0, .null, .null, .int 0, .int 0, .long 0, .null, .null, .null, .int 0, .int 0, .int 0]))]) sz) (gt_Qk D ([(h0, .inr (0, [.int 0, .null, .null, .int 0, .int 0, .long 0, .null, .null, .null, .int 0, .int 0, .int 0]))]) sz (fun u : (Nat → Nat) × (Nat → ClassId) × (Nat → Nat) => u.1 0 = h0) (fun u : (Nat → Nat) × (Nat → ClassId) × (Nat → Nat) => gt_XW u.1 u.2.1 u.2.2 (gt_S0 (gt_G x)) (fun _ => 0) gt_d0 0 1 0 0 0 0 (fun _ => 0) (fun _ => 0) (fun _ => 0)) (fun u : (Nat → Nat) × (Nat → ClassId) × (Nat → Nat) => gt_Xt u.2.1)) 17 1697 (va_A ([(h0, .inr (0, [.int 0, .null, .null, .int 0, .int 0, .long 0, .null, .null, .null, .int 0, .int 0, .int 0]))]) sz) := by
  refine gt_ctor (own := R_X) (by decide) rfl (Nat.le_of_ble_eq_true rfl) ?_
  intro p e s m below meth c args A hx hb hml hown hnm hts hP hK0 hD hA Q hret ls hl
  have hS : va_S A s.heap s.heap [] := va_S.rf
  have hl : lv_has ls 3 [(0, .ref h0), (1, .int x)] := hl
  have hin : meth.name = "<init>" := hnm
  have hK := hK0.1
  refine lv_aload_n hx hb d_X_init_0 rfl (lv_at hl 0 rfl) ?_
  refine W.objInit hx hb hown (hts _ kw_11) (hts _ kw_12) (hts _ kw_13) rfl (by rw [hml]; exact hl.1) rfl d_X_init_1 (Nat.le_of_ble_eq_true rfl) (Nat.le_of_ble_eq_true rfl) ?_
  refine W.eq (g2 := F0 m 4 ls []) rfl ?_
  refine lv_aload_n hx hb d_X_init_4 rfl (lv_at hl 0 rfl) ?_
  refine lv_sipush (v := 401) hx hb d_X_init_5 (by decide) ?_
  refine va_newq (C := "GateTimes$Item") hx hb hown (hts _ kw_14) hK0.2.1 hK hP hD hS hA (n := 401) (N' := 401) (by decide) (by decide) (by decide) (by decide) (by decide) d_X_init_8 (fun qi ci H hK hP hD hS => ?_)
  have hK : va_K D gt_cl [(ci, .object "GateTimes$Item")] s := hK
  have hP : va_P D gt_cl ([(h0, .inr (0, [.int 0, .null, .null, .int 0, .int 0, .long 0, .null, .null, .null, .int 0, .int 0, .int 0])), (qi, .inl (ci, 401, .inr (.inr (.inr (.inr (fun _ => none))))))]) H := hP
  have hD : va_D A ([(h0, .inr (0, [.int 0, .null, .null, .int 0, .int 0, .long 0, .null, .null, .null, .int 0, .int 0, .int 0])), (qi, .inl (ci, 401, .inr (.inr (.inr (.inr (fun _ => none))))))]) := hD
  refine va_putF (D := D) (ci := 0) (v := .ref qi) (ty := .array (.object "GateTimes$Item")) (C := R_X) (T := F_X) (N := 12) hx hb hts i_X t_X t_X_ok n_X hown hK hP hD hS 0 rfl rfl 2 (by decide) (hts _ kw_59) (fun _ h9 => h9) rfl hin rfl (by decide +kernel) rfl rfl (Nat.le_of_ble_eq_true rfl) d_X_init_11 (fun H locs hP hD hS => ?_)
  have hP : va_P D gt_cl ([(h0, .inr (0, [.int 0, .null, .ref qi, .int 0, .int 0, .long 0, .null, .null, .null, .int 0, .int 0, .int 0])), (qi, .inl (ci, 401, .inr (.inr (.inr (.inr (fun _ => none))))))]) H := hP
  have hD : va_D A ([(h0, .inr (0, [.int 0, .null, .ref qi, .int 0, .int 0, .long 0, .null, .null, .null, .int 0, .int 0, .int 0])), (qi, .inl (ci, 401, .inr (.inr (.inr (.inr (fun _ => none))))))]) := hD
  refine lv_aload_n hx hb d_X_init_14 rfl (lv_at hl 0 rfl) ?_
  refine lv_iconst (v := 1) hx hb d_X_init_15 (by decide) ?_
  refine va_put (D := D) (ci := 0) (v := .int 1) (ty := .int) (C := R_X) (T := F_X) (N := 12) hx hb hts i_X t_X t_X_ok n_X hown hK hP hD hS 0 rfl rfl 4 (by decide) (hts _ kw_61) (fun _ h9 => h9) rfl (by decide +kernel) rfl rfl (Nat.le_of_ble_eq_true rfl) d_X_init_16 (fun H locs hP hD hS => ?_)
  have hP : va_P D gt_cl ([(h0, .inr (0, [.int 0, .null, .ref qi, .int 0, .int 1, .long 0, .null, .null, .null, .int 0, .int 0, .int 0])), (qi, .inl (ci, 401, .inr (.inr (.inr (.inr (fun _ => none))))))]) H := hP
  have hD : va_D A ([(h0, .inr (0, [.int 0, .null, .ref qi, .int 0, .int 1, .long 0, .null, .null, .null, .int 0, .int 0, .int 0])), (qi, .inl (ci, 401, .inr (.inr (.inr (.inr (fun _ => none))))))]) := hD
  refine lv_aload_n hx hb d_X_init_19 rfl (lv_at hl 0 rfl) ?_
  refine lv_sipush (v := 400) hx hb d_X_init_20 (by decide) ?_
  refine va_newa (atype := .int) hx hb (hts _ kw_55) (ty := .int) rfl hK hP hD hS hA (n := 400) (N' := 400) (a0 := (400, .inl (fun _ => 0))) (fun _ => rfl) (by decide) (by decide) (by decide) (by decide) (by decide) d_X_init_23 (fun qa ca H hK hP hD hS => ?_)
  have hK : va_K D gt_cl [(ci, .object "GateTimes$Item"), (ca, .int)] s := hK
  have hP : va_P D gt_cl ([(h0, .inr (0, [.int 0, .null, .ref qi, .int 0, .int 1, .long 0, .null, .null, .null, .int 0, .int 0, .int 0])), (qi, .inl (ci, 401, .inr (.inr (.inr (.inr (fun _ => none)))))), (qa, .inl (ca, 400, .inl (fun _ => 0)))]) H := hP
  have hD : va_D A ([(h0, .inr (0, [.int 0, .null, .ref qi, .int 0, .int 1, .long 0, .null, .null, .null, .int 0, .int 0, .int 0])), (qi, .inl (ci, 401, .inr (.inr (.inr (.inr (fun _ => none)))))), (qa, .inl (ca, 400, .inl (fun _ => 0)))]) := hD
  refine va_putF (D := D) (ci := 0) (v := .ref qa) (ty := .array .int) (C := R_X) (T := F_X) (N := 12) hx hb hts i_X t_X t_X_ok n_X hown hK hP hD hS 0 rfl rfl 6 (by decide) (hts _ kw_63) (fun _ h9 => h9) rfl hin rfl (by decide +kernel) rfl rfl (Nat.le_of_ble_eq_true rfl) d_X_init_25 (fun H locs hP hD hS => ?_)
  have hP : va_P D gt_cl ([(h0, .inr (0, [.int 0, .null, .ref qi, .int 0, .int 1, .long 0, .ref qa, .null, .null, .int 0, .int 0, .int 0])), (qi, .inl (ci, 401, .inr (.inr (.inr (.inr (fun _ => none)))))), (qa, .inl (ca, 400, .inl (fun _ => 0)))]) H := hP
  have hD : va_D A ([(h0, .inr (0, [.int 0, .null, .ref qi, .int 0, .int 1, .long 0, .ref qa, .null, .null, .int 0, .int 0, .int 0])), (qi, .inl (ci, 401, .inr (.inr (.inr (.inr (fun _ => none)))))), (qa, .inl (ca, 400, .inl (fun _ => 0)))]) := hD
  refine lv_aload_n hx hb d_X_init_28 rfl (lv_at hl 0 rfl) ?_
  refine lv_sipush (v := 400) hx hb d_X_init_29 (by decide) ?_
  refine va_newa (atype := .int) hx hb (hts _ kw_55) (ty := .int) rfl hK hP hD hS hA (n := 400) (N' := 400) (a0 := (400, .inl (fun _ => 0))) (fun _ => rfl) (by decide) (by decide) (by decide) (by decide) (by decide) d_X_init_32 (fun qb cb H hK hP hD hS => ?_)
  have hK : va_K D gt_cl [(ci, .object "GateTimes$Item"), (ca, .int), (cb, .int)] s := hK
  have hP : va_P D gt_cl ([(h0, .inr (0, [.int 0, .null, .ref qi, .int 0, .int 1, .long 0, .ref qa, .null, .null, .int 0, .int 0, .int 0])), (qi, .inl (ci, 401, .inr (.inr (.inr (.inr (fun _ => none)))))), (qa, .inl (ca, 400, .inl (fun _ => 0))), (qb, .inl (cb, 400, .inl (fun _ => 0)))]) H := hP
  have hD : va_D A ([(h0, .inr (0, [.int 0, .null, .ref qi, .int 0, .int 1, .long 0, .ref qa, .null, .null, .int 0, .int 0, .int 0])), (qi, .inl (ci, 401, .inr (.inr (.inr (.inr (fun _ => none)))))), (qa, .inl (ca, 400, .inl (fun _ => 0))), (qb, .inl (cb, 400, .inl (fun _ => 0)))]) := hD
  refine va_putF (D := D) (ci := 0) (v := .ref qb) (ty := .array .int) (C := R_X) (T := F_X) (N := 12) hx hb hts i_X t_X t_X_ok n_X hown hK hP hD hS 0 rfl rfl 7 (by decide) (hts _ kw_64) (fun _ h9 => h9) rfl hin rfl (by decide +kernel) rfl rfl (Nat.le_of_ble_eq_true rfl) d_X_init_34 (fun H locs hP hD hS => ?_)
  have hP : va_P D gt_cl ([(h0, .inr (0, [.int 0, .null, .ref qi, .int 0, .int 1, .long 0, .ref qa, .ref qb, .null, .int 0, .int 0, .int 0])), (qi, .inl (ci, 401, .inr (.inr (.inr (.inr (fun _ => none)))))), (qa, .inl (ca, 400, .inl (fun _ => 0))), (qb, .inl (cb, 400, .inl (fun _ => 0)))]) H := hP
  have hD : va_D A ([(h0, .inr (0, [.int 0, .null, .ref qi, .int 0, .int 1, .long 0, .ref qa, .ref qb, .null, .int 0, .int 0, .int 0])), (qi, .inl (ci, 401, .inr (.inr (.inr (.inr (fun _ => none)))))), (qa, .inl (ca, 400, .inl (fun _ => 0))), (qb, .inl (cb, 400, .inl (fun _ => 0)))]) := hD
  refine lv_aload_n hx hb d_X_init_37 rfl (lv_at hl 0 rfl) ?_
  refine lv_sipush (v := 400) hx hb d_X_init_38 (by decide) ?_
  refine va_newa (atype := .long) hx hb (hts _ kw_56) (ty := .long) rfl hK hP hD hS hA (n := 400) (N' := 400) (a0 := (400, .inr (.inl (fun _ => 0)))) (fun _ => rfl) (by decide) (by decide) (by decide) (by decide) (by decide) d_X_init_41 (fun qt ct H hK hP hD hS => ?_)
  have hK : va_K D gt_cl [(ci, .object "GateTimes$Item"), (ca, .int), (cb, .int), (ct, .long)] s := hK
  have hP : va_P D gt_cl ([(h0, .inr (0, [.int 0, .null, .ref qi, .int 0, .int 1, .long 0, .ref qa, .ref qb, .null, .int 0, .int 0, .int 0])), (qi, .inl (ci, 401, .inr (.inr (.inr (.inr (fun _ => none)))))), (qa, .inl (ca, 400, .inl (fun _ => 0))), (qb, .inl (cb, 400, .inl (fun _ => 0))), (qt, .inl (ct, 400, .inr (.inl (fun _ => 0))))]) H := hP
  have hD : va_D A ([(h0, .inr (0, [.int 0, .null, .ref qi, .int 0, .int 1, .long 0, .ref qa, .ref qb, .null, .int 0, .int 0, .int 0])), (qi, .inl (ci, 401, .inr (.inr (.inr (.inr (fun _ => none)))))), (qa, .inl (ca, 400, .inl (fun _ => 0))), (qb, .inl (cb, 400, .inl (fun _ => 0))), (qt, .inl (ct, 400, .inr (.inl (fun _ => 0))))]) := hD
  refine va_putF (D := D) (ci := 0) (v := .ref qt) (ty := .array .long) (C := R_X) (T := F_X) (N := 12) hx hb hts i_X t_X t_X_ok n_X hown hK hP hD hS 0 rfl rfl 8 (by decide) (hts _ kw_65) (fun _ h9 => h9) rfl hin rfl (by decide +kernel) rfl rfl (Nat.le_of_ble_eq_true rfl) d_X_init_43 (fun H locs hP hD hS => ?_)
  have hP : va_P D gt_cl ([(h0, .inr (0, [.int 0, .null, .ref qi, .int 0, .int 1, .long 0, .ref qa, .ref qb, .ref qt, .int 0, .int 0, .int 0])), (qi, .inl (ci, 401, .inr (.inr (.inr (.inr (fun _ => none)))))), (qa, .inl (ca, 400, .inl (fun _ => 0))), (qb, .inl (cb, 400, .inl (fun _ => 0))), (qt, .inl (ct, 400, .inr (.inl (fun _ => 0))))]) H := hP
  have hD : va_D A ([(h0, .inr (0, [.int 0, .null, .ref qi, .int 0, .int 1, .long 0, .ref qa, .ref qb, .ref qt, .int 0, .int 0, .int 0])), (qi, .inl (ci, 401, .inr (.inr (.inr (.inr (fun _ => none)))))), (qa, .inl (ca, 400, .inl (fun _ => 0))), (qb, .inl (cb, 400, .inl (fun _ => 0))), (qt, .inl (ct, 400, .inr (.inl (fun _ => 0))))]) := hD
  refine lv_aload_n hx hb d_X_init_46 rfl (lv_at hl 0 rfl) ?_
  refine lv_iconst (v := 1) hx hb d_X_init_47 (by decide) ?_
  refine lv_iload_n hx hb d_X_init_48 rfl (lv_at hl 1 rfl) ?_
  refine lv_bipush (v := 12) hx hb d_X_init_49 (by decide) ?_
  refine va_mmin hx hb (hml.trans hl.1.symm) hown (hts _ kw_16) (hts _ kw_17) (hts _ kw_2) (hts _ kw_18) (Nat.le_of_ble_eq_true rfl) (Nat.le_of_ble_eq_true rfl) (Nat.le_of_ble_eq_true rfl) (Nat.le_of_ble_eq_true rfl) d_X_init_51 ?_
  refine va_mmax hx hb (hml.trans hl.1.symm) hown (hts _ kw_19) (hts _ kw_20) (hts _ kw_2) (hts _ kw_21) (Nat.le_of_ble_eq_true rfl) (Nat.le_of_ble_eq_true rfl) (Nat.le_of_ble_eq_true rfl) (Nat.le_of_ble_eq_true rfl) d_X_init_54 ?_
  rw [gt_G_max x]
  have hGi := gt_G_in x
  generalize gt_G x = G at hGi hret ⊢
  refine va_putF (D := D) (ci := 0) (v := .int (nI G)) (ty := .int) (C := R_X) (T := F_X) (N := 12) hx hb hts i_X t_X t_X_ok n_X hown hK hP hD hS 0 rfl rfl 0 (by decide) (hts _ kw_57) (fun _ h9 => h9) rfl hin rfl (by decide +kernel) rfl rfl (Nat.le_of_ble_eq_true rfl) d_X_init_57 (fun H locs hP hD hS => ?_)
  have hP : va_P D gt_cl ([(h0, .inr (0, [.int (nI G), .null, .ref qi, .int 0, .int 1, .long 0, .ref qa, .ref qb, .ref qt, .int 0, .int 0, .int 0])), (qi, .inl (ci, 401, .inr (.inr (.inr (.inr (fun _ => none)))))), (qa, .inl (ca, 400, .inl (fun _ => 0))), (qb, .inl (cb, 400, .inl (fun _ => 0))), (qt, .inl (ct, 400, .inr (.inl (fun _ => 0))))]) H := hP
  have hD : va_D A ([(h0, .inr (0, [.int (nI G), .null, .ref qi, .int 0, .int 1, .long 0, .ref qa, .ref qb, .ref qt, .int 0, .int 0, .int 0])), (qi, .inl (ci, 401, .inr (.inr (.inr (.inr (fun _ => none)))))), (qa, .inl (ca, 400, .inl (fun _ => 0))), (qb, .inl (cb, 400, .inl (fun _ => 0))), (qt, .inl (ct, 400, .inr (.inl (fun _ => 0))))]) := hD
  refine lv_aload_n hx hb d_X_init_60 rfl (lv_at hl 0 rfl) ?_
  refine lv_aload_n hx hb d_X_init_61 rfl (lv_at hl 0 rfl) ?_
  refine va_get (D := D) (ci := 0) (v := .int (nI G)) (C := R_X) (T := F_X) (N := 12) hx hb hts i_X hown hK hP 0 rfl rfl 0 (by decide) (hts _ kw_57) (fun _ h9 => h9) rfl d_X_init_62 ?_
  refine va_newq (C := "GateTimes$Gate") hx hb hown (hts _ kw_22) hK0.2.2.1 hK hP hD hS hA (n := nI G) (N' := G) (nI_pos (by omega)) (nI_clamp (by omega)) (by omega) (by decide) (by show _ + G ≤ 1697; omega) d_X_init_65 (fun qr cr H hK hP hD hS => ?_)
  have hK : va_K D gt_cl [(ci, .object "GateTimes$Item"), (ca, .int), (cb, .int), (ct, .long), (cr, .object "GateTimes$Gate")] s := hK
  have hP : va_P D gt_cl ([(h0, .inr (0, [.int (nI G), .null, .ref qi, .int 0, .int 1, .long 0, .ref qa, .ref qb, .ref qt, .int 0, .int 0, .int 0])), (qi, .inl (ci, 401, .inr (.inr (.inr (.inr (fun _ => none)))))), (qa, .inl (ca, 400, .inl (fun _ => 0))), (qb, .inl (cb, 400, .inl (fun _ => 0))), (qt, .inl (ct, 400, .inr (.inl (fun _ => 0)))), (qr, .inl (cr, G, .inr (.inr (.inr (.inr (fun _ => none))))))]) H := hP
  have hD : va_D A ([(h0, .inr (0, [.int (nI G), .null, .ref qi, .int 0, .int 1, .long 0, .ref qa, .ref qb, .ref qt, .int 0, .int 0, .int 0])), (qi, .inl (ci, 401, .inr (.inr (.inr (.inr (fun _ => none)))))), (qa, .inl (ca, 400, .inl (fun _ => 0))), (qb, .inl (cb, 400, .inl (fun _ => 0))), (qt, .inl (ct, 400, .inr (.inl (fun _ => 0)))), (qr, .inl (cr, G, .inr (.inr (.inr (.inr (fun _ => none))))))]) := hD
  refine W.widen (k := 5) (n := 1613) (by decide) (by show 0 + 401 + 400 + 400 + 400 + G ≤ 1613; omega) ?_
  refine va_putF (D := D) (ci := 0) (v := .ref qr) (ty := .array (.object "GateTimes$Gate")) (C := R_X) (T := F_X) (N := 12) hx hb hts i_X t_X t_X_ok n_X hown hK hP hD hS 0 rfl rfl 1 (by decide) (hts _ kw_58) (fun _ h9 => h9) rfl hin rfl (by decide +kernel) rfl rfl (Nat.le_of_ble_eq_true rfl) d_X_init_68 (fun H locs hP hD hS => ?_)
  have hP : va_P D gt_cl ([(h0, .inr (0, [.int (nI G), .ref qr, .ref qi, .int 0, .int 1, .long 0, .ref qa, .ref qb, .ref qt, .int 0, .int 0, .int 0])), (qi, .inl (ci, 401, .inr (.inr (.inr (.inr (fun _ => none)))))), (qa, .inl (ca, 400, .inl (fun _ => 0))), (qb, .inl (cb, 400, .inl (fun _ => 0))), (qt, .inl (ct, 400, .inr (.inl (fun _ => 0)))), (qr, .inl (cr, G, .inr (.inr (.inr (.inr (fun _ => none))))))]) H := hP
  have hD : va_D A ([(h0, .inr (0, [.int (nI G), .ref qr, .ref qi, .int 0, .int 1, .long 0, .ref qa, .ref qb, .ref qt, .int 0, .int 0, .int 0])), (qi, .inl (ci, 401, .inr (.inr (.inr (.inr (fun _ => none)))))), (qa, .inl (ca, 400, .inl (fun _ => 0))), (qb, .inl (cb, 400, .inl (fun _ => 0))), (qt, .inl (ct, 400, .inr (.inl (fun _ => 0)))), (qr, .inl (cr, G, .inr (.inr (.inr (.inr (fun _ => none))))))]) := hD
  refine lv_iconst (v := 0) hx hb d_X_init_71 (by decide) ?_
  refine lv_istore_n (lv' := [(2, .int 0), (0, .ref h0), (1, .int x)]) hx hb d_X_init_72 rfl hl (by decide) rfl (fun ls hl => ?_)
  obtain ⟨xa, x0, x1, x2, x3, x4, x5⟩ : ∃ xa : Nat → Nat, xa 0 = h0 ∧ xa 1 = qr ∧ xa 2 = qi ∧ xa 3 = qa ∧ xa 4 = qb ∧ xa 5 = qt := ⟨gt_f6 h0 qr qi qa qb qt, rfl, rfl, rfl, rfl, rfl, rfl⟩
  obtain ⟨xc, y1, y2, y3, y4, y5⟩ : ∃ xc : Nat → ClassId, xc 1 = cr ∧ xc 2 = ci ∧ xc 3 = ca ∧ xc 4 = cb ∧ xc 5 = ct := ⟨gt_f6 cr cr ci ca cb ct, rfl, rfl, rfl, rfl, rfl⟩
  rw [← x0, ← x1, ← x2, ← x3, ← x4, ← x5, ← y1, ← y2, ← y3, ← y4, ← y5] at hP hD
  rw [← y1, ← y2, ← y3, ← y4, ← y5] at hK
  rw [← x0] at hl
  have hKx : va_K D gt_cl (gt_Xt xc) s := hK.sub [4, 0, 1, 2, 3] rfl
  have hP : va_P D gt_cl ([(xa 0, .inr (0, [.int (nI G), .ref (xa 1), .ref (xa 2), .int 0, .int 1, .long 0, .ref (xa 3), .ref (xa 4), .ref (xa 5), .int 0, .int 0, .int 0])), (xa 2, .inl (xc 2, 401, .inr (.inr (.inr (.inr (fun _ => none)))))), (xa 3, .inl (xc 3, 400, .inl (fun _ => 0))), (xa 4, .inl (xc 4, 400, .inl (fun _ => 0))), (xa 5, .inl (xc 5, 400, .inr (.inl (fun _ => 0)))), (xa 1, .inl (xc 1, G, .inr (.inr (.inr (.inr (fun _ => none))))))]) H := hP
  have hD : va_D A ([(xa 0, .inr (0, [.int (nI G), .ref (xa 1), .ref (xa 2), .int 0, .int 1, .long 0, .ref (xa 3), .ref (xa 4), .ref (xa 5), .int 0, .int 0, .int 0])), (xa 2, .inl (xc 2, 401, .inr (.inr (.inr (.inr (fun _ => none)))))), (xa 3, .inl (xc 3, 400, .inl (fun _ => 0))), (xa 4, .inl (xc 4, 400, .inl (fun _ => 0))), (xa 5, .inl (xc 5, 400, .inr (.inl (fun _ => 0)))), (xa 1, .inl (xc 1, G, .inr (.inr (.inr (.inr (fun _ => none))))))]) := hD
  have hP := hP.sub (ws' := [(xa 0, .inr (0, [.int (nI G), .ref (xa 1), .ref (xa 2), .int 0, .int 1, .long 0, .ref (xa 3), .ref (xa 4), .ref (xa 5), .int 0, .int 0, .int 0])), (xa 1, .inl (xc 1, G, .inr (.inr (.inr (.inr (fun _ => none)))))), (xa 2, .inl (xc 2, 401, .inr (.inr (.inr (.inr (fun _ => none)))))), (xa 3, .inl (xc 3, 400, .inl (fun _ => 0))), (xa 4, .inl (xc 4, 400, .inl (fun _ => 0))), (xa 5, .inl (xc 5, 400, .inr (.inl (fun _ => 0))))]) [0, 5, 1, 2, 3, 4] rfl
  have hD := hD.sub (ws' := [(xa 0, .inr (0, [.int (nI G), .ref (xa 1), .ref (xa 2), .int 0, .int 1, .long 0, .ref (xa 3), .ref (xa 4), .ref (xa 5), .int 0, .int 0, .int 0])), (xa 1, .inl (xc 1, G, .inr (.inr (.inr (.inr (fun _ => none)))))), (xa 2, .inl (xc 2, 401, .inr (.inr (.inr (.inr (fun _ => none)))))), (xa 3, .inl (xc 3, 400, .inl (fun _ => 0))), (xa 4, .inl (xc 4, 400, .inl (fun _ => 0))), (xa 5, .inl (xc 5, 400, .inr (.inl (fun _ => 0))))]) [0, 5, 1, 2, 3, 4] (by decide) rfl
  have loop : ∀ (q g : Nat) (ad : Nat → Nat), g ≤ G → G < g + q → ∀ (H : Heap) (locs : List Loc), va_P D gt_cl ([(xa 0, .inr (0, [.int (nI G), .ref (xa 1), .ref (xa 2), .int 0, .int 1, .long 0, .ref (xa 3), .ref (xa 4), .ref (xa 5), .int 0, .int 0, .int 0])), (xa 1, .inl (xc 1, G, .inr (.inr (.inr (.inr (gt_fg g ad)))))), (xa 2, .inl (xc 2, 401, .inr (.inr (.inr (.inr (fun _ => none)))))), (xa 3, .inl (xc 3, 400, .inl (fun _ => 0))), (xa 4, .inl (xc 4, 400, .inl (fun _ => 0))), (xa 5, .inl (xc 5, 400, .inr (.inl (fun _ => 0))))] ++ gt_pl ad (gt_pk g 0) (gt_pf (gt_S0 G) (fun _ => 0) gt_d0)) H → va_D A ([(xa 0, .inr (0, [.int (nI G), .ref (xa 1), .ref (xa 2), .int 0, .int 1, .long 0, .ref (xa 3), .ref (xa 4), .ref (xa 5), .int 0, .int 0, .int 0])), (xa 1, .inl (xc 1, G, .inr (.inr (.inr (.inr (gt_fg g ad)))))), (xa 2, .inl (xc 2, 401, .inr (.inr (.inr (.inr (fun _ => none)))))), (xa 3, .inl (xc 3, 400, .inl (fun _ => 0))), (xa 4, .inl (xc 4, 400, .inl (fun _ => 0))), (xa 5, .inl (xc 5, 400, .inr (.inl (fun _ => 0))))] ++ gt_pl ad (gt_pk g 0) (gt_pf (gt_S0 G) (fun _ => 0) gt_d0)) → va_S A s.heap H locs → ∀ ls, lv_has ls 3 [(2, .int (nI g)), (0, .ref (xa 0))] → W p l e rm_X_init s m args below meth c H locs (5 + g) (1613 + 7 * g) Q (F0 m 73 ls []) := by
    intro q
    induction q with
    | zero => intro g ad h1 h2; omega
    | succ q ih =>
      intro g ad g1 g2 H locs hP hD hS ls hl
      have hK := hKx
      refine lv_iload_n hx hb d_X_init_73 rfl (lv_at hl 0 rfl) ?_
      refine lv_aload_n hx hb d_X_init_74 rfl (lv_at hl 1 rfl) ?_
      refine va_get (D := D) (ci := 0) (v := .int (nI G)) (C := R_X) (T := F_X) (N := 12) hx hb hts i_X hown hK hP 0 rfl rfl 0 (by decide) (hts _ kw_57) (fun _ h9 => h9) rfl d_X_init_75 ?_
      refine lv_icmp_ge (tgt := 100) hx hb d_X_init_78 (by decide) (fun c1 => ?_) (fun c1 => ?_)
      · rw [nI_leI (by omega) (by omega)] at c1
        obtain rfl : g = G := by omega
        rw [← gt_fi_0 ad] at hP hD
        refine W.widen (k := 17) (n := 1697) (by omega) (by omega) ?_
        exact hret _ _ _ _ (xa, xc, ad) d_X_init_100 x0 hP hKx hD hS
      · rw [nI_leI (by omega) (by omega)] at c1
        refine lv_aload_n hx hb d_X_init_81 rfl (lv_at hl 1 rfl) ?_
        refine va_get (D := D) (ci := 0) (v := .ref (xa 1)) (C := R_X) (T := F_X) (N := 12) hx hb hts i_X hown hK hP 0 rfl rfl 1 (by decide) (hts _ kw_58) (fun _ h9 => h9) rfl d_X_init_82 ?_
        refine lv_iload_n hx hb d_X_init_85 rfl (lv_at hl 0 rfl) ?_
        refine va_new (ci := 1) (fs := [.int 0, .int 0, .int 0, .long 0, .int 0, .int 0, .int 0]) (C := R_G) (T := F_G) (N := 7) hx hb hts i_G t_G t_G_ok hown (hts _ kw_22) (hts _ kw_24) (hts _ kw_3) hK hP hD hS hA rfl (fun j hj => by rcases (show j = 0 ∨ j = 1 ∨ j = 2 ∨ j = 3 ∨ j = 4 ∨ j = 5 ∨ j = 6 by omega) with rfl | rfl | rfl | rfl | rfl | rfl | rfl <;> rfl) (by show 5 + g + 1 ≤ 17; omega) (by show 1613 + 7 * g + 7 ≤ 1697; omega) d_X_init_86 (fun q0 H hP hD hS => ?_)
        have hkn : g ∉ gt_pk g 0 := fun h => by have := gt_pk_n (by omega) h; omega
        have hP : va_P D gt_cl (([(xa 0, .inr (0, [.int (nI G), .ref (xa 1), .ref (xa 2), .int 0, .int 1, .long 0, .ref (xa 3), .ref (xa 4), .ref (xa 5), .int 0, .int 0, .int 0])), (xa 1, .inl (xc 1, G, .inr (.inr (.inr (.inr (gt_fg g ad)))))), (xa 2, .inl (xc 2, 401, .inr (.inr (.inr (.inr (fun _ => none)))))), (xa 3, .inl (xc 3, 400, .inl (fun _ => 0))), (xa 4, .inl (xc 4, 400, .inl (fun _ => 0))), (xa 5, .inl (xc 5, 400, .inr (.inl (fun _ => 0))))] ++ gt_pl ad (gt_pk g 0) (gt_pf (gt_S0 G) (fun _ => 0) gt_d0)) ++ [(q0, .inr (1, [.int 0, .int 0, .int 0, .long 0, .int 0, .int 0, .int 0]))]) H := hP
        have hD : va_D A (([(xa 0, .inr (0, [.int (nI G), .ref (xa 1), .ref (xa 2), .int 0, .int 1, .long 0, .ref (xa 3), .ref (xa 4), .ref (xa 5), .int 0, .int 0, .int 0])), (xa 1, .inl (xc 1, G, .inr (.inr (.inr (.inr (gt_fg g ad)))))), (xa 2, .inl (xc 2, 401, .inr (.inr (.inr (.inr (fun _ => none)))))), (xa 3, .inl (xc 3, 400, .inl (fun _ => 0))), (xa 4, .inl (xc 4, 400, .inl (fun _ => 0))), (xa 5, .inl (xc 5, 400, .inr (.inl (fun _ => 0))))] ++ gt_pl ad (gt_pk g 0) (gt_pf (gt_S0 G) (fun _ => 0) gt_d0)) ++ [(q0, .inr (1, [.int 0, .int 0, .int 0, .long 0, .int 0, .int 0, .int 0]))]) := hD
        rw [List.append_assoc, gt_pl_push hkn] at hP hD
        obtain ⟨ad1, had1⟩ : ∃ ad1, ad1 = va_up ad g q0 := ⟨_, rfl⟩
        have hq1 : ad1 g = q0 := by rw [had1, va_up_self]
        rw [← had1, ← gt_pk_g1] at hP hD
        rw [← hq1]
        have hmem : g ∈ gt_pk (g + 1) 0 := gt_pk_g (by omega)
        refine lv_dup hx hb d_X_init_89 rfl ?_
        have hFc := gt_pl_free (X := [(xa 0, .inr (0, [.int (nI G), .ref (xa 1), .ref (xa 2), .int 0, .int 1, .long 0, .ref (xa 3), .ref (xa 4), .ref (xa 5), .int 0, .int 0, .int 0])), (xa 1, .inl (xc 1, G, .inr (.inr (.inr (.inr (gt_fg g ad)))))), (xa 2, .inl (xc 2, 401, .inr (.inr (.inr (.inr (fun _ => none)))))), (xa 3, .inl (xc 3, 400, .inl (fun _ => 0))), (xa 4, .inl (xc 4, 400, .inl (fun _ => 0))), (xa 5, .inl (xc 5, 400, .inr (.inl (fun _ => 0))))]) (ad := ad1) (K := gt_pk (g + 1) 0) (f := va_up (gt_pf (gt_S0 G) (fun _ => 0) gt_d0) g (.inr (1, [.int 0, .int 0, .int 0, .long 0, .int 0, .int 0, .int 0]))) (k := g) (e := .inr (1, [.int 0, .int 0, .int 0, .long 0, .int 0, .int 0, .int 0])) hD hS hA hmem
        refine va_callv (va_runIN (As := []) (rest := [.ref (ad1 g), .int (nI g), .ref (xa 1)]) ⟨hx, hb, hml, hown, hts⟩ (c_G_init l D H.size (ad1 g)) ⟨va_cnB 0 hts (tb_in kw_27) rfl rfl rfl hK0.2.2.2 (hts _ kw_3) (by decide +kernel) ⟨Nat.le_of_ble_eq_true rfl, Nat.le_of_ble_eq_true rfl⟩, rfl, hts _ kw_26⟩ (gt_Pre_S gt_K_mv (gt_pl_one (X := [(xa 0, .inr (0, [.int (nI G), .ref (xa 1), .ref (xa 2), .int 0, .int 1, .long 0, .ref (xa 3), .ref (xa 4), .ref (xa 5), .int 0, .int 0, .int 0])), (xa 1, .inl (xc 1, G, .inr (.inr (.inr (.inr (gt_fg g ad)))))), (xa 2, .inl (xc 2, 401, .inr (.inr (.inr (.inr (fun _ => none)))))), (xa 3, .inl (xc 3, 400, .inl (fun _ => 0))), (xa 4, .inl (xc 4, 400, .inl (fun _ => 0))), (xa 5, .inl (xc 5, 400, .inr (.inl (fun _ => 0))))]) (ad := ad1) (K := gt_pk (g + 1) 0) (f := va_up (gt_pf (gt_S0 G) (fun _ => 0) gt_d0) g (.inr (1, [.int 0, .int 0, .int 0, .long 0, .int 0, .int 0, .int 0]))) (k := g) hP hmem (va_up_self _ _ _)) (hK.sub [] rfl) (gt_D1 (A := fun _ => True) trivial)) rfl rfl hl.1 rfl (lv_room (Nat.le_of_ble_eq_true rfl)) d_X_init_90 ⟨(by show 5 + g + 1 + 0 ≤ 17; omega), (by show 1613 + 7 * g + 7 + 0 ≤ 1697; omega)⟩) hS (fun q _ h => hFc q h) hFc (fun u t9 H1 locs ht9 hvm9 hw hB hz1 hk1 hS => ?_)
        obtain ⟨hP1, hD1⟩ := hB
        rw [ht9] at hP1
        obtain ⟨hP, hD⟩ := gt_join1 (X := [(xa 0, .inr (0, [.int (nI G), .ref (xa 1), .ref (xa 2), .int 0, .int 1, .long 0, .ref (xa 3), .ref (xa 4), .ref (xa 5), .int 0, .int 0, .int 0])), (xa 1, .inl (xc 1, G, .inr (.inr (.inr (.inr (gt_fg g ad)))))), (xa 2, .inl (xc 2, 401, .inr (.inr (.inr (.inr (fun _ => none)))))), (xa 3, .inl (xc 3, 400, .inl (fun _ => 0))), (xa 4, .inl (xc 4, 400, .inl (fun _ => 0))), (xa 5, .inl (xc 5, 400, .inr (.inl (fun _ => 0))))]) (ad := ad1) (K := gt_pk (g + 1) 0) (f := va_up (gt_pf (gt_S0 G) (fun _ => 0) gt_d0) g (.inr (1, [.int 0, .int 0, .int 0, .long 0, .int 0, .int 0, .int 0]))) (k := g) hP hD hmem hk1 hP1
        have e1 : va_up (gt_pf (gt_S0 G) (fun _ => 0) gt_d0) g (.inr (1, [.int 0, .int 0, .int 0, .long 0, .int 1000, .int 0, .int 0])) = gt_pf (gt_S0 G) (fun _ => 0) gt_d0 := gt_pf_setg (by omega) (by
          unfold gt_gC gt_S0 gt_h13 gt_d0
          simp only
          rw [if_pos (by omega)]
          rfl) (fun j hj => rfl) (fun i => rfl)
        rw [bx_uu, e1] at hP hD
        have hP : va_P D gt_cl ([(xa 0, .inr (0, [.int (nI G), .ref (xa 1), .ref (xa 2), .int 0, .int 1, .long 0, .ref (xa 3), .ref (xa 4), .ref (xa 5), .int 0, .int 0, .int 0])), (xa 1, .inl (xc 1, G, .inr (.inr (.inr (.inr (gt_fg g ad)))))), (xa 2, .inl (xc 2, 401, .inr (.inr (.inr (.inr (fun _ => none)))))), (xa 3, .inl (xc 3, 400, .inl (fun _ => 0))), (xa 4, .inl (xc 4, 400, .inl (fun _ => 0))), (xa 5, .inl (xc 5, 400, .inr (.inl (fun _ => 0))))] ++ gt_pl ad1 (gt_pk (g + 1) 0) (gt_pf (gt_S0 G) (fun _ => 0) gt_d0)) H1 := hP
        have hD : va_D A ([(xa 0, .inr (0, [.int (nI G), .ref (xa 1), .ref (xa 2), .int 0, .int 1, .long 0, .ref (xa 3), .ref (xa 4), .ref (xa 5), .int 0, .int 0, .int 0])), (xa 1, .inl (xc 1, G, .inr (.inr (.inr (.inr (gt_fg g ad)))))), (xa 2, .inl (xc 2, 401, .inr (.inr (.inr (.inr (fun _ => none)))))), (xa 3, .inl (xc 3, 400, .inl (fun _ => 0))), (xa 4, .inl (xc 4, 400, .inl (fun _ => 0))), (xa 5, .inl (xc 5, 400, .inr (.inl (fun _ => 0))))] ++ gt_pl ad1 (gt_pk (g + 1) 0) (gt_pf (gt_S0 G) (fun _ => 0) gt_d0)) := hD
        refine gt_qast (X := [(xa 0, .inr (0, [.int (nI G), .ref (xa 1), .ref (xa 2), .int 0, .int 1, .long 0, .ref (xa 3), .ref (xa 4), .ref (xa 5), .int 0, .int 0, .int 0])), (xa 1, .inl (xc 1, G, .inr (.inr (.inr (.inr (gt_fg g ad)))))), (xa 2, .inl (xc 2, 401, .inr (.inr (.inr (.inr (fun _ => none)))))), (xa 3, .inl (xc 3, 400, .inl (fun _ => 0))), (xa 4, .inl (xc 4, 400, .inl (fun _ => 0))), (xa 5, .inl (xc 5, 400, .inr (.inl (fun _ => 0))))]) (ad := ad1) (K := gt_pk (g + 1) 0) (f := gt_pf (gt_S0 G) (fun _ => 0) gt_d0) (key := g) (k := g) hx hb hK hP hD hS 1 0 1 (r := (R_G, F_G, 7)) rfl rfl hmem (gt_pf_g (by omega)) rfl (by omega) (by omega) d_X_init_93 (fun H locs hP hD hS => ?_)
        have hP : va_P D gt_cl ([(xa 0, .inr (0, [.int (nI G), .ref (xa 1), .ref (xa 2), .int 0, .int 1, .long 0, .ref (xa 3), .ref (xa 4), .ref (xa 5), .int 0, .int 0, .int 0])), (xa 1, .inl (xc 1, G, .inr (.inr (.inr (.inr (va_up (gt_fg g ad) g (some (ad1 g)))))))), (xa 2, .inl (xc 2, 401, .inr (.inr (.inr (.inr (fun _ => none)))))), (xa 3, .inl (xc 3, 400, .inl (fun _ => 0))), (xa 4, .inl (xc 4, 400, .inl (fun _ => 0))), (xa 5, .inl (xc 5, 400, .inr (.inl (fun _ => 0))))] ++ gt_pl ad1 (gt_pk (g + 1) 0) (gt_pf (gt_S0 G) (fun _ => 0) gt_d0)) H := hP
        have hD : va_D A ([(xa 0, .inr (0, [.int (nI G), .ref (xa 1), .ref (xa 2), .int 0, .int 1, .long 0, .ref (xa 3), .ref (xa 4), .ref (xa 5), .int 0, .int 0, .int 0])), (xa 1, .inl (xc 1, G, .inr (.inr (.inr (.inr (va_up (gt_fg g ad) g (some (ad1 g)))))))), (xa 2, .inl (xc 2, 401, .inr (.inr (.inr (.inr (fun _ => none)))))), (xa 3, .inl (xc 3, 400, .inl (fun _ => 0))), (xa 4, .inl (xc 4, 400, .inl (fun _ => 0))), (xa 5, .inl (xc 5, 400, .inr (.inl (fun _ => 0))))] ++ gt_pl ad1 (gt_pk (g + 1) 0) (gt_pf (gt_S0 G) (fun _ => 0) gt_d0)) := hD
        have e2 : va_up (gt_fg g ad) g (some (ad1 g)) = gt_fg (g + 1) ad1 := by rw [had1]; exact gt_fg_up
        rw [e2] at hP hD
        refine lv_iinc (v := nI (g + 1)) (lv' := [(2, .int (nI (g + 1))), (0, .ref (xa 0))]) hx hb d_X_init_94 hl (k := 0) rfl (nI_1 _) (by decide) rfl (fun ls hl => ?_)
        refine lv_goto (tgt := 73) hx hb d_X_init_97 (by decide) ?_
        refine W.widen (k := 5 + (g + 1)) (n := 1613 + 7 * (g + 1)) (by omega) (by omega) ?_
        exact ih (g + 1) ad1 (by omega) (by omega) _ _ hP hD hS ls (lv_sub hl [0, 1] rfl)
  rw [← gt_fg_0 (fun _ => 0)] at hP hD
  exact loop (G + 1) 0 (fun _ => 0) (Nat.zero_le _) (by omega) _ _ hP hD hS ls (lv_sub hl [0, 1] rfl)
end
section
/-! THE REFERENCE: checks, front, at. -/
theorem gt_Bit.iff {r : Int32} {P Q : Prop} (h : P ↔ Q) (hr : gt_Bit r P) : gt_Bit r Q := hr.imp (fun q => ⟨q.1, h.mp q.2⟩) (fun q => ⟨q.1, fun z => q.2 (h.mpr z)⟩)
theorem gt_sub_lt {a b : Nat} (ha : a ≤ 2000000000) (hb : b ≤ 2000000000) : (lN a - lN b < lN 200) ↔ ¬ b + 200 ≤ a := by
  by_cases h : b ≤ a
  · rw [lN_sub h, pk_lLT (by omega) (by omega)]
    omega
  · have e : lN a - lN b < lN 200 := by
      rw [Int64.lt_iff_toInt_lt, Int64.toInt_sub, pk_lT (by omega), pk_lT (by omega), pk_lT (by omega), Int.bmod_def]
      split <;> omega
    exact ⟨fun _ => by omega, fun _ => e⟩
theorem gt_sub_pos {a b : Nat} (ha : a ≤ 2000000000) (hb : b ≤ 2000000000) : (lN a - lN b ≤ lN 0) ↔ ¬ b < a := by
  by_cases h : b ≤ a
  · rw [lN_sub h, pk_lLE (by omega) (by omega)]
    omega
  · have e : lN a - lN b ≤ lN 0 := by
      rw [Int64.le_iff_toInt_le, Int64.toInt_sub, pk_lT (by omega), pk_lT (by omega), pk_lT (by omega), Int.bmod_def]
      split <;> omega
    exact ⟨fun _ => by omega, fun _ => e⟩
abbrev rm_M_isItem : Room := { frames := 1, cells := 0, slots := 0, locals := 25 }
set_option maxHeartbeats 4000000 in
set_option maxRecDepth 100000 in
/-- isItem(x) -/
theorem c_M_isItem (l : Launch) (D : va_G) (ma : Nat → Nat) (mc : Nat → ClassId) (thr : Int32) (S : gt_SS) (lt : Nat → Int32) (d : gt_Dy) (n now : Nat) (ol : List Nat) (told : Int32) (x : Int32) (hn : n ≤ 400) : Met l y_M_isItem w_M_isItem rm_M_isItem (gt_PreP D (va_K D gt_cl (gt_Mt mc)) [.ref (ma 0), .int x] (gt_MS ma mc thr S lt d n now ol told)) (vp_Si (fun r => gt_Bit r (∃ k, 1 ≤ k ∧ k ≤ n ∧ x = nI k))) 0 0 (fun _ => False) := by
  refine gt_pure_z (own := R_M) (by decide) rfl (Nat.le_of_ble_eq_true rfl) ?_
  intro p e s m below meth c args hx hb hml hown hts hP hK0 Q hret ls hl
  have hl : lv_has ls 2 [(0, .ref (ma 0)), (1, .int x)] := hl
  have hK : va_K D gt_cl (gt_Mt mc) s := hK0
  have hP : va_P D gt_cl (gt_MW ma mc thr S.1 n now ol.length told (fun j9 => lN (S.2.1 j9)) (fun j9 => lN (S.2.2.1 j9)) S.2.2.2.1 (fun j9 => nI (d.1 j9).1) (fun j9 => (d.1 j9).2.1) lt (fun j9 => lN (d.1 j9).2.2) (fun g9 => (d.2 g9).1) S.2.2.2.2.1 (fun g9 => (d.2 g9).2.1) (fun g9 => lN (d.2 g9).2.2.1) S.2.2.2.2.2 (fun g9 => (d.2 g9).2.2.2.1) (fun g9 => (d.2 g9).2.2.2.2) (gt_lf ol)) s.heap := hP
  refine lv_iload_n hx hb d_M_isItem_0 rfl (lv_at hl 1 rfl) ?_
  refine lv_i2l (v := x.toInt64) hx hb d_M_isItem_1 rfl ?_
  refine lv_lconst (v := lN 1) hx hb d_M_isItem_2 rfl ?_
  refine lv_aload_n hx hb d_M_isItem_3 rfl (lv_at hl 0 rfl) ?_
  refine va_get (D := D) (ci := 3) (v := .int (nI n)) (C := R_M) (T := F_M) (N := 21) hx hb hts i_M hown hK hP 0 rfl rfl 2 (by decide) (hts _ kw_240) (fun _ h9 => h9) rfl d_M_isItem_4 ?_
  refine lv_i2l (v := lN n) hx hb d_M_isItem_7 (nI_l (by omega)) ?_
  refine vp_callSi (va_runS (As := [.long x.toInt64, .long (lN 1), .long (lN n)]) (rest := []) ⟨hx, hb, hml, hown, hts⟩ (c_M_isIn l D x.toInt64 (lN 1) (lN n)) (cwS 3 hts (tb_inS kw_309 kw_310 kw_4 kw_311) rfl rfl rfl (by decide +kernel) ⟨Nat.le_of_ble_eq_true rfl, Nat.le_of_ble_eq_true rfl⟩) (gt_PreP_S gt_T_mv gt_P0 trivial) rfl rfl hl.1 rfl (lv_room (Nat.le_of_ble_eq_true rfl)) d_M_isItem_8 ⟨Nat.zero_le _, Nat.zero_le _⟩).run (fun r hr => ?_)
  exact hret _ _ _ d_M_isItem_11 hr.zo (hr.iff (gt_num_in (by omega) (by omega)))
abbrev rm_M_isBin : Room := { frames := 1, cells := 0, slots := 0, locals := 25 }
set_option maxHeartbeats 4000000 in
set_option maxRecDepth 100000 in
/-- isBin(x) -/
theorem c_M_isBin (l : Launch) (D : va_G) (ma : Nat → Nat) (mc : Nat → ClassId) (thr : Int32) (S : gt_SS) (lt : Nat → Int32) (d : gt_Dy) (n now : Nat) (ol : List Nat) (told : Int32) (x : Int32) (hG1 : 1 ≤ S.1) (hG : S.1 ≤ 12) : Met l y_M_isBin w_M_isBin rm_M_isBin (gt_PreP D (va_K D gt_cl (gt_Mt mc)) [.ref (ma 0), .int x] (gt_MS ma mc thr S lt d n now ol told)) (vp_Si (fun r => gt_Bit r (∃ k, k < S.1 ∧ x = nI k))) 0 0 (fun _ => False) := by
  refine gt_pure_z (own := R_M) (by decide) rfl (Nat.le_of_ble_eq_true rfl) ?_
  intro p e s m below meth c args hx hb hml hown hts hP hK0 Q hret ls hl
  have hl : lv_has ls 2 [(0, .ref (ma 0)), (1, .int x)] := hl
  have hK : va_K D gt_cl (gt_Mt mc) s := hK0
  have hP : va_P D gt_cl (gt_MW ma mc thr S.1 n now ol.length told (fun j9 => lN (S.2.1 j9)) (fun j9 => lN (S.2.2.1 j9)) S.2.2.2.1 (fun j9 => nI (d.1 j9).1) (fun j9 => (d.1 j9).2.1) lt (fun j9 => lN (d.1 j9).2.2) (fun g9 => (d.2 g9).1) S.2.2.2.2.1 (fun g9 => (d.2 g9).2.1) (fun g9 => lN (d.2 g9).2.2.1) S.2.2.2.2.2 (fun g9 => (d.2 g9).2.2.2.1) (fun g9 => (d.2 g9).2.2.2.2) (gt_lf ol)) s.heap := hP
  refine lv_iload_n hx hb d_M_isBin_0 rfl (lv_at hl 1 rfl) ?_
  refine lv_i2l (v := x.toInt64) hx hb d_M_isBin_1 rfl ?_
  refine lv_lconst (v := lN 0) hx hb d_M_isBin_2 rfl ?_
  refine lv_aload_n hx hb d_M_isBin_3 rfl (lv_at hl 0 rfl) ?_
  refine va_get (D := D) (ci := 3) (v := .int (nI S.1)) (C := R_M) (T := F_M) (N := 21) hx hb hts i_M hown hK hP 0 rfl rfl 1 (by decide) (hts _ kw_239) (fun _ h9 => h9) rfl d_M_isBin_4 ?_
  refine lv_i2l (v := lN S.1) hx hb d_M_isBin_7 (nI_l (by omega)) ?_
  refine lv_lconst (v := lN 1) hx hb d_M_isBin_8 rfl ?_
  refine lv_lsub hx hb d_M_isBin_9 ?_
  rw [lN_sub hG1]
  refine vp_callSi (va_runS (As := [.long x.toInt64, .long (lN 0), .long (lN (S.1 - 1))]) (rest := []) ⟨hx, hb, hml, hown, hts⟩ (c_M_isIn l D x.toInt64 (lN 0) (lN (S.1 - 1))) (cwS 3 hts (tb_inS kw_309 kw_310 kw_4 kw_311) rfl rfl rfl (by decide +kernel) ⟨Nat.le_of_ble_eq_true rfl, Nat.le_of_ble_eq_true rfl⟩) (gt_PreP_S gt_T_mv gt_P0 trivial) rfl rfl hl.1 rfl (lv_room (Nat.le_of_ble_eq_true rfl)) d_M_isBin_10 ⟨Nat.zero_le _, Nat.zero_le _⟩).run (fun r hr => ?_)
  exact hret _ _ _ d_M_isBin_13 hr.zo ((hr.iff (gt_num_in (by omega) (by omega))).iff ⟨fun ⟨k, _, k2, k3⟩ => ⟨k, by omega, k3⟩, fun ⟨k, k2, k3⟩ => ⟨k, Nat.zero_le _, by omega, k3⟩⟩)
abbrev rm_M_front : Room := { frames := 0, cells := 0, slots := 0, locals := 0 }
set_option maxHeartbeats 4000000 in
set_option maxRecDepth 100000 in
/-- front(i, gate) -/
theorem c_M_front (l : Launch) (D : va_G) (ma : Nat → Nat) (mc : Nat → ClassId) (thr : Int32) (S : gt_SS) (lt : Nat → Int32) (d : gt_Dy) (n now : Nat) (ol : List Nat) (told : Int32) (i g : Nat) (hi : i ≤ 400) (hg : g ≤ 100) : Met l y_M_front w_M_front rm_M_front (gt_PreP D (va_K D gt_cl (gt_Mt mc)) [.ref (ma 0), .int (nI i), .int (nI g)] (gt_MS ma mc thr S lt d n now ol told)) (vp_Sl (fun r => r = lN (gt_fr S.2.1 i g))) 0 0 (fun _ => False) := by
  refine gt_pure_l (own := R_M) (by decide) rfl (Nat.le_of_ble_eq_true rfl) ?_
  intro p e s m below meth c args hx hb hml hown hts hP hK0 Q hret ls hl
  have hl : lv_has ls 3 [(0, .ref (ma 0)), (1, .int (nI i)), (2, .int (nI g))] := hl
  have hK : va_K D gt_cl (gt_Mt mc) s := hK0
  have hP : va_P D gt_cl (gt_MW ma mc thr S.1 n now ol.length told (fun j9 => lN (S.2.1 j9)) (fun j9 => lN (S.2.2.1 j9)) S.2.2.2.1 (fun j9 => nI (d.1 j9).1) (fun j9 => (d.1 j9).2.1) lt (fun j9 => lN (d.1 j9).2.2) (fun g9 => (d.2 g9).1) S.2.2.2.2.1 (fun g9 => (d.2 g9).2.1) (fun g9 => lN (d.2 g9).2.2.1) S.2.2.2.2.2 (fun g9 => (d.2 g9).2.2.2.1) (fun g9 => (d.2 g9).2.2.2.2) (gt_lf ol)) s.heap := hP
  refine lv_aload_n hx hb d_M_front_0 rfl (lv_at hl 0 rfl) ?_
  refine va_get (D := D) (ci := 3) (v := .ref (ma 1)) (C := R_M) (T := F_M) (N := 21) hx hb hts i_M hown hK hP 0 rfl rfl 3 (by decide) (hts _ kw_241) (fun _ h9 => h9) rfl d_M_front_1 ?_
  refine lv_iload_n hx hb d_M_front_4 rfl (lv_at hl 1 rfl) ?_
  refine gt_lald (k := i) hx hb hK hP 1 0 rfl rfl (by omega) (by decide) d_M_front_5 ?_
  refine lv_ldc2 (v := lN 1000) hx hb hown (hts _ kw_333) d_M_front_6 ?_
  refine lv_iload_n hx hb d_M_front_9 rfl (lv_at hl 2 rfl) ?_
  refine lv_i2l (v := lN g) hx hb d_M_front_10 (nI_l (by omega)) ?_
  refine lv_lmul hx hb d_M_front_11 ?_
  refine lv_ladd hx hb d_M_front_12 ?_
  refine lv_ldc2 (v := lN 1000) hx hb hown (hts _ kw_333) d_M_front_13 ?_
  refine lv_ladd hx hb d_M_front_16 ?_
  exact hret _ _ _ d_M_front_17 (by rw [lN_mul, lN_add, lN_add]; unfold gt_fr; rw [show S.2.1 i + 1000 * g + 1000 = S.2.1 i + 1000 * (g + 1) by omega])
theorem gt_MS_yes {ma : Nat → Nat} {mc : Nat → ClassId} {thr : Int32} {S : gt_SS} {lt : Nat → Int32} {d : gt_Dy} {n now : Nat} {ol : List Nat} {told : Int32} {i : Nat} (h : gt_go S i (d.1 i) (d.2 (d.1 i).1) = true) :
    gt_MW ma mc thr S.1 n now ol.length told (fun i => lN (S.2.1 i)) (fun i => lN (S.2.2.1 i)) S.2.2.2.1 (fun i => nI (d.1 i).1) (upd (fun i => (d.1 i).2.1) i (nI (d.1 i).1)) lt (vp_updL (fun i => lN (d.1 i).2.2) i (lN (gt_fr S.2.1 i (d.1 i).1))) (upd (fun g => (d.2 g).1) (d.1 i).1 1) S.2.2.2.2.1 (upd (fun g => (d.2 g).2.1) (d.1 i).1 1) (vp_updL (fun g => lN (d.2 g).2.2.1) (d.1 i).1 (lN (gt_fr S.2.1 i (d.1 i).1 + S.2.2.1 i))) S.2.2.2.2.2 (upd (fun g => (d.2 g).2.2.2.1) (d.1 i).1 ((d.2 (d.1 i).1).2.2.2.1 + 1)) (upd (fun g => (d.2 g).2.2.2.2) (d.1 i).1 ((d.2 (d.1 i).1).2.2.2.2 + 1)) (gt_lf ol) = gt_MS ma mc thr S lt (gt_act S d i) n now ol told := by
  rw [gt_act_yes h]
  unfold gt_MS
  generalize hx : ((d.1 i).1, nI (d.1 i).1, gt_fr S.2.1 i (d.1 i).1) = x
  generalize hy : ((1 : Int32), (1 : Int32), gt_fr S.2.1 i (d.1 i).1 + S.2.2.1 i, (d.2 (d.1 i).1).2.2.2.1 + 1, (d.2 (d.1 i).1).2.2.2.2 + 1) = y
  rw [gt_upM (fun q : gt_IS => q.2.1) d.1 i x _ (by rw [← hx]), gt_upL (fun q : gt_IS => lN q.2.2) d.1 i x _ (by rw [← hx]), gt_upM (fun q : gt_GS => q.1) d.2 (d.1 i).1 y _ (by rw [← hy]), gt_upM (fun q : gt_GS => q.2.1) d.2 (d.1 i).1 y _ (by rw [← hy]), gt_upL (fun q : gt_GS => lN q.2.2.1) d.2 (d.1 i).1 y _ (by rw [← hy]), gt_upM (fun q : gt_GS => q.2.2.2.1) d.2 (d.1 i).1 y _ (by rw [← hy]), gt_upM (fun q : gt_GS => q.2.2.2.2) d.2 (d.1 i).1 y _ (by rw [← hy]), gt_upK (fun q : gt_IS => nI q.1) d.1 i x (by rw [← hx])]
theorem gt_MS_no {ma : Nat → Nat} {mc : Nat → ClassId} {thr : Int32} {S : gt_SS} {lt : Nat → Int32} {d : gt_Dy} {n now : Nat} {ol : List Nat} {told : Int32} {i : Nat} (h : ¬ gt_go S i (d.1 i) (d.2 (d.1 i).1) = true) :
    gt_MW ma mc thr S.1 n now ol.length told (fun i => lN (S.2.1 i)) (fun i => lN (S.2.2.1 i)) S.2.2.2.1 (upd (fun i => nI (d.1 i).1) i (nI ((d.1 i).1 + 1))) (fun i => (d.1 i).2.1) lt (fun i => lN (d.1 i).2.2) (upd (fun g => (d.2 g).1) (d.1 i).1 0) S.2.2.2.2.1 (upd (fun g => (d.2 g).2.1) (d.1 i).1 1) (vp_updL (fun g => lN (d.2 g).2.2.1) (d.1 i).1 (lN (gt_fr S.2.1 i (d.1 i).1 + S.2.2.1 i))) S.2.2.2.2.2 (fun g => (d.2 g).2.2.2.1) (fun g => (d.2 g).2.2.2.2) (gt_lf ol) = gt_MS ma mc thr S lt (gt_act S d i) n now ol told := by
  rw [gt_act_no h]
  unfold gt_MS
  generalize hx : ((d.1 i).1 + 1, (d.1 i).2) = x
  generalize hy : ((0 : Int32), (1 : Int32), gt_fr S.2.1 i (d.1 i).1 + S.2.2.1 i, (d.2 (d.1 i).1).2.2.2) = y
  rw [gt_upM (fun q : gt_IS => nI q.1) d.1 i x _ (by rw [← hx]), gt_upK (fun q : gt_IS => q.2.1) d.1 i x (by rw [← hx]), gt_upK (fun q : gt_IS => lN q.2.2) d.1 i x (by rw [← hx]), gt_upM (fun q : gt_GS => q.1) d.2 (d.1 i).1 y _ (by rw [← hy]), gt_upM (fun q : gt_GS => q.2.1) d.2 (d.1 i).1 y _ (by rw [← hy]), gt_upL (fun q : gt_GS => lN q.2.2.1) d.2 (d.1 i).1 y _ (by rw [← hy]), gt_upK (fun q : gt_GS => q.2.2.2.1) d.2 (d.1 i).1 y (by rw [← hy]), gt_upK (fun q : gt_GS => q.2.2.2.2) d.2 (d.1 i).1 y (by rw [← hy])]
/-- the reference's words for gt_go -/
theorem gt_go_m {S : gt_SS} {i : Nat} {p : gt_IS} {q : gt_GS} : gt_go S i p q = true ↔ (p.1 = S.1 ∨ ((S.2.2.2.2.1 p.1 = 0 ∧ (q.2.1 = 0 ∨ q.2.2.1 + 200 ≤ gt_fr S.2.1 i p.1)) ∧ (p.1 < S.1 ∧ S.2.2.2.1 i = nI p.1 ∧ q.2.2.2.1 < S.2.2.2.2.2 p.1)) ∨ (¬ (S.2.2.2.2.1 p.1 = 0 ∧ (q.2.1 = 0 ∨ q.2.2.1 + 200 ≤ gt_fr S.2.1 i p.1)) ∧ ¬ q.1 = 0)) := by
  unfold gt_go
  have hm : gt_may S p.1 (gt_fr S.2.1 i p.1) q = true ↔ (S.2.2.2.2.1 p.1 = 0 ∧ (q.2.1 = 0 ∨ q.2.2.1 + 200 ≤ gt_fr S.2.1 i p.1)) := by
    unfold gt_may
    simp
  have hw : gt_want S i p.1 q = true ↔ (p.1 < S.1 ∧ S.2.2.2.1 i = nI p.1 ∧ q.2.2.2.1 < S.2.2.2.2.2 p.1) := by
    unfold gt_want
    simp
  by_cases h : gt_may S p.1 (gt_fr S.2.1 i p.1) q = true
  · rw [if_pos h, Bool.or_eq_true, decide_eq_true_eq, hw]
    rw [hm] at h
    constructor
    · rintro (a | a)
      · exact Or.inl a
      · exact Or.inr (Or.inl ⟨h, a⟩)
    · rintro (a | ⟨_, a⟩ | ⟨a, _⟩)
      · exact Or.inl a
      · exact Or.inr a
      · exact absurd h a
  · rw [if_neg h, Bool.or_eq_true, decide_eq_true_eq]
    rw [hm] at h
    have e : (!decide (q.1 = 0)) = true ↔ ¬ q.1 = 0 := by simp
    rw [e]
    constructor
    · rintro (a | a)
      · exact Or.inl a
      · exact Or.inr (Or.inr ⟨h, a⟩)
    · rintro (a | ⟨a, _⟩ | ⟨_, a⟩)
      · exact Or.inl a
      · exact absurd a h
      · exact Or.inr a
abbrev rm_M_at : Room := { frames := 1, cells := 0, slots := 0, locals := 22 }
set_option maxHeartbeats 4000000 in
set_option maxRecDepth 100000 in
/-- at(i, gate) -/
theorem c_M_at (l : Launch) (D : va_G) (sz : Nat) (ma : Nat → Nat) (mc : Nat → ClassId) (thr : Int32) (S : gt_SS) (lt : Nat → Int32) (d : gt_Dy) (n now : Nat) (ol : List Nat) (told : Int32) (i : Nat) (h1 : 1 ≤ i) (h2 : i ≤ n) (hn : n ≤ 400) (hG : S.1 ≤ 12) (hnx : (d.1 i).1 ≤ S.1) (hgs : ∀ g, g ≤ S.1 → gt_HG (d.2 g)) (hfr : gt_fr S.2.1 i (d.1 i).1 ≤ 1000000000) : Met l y_M_at w_M_at rm_M_at (gt_Pre D (va_K D gt_cl (gt_Mt mc)) [.ref (ma 0), .int (nI i), .int (nI (d.1 i).1)] (gt_MS ma mc thr S lt d n now ol told) sz) (gt_Qv D (gt_MS ma mc thr S lt d n now ol told) sz (fun _ : Unit => True) (fun _ : Unit => gt_MS ma mc thr S lt (gt_act S d i) n now ol told)) 0 0 (va_A (gt_MS ma mc thr S lt d n now ol told) sz) := by
  refine gt_mut_v (own := R_M) (by decide) rfl (Nat.le_of_ble_eq_true rfl) ?_
  intro p e s m below meth c args A hx hb hml hown hnm hts hP hK0 hD hA Q hret ls hl
  have hS : va_S A s.heap s.heap [] := va_S.rf
  have hl : lv_has ls 7 [(0, .ref (ma 0)), (1, .int (nI i)), (2, .int (nI (d.1 i).1))] := hl
  have hK : va_K D gt_cl (gt_Mt mc) s := hK0
  have hg0 := hgs (d.1 i).1 hnx
  have hg3 := hg0.2.2
  refine lv_aload_n hx hb d_M_at_0 rfl (lv_at hl 0 rfl) ?_
  refine lv_iload_n hx hb d_M_at_1 rfl (lv_at hl 1 rfl) ?_
  refine lv_iload_n hx hb d_M_at_2 rfl (lv_at hl 2 rfl) ?_
  refine vp_callSl (va_runV (As := [.int (nI i), .int (nI (d.1 i).1)]) (rest := []) ⟨hx, hb, hml, hown, hts⟩ (c_M_front l D ma mc thr S lt d n now ol told i (d.1 i).1 (by omega) (by omega)) (cwV 2 hts (tb_inV kw_329 kw_331 ks_M_front kw_4 kw_332) rfl rfl rfl (by decide +kernel) ⟨Nat.le_of_ble_eq_true rfl, Nat.le_of_ble_eq_true rfl⟩) (gt_PreP_V gt_K_mv (va_recv hK hP (ci := 3) (q0 := 0) rfl rfl) hP hK) rfl rfl hl.1 rfl (lv_room (Nat.le_of_ble_eq_true rfl)) d_M_at_3 ⟨Nat.zero_le _, Nat.zero_le _⟩).run (fun r hr => ?_)
  subst hr
  have hP : va_P D gt_cl (gt_MW ma mc thr S.1 n now ol.length told (fun j9 => lN (S.2.1 j9)) (fun j9 => lN (S.2.2.1 j9)) S.2.2.2.1 (fun j9 => nI (d.1 j9).1) (fun j9 => (d.1 j9).2.1) lt (fun j9 => lN (d.1 j9).2.2) (fun g9 => (d.2 g9).1) S.2.2.2.2.1 (fun g9 => (d.2 g9).2.1) (fun g9 => lN (d.2 g9).2.2.1) S.2.2.2.2.2 (fun g9 => (d.2 g9).2.2.2.1) (fun g9 => (d.2 g9).2.2.2.2) (gt_lf ol)) s.heap := hP
  have hD : va_D A (gt_MW ma mc thr S.1 n now ol.length told (fun j9 => lN (S.2.1 j9)) (fun j9 => lN (S.2.2.1 j9)) S.2.2.2.1 (fun j9 => nI (d.1 j9).1) (fun j9 => (d.1 j9).2.1) lt (fun j9 => lN (d.1 j9).2.2) (fun g9 => (d.2 g9).1) S.2.2.2.2.1 (fun g9 => (d.2 g9).2.1) (fun g9 => lN (d.2 g9).2.2.1) S.2.2.2.2.2 (fun g9 => (d.2 g9).2.2.2.1) (fun g9 => (d.2 g9).2.2.2.2) (gt_lf ol)) := hD
  refine lv_lstore_n (lv' := [(3, .long (lN (gt_fr S.2.1 i (d.1 i).1))), (0, .ref (ma 0)), (1, .int (nI i)), (2, .int (nI (d.1 i).1))]) hx hb d_M_at_6 rfl hl (by decide) rfl (fun ls hl => ?_)
  refine lv_iload_n hx hb d_M_at_7 rfl (lv_at hl 3 rfl) ?_
  refine lv_aload_n hx hb d_M_at_8 rfl (lv_at hl 1 rfl) ?_
  refine va_get (D := D) (ci := 3) (v := .int (nI S.1)) (C := R_M) (T := F_M) (N := 21) hx hb hts i_M hown hK hP 0 rfl rfl 1 (by decide) (hts _ kw_239) (fun _ h9 => h9) rfl d_M_at_9 ?_
  have J1 : ∀ wa : Int32, gt_Bit wa ((d.1 i).1 < S.1 ∧ S.2.2.2.1 i = nI (d.1 i).1 ∧ (d.2 (d.1 i).1).2.2.2.1 < S.2.2.2.2.2 (d.1 i).1) → W p l e rm_M_at s m args below meth c s.heap [] 0 0 Q (F0 m 45 ls [.int wa]) := by
    intro wa hwa
    refine lv_istore (lv' := [(5, .int wa), (3, .long (lN (gt_fr S.2.1 i (d.1 i).1))), (0, .ref (ma 0)), (1, .int (nI i)), (2, .int (nI (d.1 i).1))]) hx hb d_M_at_45 hl (by decide) rfl (fun ls hl => ?_)
    have J2 : ∀ my : Int32, gt_Bit my (S.2.2.2.2.1 (d.1 i).1 = 0 ∧ ((d.2 (d.1 i).1).2.1 = 0 ∨ (d.2 (d.1 i).1).2.2.1 + 200 ≤ gt_fr S.2.1 i (d.1 i).1)) → W p l e rm_M_at s m args below meth c s.heap [] 0 0 Q (F0 m 85 ls [.int my]) := by
      intro my hmy
      refine lv_istore (lv' := [(6, .int my), (5, .int wa), (3, .long (lN (gt_fr S.2.1 i (d.1 i).1))), (0, .ref (ma 0)), (1, .int (nI i)), (2, .int (nI (d.1 i).1))]) hx hb d_M_at_85 hl (by decide) rfl (fun ls hl => ?_)
      refine lv_aload_n hx hb d_M_at_87 rfl (lv_at hl 3 rfl) ?_
      refine va_get (D := D) (ci := 3) (v := .ref (ma 8)) (C := R_M) (T := F_M) (N := 21) hx hb hts i_M hown hK hP 0 rfl rfl 10 (by decide) (hts _ kw_248) (fun _ h9 => h9) rfl d_M_at_88 ?_
      refine lv_iload_n hx hb d_M_at_91 rfl (lv_at hl 5 rfl) ?_
      refine lv_iload_n hx hb d_M_at_92 rfl (lv_at hl 5 rfl) ?_
      refine lv_aload_n hx hb d_M_at_93 rfl (lv_at hl 3 rfl) ?_
      refine va_get (D := D) (ci := 3) (v := .int (nI S.1)) (C := R_M) (T := F_M) (N := 21) hx hb hts i_M hown hK hP 0 rfl rfl 1 (by decide) (hts _ kw_239) (fun _ h9 => h9) rfl d_M_at_94 ?_
      have J3 : ∀ op : Int32, gt_Bit op (gt_go S i (d.1 i) (d.2 (d.1 i).1) = true) → W p l e rm_M_at s m args below meth c s.heap [] 0 0 Q (F0 m 127 ls [.int op, .int (nI (d.1 i).1), .ref (ma 8)]) := by
        intro op hop
        refine gt_zast (k := (d.1 i).1) hx hb hK hP hD hS 8 7 rfl rfl (by omega) (by decide) hop.zo d_M_at_127 (fun H locs hP hD hS => ?_)
        have hP : va_P D gt_cl (gt_MW ma mc thr S.1 n now ol.length told (fun j9 => lN (S.2.1 j9)) (fun j9 => lN (S.2.2.1 j9)) S.2.2.2.1 (fun j9 => nI (d.1 j9).1) (fun j9 => (d.1 j9).2.1) lt (fun j9 => lN (d.1 j9).2.2) (upd (fun g9 => (d.2 g9).1) ((d.1 i).1) op) S.2.2.2.2.1 (fun g9 => (d.2 g9).2.1) (fun g9 => lN (d.2 g9).2.2.1) S.2.2.2.2.2 (fun g9 => (d.2 g9).2.2.2.1) (fun g9 => (d.2 g9).2.2.2.2) (gt_lf ol)) H := hP
        have hD : va_D A (gt_MW ma mc thr S.1 n now ol.length told (fun j9 => lN (S.2.1 j9)) (fun j9 => lN (S.2.2.1 j9)) S.2.2.2.1 (fun j9 => nI (d.1 j9).1) (fun j9 => (d.1 j9).2.1) lt (fun j9 => lN (d.1 j9).2.2) (upd (fun g9 => (d.2 g9).1) ((d.1 i).1) op) S.2.2.2.2.1 (fun g9 => (d.2 g9).2.1) (fun g9 => lN (d.2 g9).2.2.1) S.2.2.2.2.2 (fun g9 => (d.2 g9).2.2.2.1) (fun g9 => (d.2 g9).2.2.2.2) (gt_lf ol)) := hD
        refine lv_aload_n hx hb d_M_at_128 rfl (lv_at hl 3 rfl) ?_
        refine va_get (D := D) (ci := 3) (v := .ref (ma 10)) (C := R_M) (T := F_M) (N := 21) hx hb hts i_M hown hK hP 0 rfl rfl 12 (by decide) (hts _ kw_250) (fun _ h9 => h9) rfl d_M_at_129 ?_
        refine lv_iload_n hx hb d_M_at_132 rfl (lv_at hl 5 rfl) ?_
        refine lv_iconst (v := 1) hx hb d_M_at_133 (by decide) ?_
        refine gt_zast (k := (d.1 i).1) hx hb hK hP hD hS 10 9 rfl rfl (by omega) (by decide) (Or.inr rfl) d_M_at_134 (fun H locs hP hD hS => ?_)
        have hP : va_P D gt_cl (gt_MW ma mc thr S.1 n now ol.length told (fun j9 => lN (S.2.1 j9)) (fun j9 => lN (S.2.2.1 j9)) S.2.2.2.1 (fun j9 => nI (d.1 j9).1) (fun j9 => (d.1 j9).2.1) lt (fun j9 => lN (d.1 j9).2.2) (upd (fun g9 => (d.2 g9).1) ((d.1 i).1) op) S.2.2.2.2.1 (upd (fun g9 => (d.2 g9).2.1) ((d.1 i).1) 1) (fun g9 => lN (d.2 g9).2.2.1) S.2.2.2.2.2 (fun g9 => (d.2 g9).2.2.2.1) (fun g9 => (d.2 g9).2.2.2.2) (gt_lf ol)) H := hP
        have hD : va_D A (gt_MW ma mc thr S.1 n now ol.length told (fun j9 => lN (S.2.1 j9)) (fun j9 => lN (S.2.2.1 j9)) S.2.2.2.1 (fun j9 => nI (d.1 j9).1) (fun j9 => (d.1 j9).2.1) lt (fun j9 => lN (d.1 j9).2.2) (upd (fun g9 => (d.2 g9).1) ((d.1 i).1) op) S.2.2.2.2.1 (upd (fun g9 => (d.2 g9).2.1) ((d.1 i).1) 1) (fun g9 => lN (d.2 g9).2.2.1) S.2.2.2.2.2 (fun g9 => (d.2 g9).2.2.2.1) (fun g9 => (d.2 g9).2.2.2.2) (gt_lf ol)) := hD
        refine lv_aload_n hx hb d_M_at_135 rfl (lv_at hl 3 rfl) ?_
        refine va_get (D := D) (ci := 3) (v := .ref (ma 11)) (C := R_M) (T := F_M) (N := 21) hx hb hts i_M hown hK hP 0 rfl rfl 13 (by decide) (hts _ kw_251) (fun _ h9 => h9) rfl d_M_at_136 ?_
        refine lv_iload_n hx hb d_M_at_139 rfl (lv_at hl 5 rfl) ?_
        refine lv_lload_n hx hb d_M_at_140 rfl (lv_at hl 2 rfl) ?_
        refine lv_aload_n hx hb d_M_at_141 rfl (lv_at hl 3 rfl) ?_
        refine va_get (D := D) (ci := 3) (v := .ref (ma 2)) (C := R_M) (T := F_M) (N := 21) hx hb hts i_M hown hK hP 0 rfl rfl 4 (by decide) (hts _ kw_242) (fun _ h9 => h9) rfl d_M_at_142 ?_
        refine lv_iload_n hx hb d_M_at_145 rfl (lv_at hl 4 rfl) ?_
        refine gt_lald (k := i) hx hb hK hP 2 1 rfl rfl (by omega) (by decide) d_M_at_146 ?_
        refine lv_ladd hx hb d_M_at_147 ?_
        rw [lN_add]
        refine gt_last (k := (d.1 i).1) hx hb hK hP hD hS 11 10 rfl rfl (by omega) (by decide) d_M_at_148 (fun H locs hP hD hS => ?_)
        have hP : va_P D gt_cl (gt_MW ma mc thr S.1 n now ol.length told (fun j9 => lN (S.2.1 j9)) (fun j9 => lN (S.2.2.1 j9)) S.2.2.2.1 (fun j9 => nI (d.1 j9).1) (fun j9 => (d.1 j9).2.1) lt (fun j9 => lN (d.1 j9).2.2) (upd (fun g9 => (d.2 g9).1) ((d.1 i).1) op) S.2.2.2.2.1 (upd (fun g9 => (d.2 g9).2.1) ((d.1 i).1) 1) (vp_updL (fun g9 => lN (d.2 g9).2.2.1) ((d.1 i).1) (lN (gt_fr S.2.1 i (d.1 i).1 + S.2.2.1 i))) S.2.2.2.2.2 (fun g9 => (d.2 g9).2.2.2.1) (fun g9 => (d.2 g9).2.2.2.2) (gt_lf ol)) H := hP
        have hD : va_D A (gt_MW ma mc thr S.1 n now ol.length told (fun j9 => lN (S.2.1 j9)) (fun j9 => lN (S.2.2.1 j9)) S.2.2.2.1 (fun j9 => nI (d.1 j9).1) (fun j9 => (d.1 j9).2.1) lt (fun j9 => lN (d.1 j9).2.2) (upd (fun g9 => (d.2 g9).1) ((d.1 i).1) op) S.2.2.2.2.1 (upd (fun g9 => (d.2 g9).2.1) ((d.1 i).1) 1) (vp_updL (fun g9 => lN (d.2 g9).2.2.1) ((d.1 i).1) (lN (gt_fr S.2.1 i (d.1 i).1 + S.2.2.1 i))) S.2.2.2.2.2 (fun g9 => (d.2 g9).2.2.2.1) (fun g9 => (d.2 g9).2.2.2.2) (gt_lf ol)) := hD
        refine lv_aload_n hx hb d_M_at_149 rfl (lv_at hl 3 rfl) ?_
        refine va_get (D := D) (ci := 3) (v := .ref (ma 8)) (C := R_M) (T := F_M) (N := 21) hx hb hts i_M hown hK hP 0 rfl rfl 10 (by decide) (hts _ kw_248) (fun _ h9 => h9) rfl d_M_at_150 ?_
        refine lv_iload_n hx hb d_M_at_153 rfl (lv_at hl 5 rfl) ?_
        refine gt_zald (k := (d.1 i).1) hx hb hK hP 8 7 rfl rfl (by omega) (by decide) d_M_at_154 ?_
        rw [pk_us]
        refine lv_if_eq (tgt := 195) hx hb d_M_at_155 (by decide) (fun c11 => ?_) (fun c11 => ?_)
        · have hgo := hop.no c11
          subst c11
          refine lv_aload_n hx hb d_M_at_195 rfl (lv_at hl 3 rfl) ?_
          refine va_get (D := D) (ci := 3) (v := .ref (ma 4)) (C := R_M) (T := F_M) (N := 21) hx hb hts i_M hown hK hP 0 rfl rfl 6 (by decide) (hts _ kw_244) (fun _ h9 => h9) rfl d_M_at_196 ?_
          refine lv_iload_n hx hb d_M_at_199 rfl (lv_at hl 4 rfl) ?_
          refine lv_dup2_11 hx hb d_M_at_200 rfl rfl ?_
          refine gt_iald (k := i) hx hb hK hP 4 3 rfl rfl (by omega) (by decide) d_M_at_201 ?_
          refine lv_iconst (v := 1) hx hb d_M_at_202 (by decide) ?_
          refine lv_iadd hx hb d_M_at_203 ?_
          rw [nI_1]
          refine gt_iast (k := i) hx hb hK hP hD hS 4 3 rfl rfl (by omega) (by decide) d_M_at_204 (fun H locs hP hD hS => ?_)
          have hP : va_P D gt_cl (gt_MW ma mc thr S.1 n now ol.length told (fun j9 => lN (S.2.1 j9)) (fun j9 => lN (S.2.2.1 j9)) S.2.2.2.1 (upd (fun j9 => nI (d.1 j9).1) i (nI ((d.1 i).1 + 1))) (fun j9 => (d.1 j9).2.1) lt (fun j9 => lN (d.1 j9).2.2) (upd (fun g9 => (d.2 g9).1) (d.1 i).1 0) S.2.2.2.2.1 (upd (fun g9 => (d.2 g9).2.1) ((d.1 i).1) 1) (vp_updL (fun g9 => lN (d.2 g9).2.2.1) ((d.1 i).1) (lN (gt_fr S.2.1 i (d.1 i).1 + S.2.2.1 i))) S.2.2.2.2.2 (fun g9 => (d.2 g9).2.2.2.1) (fun g9 => (d.2 g9).2.2.2.2) (gt_lf ol)) H := hP
          have hD : va_D A (gt_MW ma mc thr S.1 n now ol.length told (fun j9 => lN (S.2.1 j9)) (fun j9 => lN (S.2.2.1 j9)) S.2.2.2.1 (upd (fun j9 => nI (d.1 j9).1) i (nI ((d.1 i).1 + 1))) (fun j9 => (d.1 j9).2.1) lt (fun j9 => lN (d.1 j9).2.2) (upd (fun g9 => (d.2 g9).1) (d.1 i).1 0) S.2.2.2.2.1 (upd (fun g9 => (d.2 g9).2.1) ((d.1 i).1) 1) (vp_updL (fun g9 => lN (d.2 g9).2.2.1) ((d.1 i).1) (lN (gt_fr S.2.1 i (d.1 i).1 + S.2.2.1 i))) S.2.2.2.2.2 (fun g9 => (d.2 g9).2.2.2.1) (fun g9 => (d.2 g9).2.2.2.2) (gt_lf ol)) := hD
          rw [gt_MS_no hgo] at hP hD
          exact hret _ _ _ _ () d_M_at_205 trivial hP hD hS
        · have hgo := hop.yes c11
          obtain rfl : op = 1 := hop.zo.resolve_left c11
          refine lv_aload_n hx hb d_M_at_158 rfl (lv_at hl 3 rfl) ?_
          refine va_get (D := D) (ci := 3) (v := .ref (ma 5)) (C := R_M) (T := F_M) (N := 21) hx hb hts i_M hown hK hP 0 rfl rfl 7 (by decide) (hts _ kw_245) (fun _ h9 => h9) rfl d_M_at_159 ?_
          refine lv_iload_n hx hb d_M_at_162 rfl (lv_at hl 4 rfl) ?_
          refine lv_iload_n hx hb d_M_at_163 rfl (lv_at hl 5 rfl) ?_
          refine gt_iast (k := i) hx hb hK hP hD hS 5 4 rfl rfl (by omega) (by decide) d_M_at_164 (fun H locs hP hD hS => ?_)
          have hP : va_P D gt_cl (gt_MW ma mc thr S.1 n now ol.length told (fun j9 => lN (S.2.1 j9)) (fun j9 => lN (S.2.2.1 j9)) S.2.2.2.1 (fun j9 => nI (d.1 j9).1) (upd (fun j9 => (d.1 j9).2.1) i (nI (d.1 i).1)) lt (fun j9 => lN (d.1 j9).2.2) (upd (fun g9 => (d.2 g9).1) (d.1 i).1 1) S.2.2.2.2.1 (upd (fun g9 => (d.2 g9).2.1) ((d.1 i).1) 1) (vp_updL (fun g9 => lN (d.2 g9).2.2.1) ((d.1 i).1) (lN (gt_fr S.2.1 i (d.1 i).1 + S.2.2.1 i))) S.2.2.2.2.2 (fun g9 => (d.2 g9).2.2.2.1) (fun g9 => (d.2 g9).2.2.2.2) (gt_lf ol)) H := hP
          have hD : va_D A (gt_MW ma mc thr S.1 n now ol.length told (fun j9 => lN (S.2.1 j9)) (fun j9 => lN (S.2.2.1 j9)) S.2.2.2.1 (fun j9 => nI (d.1 j9).1) (upd (fun j9 => (d.1 j9).2.1) i (nI (d.1 i).1)) lt (fun j9 => lN (d.1 j9).2.2) (upd (fun g9 => (d.2 g9).1) (d.1 i).1 1) S.2.2.2.2.1 (upd (fun g9 => (d.2 g9).2.1) ((d.1 i).1) 1) (vp_updL (fun g9 => lN (d.2 g9).2.2.1) ((d.1 i).1) (lN (gt_fr S.2.1 i (d.1 i).1 + S.2.2.1 i))) S.2.2.2.2.2 (fun g9 => (d.2 g9).2.2.2.1) (fun g9 => (d.2 g9).2.2.2.2) (gt_lf ol)) := hD
          refine lv_aload_n hx hb d_M_at_165 rfl (lv_at hl 3 rfl) ?_
          refine va_get (D := D) (ci := 3) (v := .ref (ma 7)) (C := R_M) (T := F_M) (N := 21) hx hb hts i_M hown hK hP 0 rfl rfl 9 (by decide) (hts _ kw_247) (fun _ h9 => h9) rfl d_M_at_166 ?_
          refine lv_iload_n hx hb d_M_at_169 rfl (lv_at hl 4 rfl) ?_
          refine lv_lload_n hx hb d_M_at_170 rfl (lv_at hl 2 rfl) ?_
          refine gt_last (k := i) hx hb hK hP hD hS 7 6 rfl rfl (by omega) (by decide) d_M_at_171 (fun H locs hP hD hS => ?_)
          have hP : va_P D gt_cl (gt_MW ma mc thr S.1 n now ol.length told (fun j9 => lN (S.2.1 j9)) (fun j9 => lN (S.2.2.1 j9)) S.2.2.2.1 (fun j9 => nI (d.1 j9).1) (upd (fun j9 => (d.1 j9).2.1) i (nI (d.1 i).1)) lt (vp_updL (fun j9 => lN (d.1 j9).2.2) i (lN (gt_fr S.2.1 i (d.1 i).1))) (upd (fun g9 => (d.2 g9).1) (d.1 i).1 1) S.2.2.2.2.1 (upd (fun g9 => (d.2 g9).2.1) ((d.1 i).1) 1) (vp_updL (fun g9 => lN (d.2 g9).2.2.1) ((d.1 i).1) (lN (gt_fr S.2.1 i (d.1 i).1 + S.2.2.1 i))) S.2.2.2.2.2 (fun g9 => (d.2 g9).2.2.2.1) (fun g9 => (d.2 g9).2.2.2.2) (gt_lf ol)) H := hP
          have hD : va_D A (gt_MW ma mc thr S.1 n now ol.length told (fun j9 => lN (S.2.1 j9)) (fun j9 => lN (S.2.2.1 j9)) S.2.2.2.1 (fun j9 => nI (d.1 j9).1) (upd (fun j9 => (d.1 j9).2.1) i (nI (d.1 i).1)) lt (vp_updL (fun j9 => lN (d.1 j9).2.2) i (lN (gt_fr S.2.1 i (d.1 i).1))) (upd (fun g9 => (d.2 g9).1) (d.1 i).1 1) S.2.2.2.2.1 (upd (fun g9 => (d.2 g9).2.1) ((d.1 i).1) 1) (vp_updL (fun g9 => lN (d.2 g9).2.2.1) ((d.1 i).1) (lN (gt_fr S.2.1 i (d.1 i).1 + S.2.2.1 i))) S.2.2.2.2.2 (fun g9 => (d.2 g9).2.2.2.1) (fun g9 => (d.2 g9).2.2.2.2) (gt_lf ol)) := hD
          refine lv_aload_n hx hb d_M_at_172 rfl (lv_at hl 3 rfl) ?_
          refine va_get (D := D) (ci := 3) (v := .ref (ma 13)) (C := R_M) (T := F_M) (N := 21) hx hb hts i_M hown hK hP 0 rfl rfl 15 (by decide) (hts _ kw_253) (fun _ h9 => h9) rfl d_M_at_173 ?_
          refine lv_iload_n hx hb d_M_at_176 rfl (lv_at hl 5 rfl) ?_
          refine lv_dup2_11 hx hb d_M_at_177 rfl rfl ?_
          refine gt_iald (k := (d.1 i).1) hx hb hK hP 13 12 rfl rfl (by omega) (by decide) d_M_at_178 ?_
          refine lv_iconst (v := 1) hx hb d_M_at_179 (by decide) ?_
          refine lv_iadd hx hb d_M_at_180 ?_
          refine gt_iast (k := (d.1 i).1) hx hb hK hP hD hS 13 12 rfl rfl (by omega) (by decide) d_M_at_181 (fun H locs hP hD hS => ?_)
          have hP : va_P D gt_cl (gt_MW ma mc thr S.1 n now ol.length told (fun j9 => lN (S.2.1 j9)) (fun j9 => lN (S.2.2.1 j9)) S.2.2.2.1 (fun j9 => nI (d.1 j9).1) (upd (fun j9 => (d.1 j9).2.1) i (nI (d.1 i).1)) lt (vp_updL (fun j9 => lN (d.1 j9).2.2) i (lN (gt_fr S.2.1 i (d.1 i).1))) (upd (fun g9 => (d.2 g9).1) (d.1 i).1 1) S.2.2.2.2.1 (upd (fun g9 => (d.2 g9).2.1) ((d.1 i).1) 1) (vp_updL (fun g9 => lN (d.2 g9).2.2.1) ((d.1 i).1) (lN (gt_fr S.2.1 i (d.1 i).1 + S.2.2.1 i))) S.2.2.2.2.2 (upd (fun g9 => (d.2 g9).2.2.2.1) ((d.1 i).1) (((d.2 ((d.1 i).1)).2.2.2.1) + 1)) (fun g9 => (d.2 g9).2.2.2.2) (gt_lf ol)) H := hP
          have hD : va_D A (gt_MW ma mc thr S.1 n now ol.length told (fun j9 => lN (S.2.1 j9)) (fun j9 => lN (S.2.2.1 j9)) S.2.2.2.1 (fun j9 => nI (d.1 j9).1) (upd (fun j9 => (d.1 j9).2.1) i (nI (d.1 i).1)) lt (vp_updL (fun j9 => lN (d.1 j9).2.2) i (lN (gt_fr S.2.1 i (d.1 i).1))) (upd (fun g9 => (d.2 g9).1) (d.1 i).1 1) S.2.2.2.2.1 (upd (fun g9 => (d.2 g9).2.1) ((d.1 i).1) 1) (vp_updL (fun g9 => lN (d.2 g9).2.2.1) ((d.1 i).1) (lN (gt_fr S.2.1 i (d.1 i).1 + S.2.2.1 i))) S.2.2.2.2.2 (upd (fun g9 => (d.2 g9).2.2.2.1) ((d.1 i).1) (((d.2 ((d.1 i).1)).2.2.2.1) + 1)) (fun g9 => (d.2 g9).2.2.2.2) (gt_lf ol)) := hD
          refine lv_aload_n hx hb d_M_at_182 rfl (lv_at hl 3 rfl) ?_
          refine va_get (D := D) (ci := 3) (v := .ref (ma 14)) (C := R_M) (T := F_M) (N := 21) hx hb hts i_M hown hK hP 0 rfl rfl 16 (by decide) (hts _ kw_254) (fun _ h9 => h9) rfl d_M_at_183 ?_
          refine lv_iload_n hx hb d_M_at_186 rfl (lv_at hl 5 rfl) ?_
          refine lv_dup2_11 hx hb d_M_at_187 rfl rfl ?_
          refine gt_iald (k := (d.1 i).1) hx hb hK hP 14 13 rfl rfl (by omega) (by decide) d_M_at_188 ?_
          refine lv_iconst (v := 1) hx hb d_M_at_189 (by decide) ?_
          refine lv_iadd hx hb d_M_at_190 ?_
          refine gt_iast (k := (d.1 i).1) hx hb hK hP hD hS 14 13 rfl rfl (by omega) (by decide) d_M_at_191 (fun H locs hP hD hS => ?_)
          have hP : va_P D gt_cl (gt_MW ma mc thr S.1 n now ol.length told (fun j9 => lN (S.2.1 j9)) (fun j9 => lN (S.2.2.1 j9)) S.2.2.2.1 (fun j9 => nI (d.1 j9).1) (upd (fun j9 => (d.1 j9).2.1) i (nI (d.1 i).1)) lt (vp_updL (fun j9 => lN (d.1 j9).2.2) i (lN (gt_fr S.2.1 i (d.1 i).1))) (upd (fun g9 => (d.2 g9).1) (d.1 i).1 1) S.2.2.2.2.1 (upd (fun g9 => (d.2 g9).2.1) ((d.1 i).1) 1) (vp_updL (fun g9 => lN (d.2 g9).2.2.1) ((d.1 i).1) (lN (gt_fr S.2.1 i (d.1 i).1 + S.2.2.1 i))) S.2.2.2.2.2 (upd (fun g9 => (d.2 g9).2.2.2.1) ((d.1 i).1) (((d.2 ((d.1 i).1)).2.2.2.1) + 1)) (upd (fun g9 => (d.2 g9).2.2.2.2) ((d.1 i).1) (((d.2 ((d.1 i).1)).2.2.2.2) + 1)) (gt_lf ol)) H := hP
          have hD : va_D A (gt_MW ma mc thr S.1 n now ol.length told (fun j9 => lN (S.2.1 j9)) (fun j9 => lN (S.2.2.1 j9)) S.2.2.2.1 (fun j9 => nI (d.1 j9).1) (upd (fun j9 => (d.1 j9).2.1) i (nI (d.1 i).1)) lt (vp_updL (fun j9 => lN (d.1 j9).2.2) i (lN (gt_fr S.2.1 i (d.1 i).1))) (upd (fun g9 => (d.2 g9).1) (d.1 i).1 1) S.2.2.2.2.1 (upd (fun g9 => (d.2 g9).2.1) ((d.1 i).1) 1) (vp_updL (fun g9 => lN (d.2 g9).2.2.1) ((d.1 i).1) (lN (gt_fr S.2.1 i (d.1 i).1 + S.2.2.1 i))) S.2.2.2.2.2 (upd (fun g9 => (d.2 g9).2.2.2.1) ((d.1 i).1) (((d.2 ((d.1 i).1)).2.2.2.1) + 1)) (upd (fun g9 => (d.2 g9).2.2.2.2) ((d.1 i).1) (((d.2 ((d.1 i).1)).2.2.2.2) + 1)) (gt_lf ol)) := hD
          refine lv_goto (tgt := 205) hx hb d_M_at_192 (by decide) ?_
          rw [gt_MS_yes hgo] at hP hD
          exact hret _ _ _ _ () d_M_at_205 trivial hP hD hS
      refine lv_icmp_eq (tgt := 122) hx hb d_M_at_97 (by decide) (fun c7 => ?_) (fun c7 => ?_)
      · rw [nI_eq (by omega) (by omega)] at c7
        refine lv_iconst (v := 1) hx hb d_M_at_122 (by decide) ?_
        refine lv_goto (tgt := 127) hx hb d_M_at_123 (by decide) ?_
        exact J3 1 (gt_Bit.t (gt_go_m.mpr (Or.inl c7)))
      · rw [nI_eq (by omega) (by omega)] at c7
        refine lv_iload hx hb d_M_at_100 (lv_at hl 0 rfl) ?_
        refine lv_if_eq (tgt := 113) hx hb d_M_at_102 (by decide) (fun c8 => ?_) (fun c8 => ?_)
        · refine lv_aload_n hx hb d_M_at_113 rfl (lv_at hl 3 rfl) ?_
          refine va_get (D := D) (ci := 3) (v := .ref (ma 8)) (C := R_M) (T := F_M) (N := 21) hx hb hts i_M hown hK hP 0 rfl rfl 10 (by decide) (hts _ kw_248) (fun _ h9 => h9) rfl d_M_at_114 ?_
          refine lv_iload_n hx hb d_M_at_117 rfl (lv_at hl 5 rfl) ?_
          refine gt_zald (k := (d.1 i).1) hx hb hK hP 8 7 rfl rfl (by omega) (by decide) d_M_at_118 ?_
          refine lv_if_eq (tgt := 126) hx hb d_M_at_119 (by decide) (fun c10 => ?_) (fun c10 => ?_)
          · refine lv_iconst (v := 0) hx hb d_M_at_126 (by decide) ?_
            exact J3 0 (gt_Bit.f (fun q => by
              rcases gt_go_m.mp q with q | ⟨q, _⟩ | ⟨_, q⟩
              · exact c7 q
              · exact hmy.no c8 q
              · exact q c10))
          · refine lv_iconst (v := 1) hx hb d_M_at_122 (by decide) ?_
            refine lv_goto (tgt := 127) hx hb d_M_at_123 (by decide) ?_
            exact J3 1 (gt_Bit.t (gt_go_m.mpr (Or.inr (Or.inr ⟨hmy.no c8, c10⟩))))
        · refine lv_iload hx hb d_M_at_105 (lv_at hl 1 rfl) ?_
          refine lv_if_eq (tgt := 126) hx hb d_M_at_107 (by decide) (fun c9 => ?_) (fun c9 => ?_)
          · refine lv_iconst (v := 0) hx hb d_M_at_126 (by decide) ?_
            exact J3 0 (gt_Bit.f (fun q => by
              rcases gt_go_m.mp q with q | ⟨_, q⟩ | ⟨q, _⟩
              · exact c7 q
              · exact hwa.no c9 q
              · exact q (hmy.yes c8)))
          · refine lv_goto (tgt := 122) hx hb d_M_at_110 (by decide) ?_
            refine lv_iconst (v := 1) hx hb d_M_at_122 (by decide) ?_
            refine lv_goto (tgt := 127) hx hb d_M_at_123 (by decide) ?_
            exact J3 1 (gt_Bit.t (gt_go_m.mpr (Or.inr (Or.inl ⟨hmy.yes c8, hwa.yes c9⟩))))
    refine lv_aload_n hx hb d_M_at_47 rfl (lv_at hl 2 rfl) ?_
    refine va_get (D := D) (ci := 3) (v := .ref (ma 9)) (C := R_M) (T := F_M) (N := 21) hx hb hts i_M hown hK hP 0 rfl rfl 11 (by decide) (hts _ kw_249) (fun _ h9 => h9) rfl d_M_at_48 ?_
    refine lv_iload_n hx hb d_M_at_51 rfl (lv_at hl 4 rfl) ?_
    refine gt_zald (k := (d.1 i).1) hx hb hK hP 9 8 rfl rfl (by omega) (by decide) d_M_at_52 ?_
    refine lv_if_ne (tgt := 84) hx hb d_M_at_53 (by decide) (fun c4 => ?_) (fun c4 => ?_)
    · refine lv_iconst (v := 0) hx hb d_M_at_84 (by decide) ?_
      exact J2 0 (gt_Bit.f (fun q => c4 q.1))
    · refine lv_aload_n hx hb d_M_at_56 rfl (lv_at hl 2 rfl) ?_
      refine va_get (D := D) (ci := 3) (v := .ref (ma 10)) (C := R_M) (T := F_M) (N := 21) hx hb hts i_M hown hK hP 0 rfl rfl 12 (by decide) (hts _ kw_250) (fun _ h9 => h9) rfl d_M_at_57 ?_
      refine lv_iload_n hx hb d_M_at_60 rfl (lv_at hl 4 rfl) ?_
      refine gt_zald (k := (d.1 i).1) hx hb hK hP 10 9 rfl rfl (by omega) (by decide) d_M_at_61 ?_
      refine lv_if_eq (tgt := 80) hx hb d_M_at_62 (by decide) (fun c5 => ?_) (fun c5 => ?_)
      · refine lv_iconst (v := 1) hx hb d_M_at_80 (by decide) ?_
        refine lv_goto (tgt := 85) hx hb d_M_at_81 (by decide) ?_
        exact J2 1 (gt_Bit.t ⟨c4, Or.inl c5⟩)
      · refine lv_lload_n hx hb d_M_at_65 rfl (lv_at hl 1 rfl) ?_
        refine lv_aload_n hx hb d_M_at_66 rfl (lv_at hl 2 rfl) ?_
        refine va_get (D := D) (ci := 3) (v := .ref (ma 11)) (C := R_M) (T := F_M) (N := 21) hx hb hts i_M hown hK hP 0 rfl rfl 13 (by decide) (hts _ kw_251) (fun _ h9 => h9) rfl d_M_at_67 ?_
        refine lv_iload_n hx hb d_M_at_70 rfl (lv_at hl 4 rfl) ?_
        refine gt_lald (k := (d.1 i).1) hx hb hK hP 11 10 rfl rfl (by omega) (by decide) d_M_at_71 ?_
        refine lv_lsub hx hb d_M_at_72 ?_
        refine lv_ldc2 (v := lN 200) hx hb hown (hts _ kw_338) d_M_at_73 ?_
        refine W.lcmp hx hb d_M_at_76 ?_
        refine lv_if_lt (tgt := 84) hx hb d_M_at_77 (by decide) (fun c6 => ?_) (fun c6 => ?_)
        · have c6 := (lg_cmp_lt _ _).mp c6
          rw [gt_sub_lt (by omega) (by omega)] at c6
          refine lv_iconst (v := 0) hx hb d_M_at_84 (by decide) ?_
          exact J2 0 (gt_Bit.f (fun q => q.2.elim c5 c6))
        · have c6 : ¬ _ := fun q => c6 ((lg_cmp_lt _ _).mpr q)
          rw [gt_sub_lt (by omega) (by omega)] at c6
          refine lv_iconst (v := 1) hx hb d_M_at_80 (by decide) ?_
          refine lv_goto (tgt := 85) hx hb d_M_at_81 (by decide) ?_
          exact J2 1 (gt_Bit.t ⟨c4, Or.inr (Decidable.not_not.mp c6)⟩)
  refine lv_icmp_ge (tgt := 44) hx hb d_M_at_12 (by decide) (fun c1 => ?_) (fun c1 => ?_)
  · rw [nI_leI (by omega) (by omega)] at c1
    refine lv_iconst (v := 0) hx hb d_M_at_44 (by decide) ?_
    exact J1 0 (gt_Bit.f (fun q => by omega))
  · rw [nI_leI (by omega) (by omega)] at c1
    refine lv_aload_n hx hb d_M_at_15 rfl (lv_at hl 1 rfl) ?_
    refine va_get (D := D) (ci := 3) (v := .ref (ma 3)) (C := R_M) (T := F_M) (N := 21) hx hb hts i_M hown hK hP 0 rfl rfl 5 (by decide) (hts _ kw_243) (fun _ h9 => h9) rfl d_M_at_16 ?_
    refine lv_iload_n hx hb d_M_at_19 rfl (lv_at hl 2 rfl) ?_
    refine gt_iald (k := i) hx hb hK hP 3 2 rfl rfl (by omega) (by decide) d_M_at_20 ?_
    refine lv_iload_n hx hb d_M_at_21 rfl (lv_at hl 3 rfl) ?_
    refine lv_icmp_ne (tgt := 44) hx hb d_M_at_22 (by decide) (fun c2 => ?_) (fun c2 => ?_)
    · refine lv_iconst (v := 0) hx hb d_M_at_44 (by decide) ?_
      exact J1 0 (gt_Bit.f (fun q => c2 q.2.1))
    · refine lv_aload_n hx hb d_M_at_25 rfl (lv_at hl 1 rfl) ?_
      refine va_get (D := D) (ci := 3) (v := .ref (ma 13)) (C := R_M) (T := F_M) (N := 21) hx hb hts i_M hown hK hP 0 rfl rfl 15 (by decide) (hts _ kw_253) (fun _ h9 => h9) rfl d_M_at_26 ?_
      refine lv_iload_n hx hb d_M_at_29 rfl (lv_at hl 3 rfl) ?_
      refine gt_iald (k := (d.1 i).1) hx hb hK hP 13 12 rfl rfl (by omega) (by decide) d_M_at_30 ?_
      refine lv_aload_n hx hb d_M_at_31 rfl (lv_at hl 1 rfl) ?_
      refine va_get (D := D) (ci := 3) (v := .ref (ma 12)) (C := R_M) (T := F_M) (N := 21) hx hb hts i_M hown hK hP 0 rfl rfl 14 (by decide) (hts _ kw_252) (fun _ h9 => h9) rfl d_M_at_32 ?_
      refine lv_iload_n hx hb d_M_at_35 rfl (lv_at hl 3 rfl) ?_
      refine gt_iald (k := (d.1 i).1) hx hb hK hP 12 11 rfl rfl (by omega) (by decide) d_M_at_36 ?_
      refine lv_icmp_ge (tgt := 44) hx hb d_M_at_37 (by decide) (fun c3 => ?_) (fun c3 => ?_)
      · refine lv_iconst (v := 0) hx hb d_M_at_44 (by decide) ?_
        exact J1 0 (gt_Bit.f (fun q => absurd c3 (Int32.not_le.mpr q.2.2)))
      · refine lv_iconst (v := 1) hx hb d_M_at_40 (by decide) ?_
        refine lv_goto (tgt := 45) hx hb d_M_at_41 (by decide) ?_
        exact J1 1 (gt_Bit.t ⟨by omega, c2, Int32.not_le.mp c3⟩)
end
section
/-! THE REFERENCE: time passes. -/
theorem gt_lf_at (ol : List Nat) (k : Nat) : gt_lf ol k = nI (ol.getD k 0) := rfl
/-- the list's array while a place is made at p -/
def gt_hole (ol : List Nat) (p : Nat) : Nat → Int32 := fun k => if k ≤ p then nI (ol.getD k 0) else nI (ol.getD (k - 1) 0)
theorem gt_hole_at {ol : List Nat} {p k : Nat} (h : k ≤ p) : gt_hole ol p k = nI (ol.getD k 0) := if_pos h
theorem gt_getD_out {l : List Nat} {k : Nat} (h : l.length ≤ k) : l.getD k 0 = 0 := by
  rw [List.getD_eq_getElem?_getD, List.getElem?_eq_none h]
  rfl
theorem gt_hole_len (ol : List Nat) : gt_hole ol ol.length = gt_lf ol := by
  funext k
  unfold gt_hole gt_lf
  by_cases h : k ≤ ol.length
  · rw [if_pos h]
  · rw [if_neg h, gt_getD_out (by omega), gt_getD_out (by omega)]
theorem gt_hole_shift (ol : List Nat) (p : Nat) : upd (gt_hole ol (p + 1)) (p + 1) (nI (ol.getD p 0)) = gt_hole ol p := by
  funext k
  unfold upd gt_hole
  by_cases h : k = p + 1
  · rw [if_pos h, if_neg (by omega), show k - 1 = p by omega]
  · rw [if_neg h]
    by_cases h2 : k ≤ p
    · rw [if_pos h2, if_pos (by omega)]
    · rw [if_neg h2, if_neg (by omega)]
theorem gt_hole_fill {ol : List Nat} {p i : Nat} (hp : p ≤ ol.length) : upd (gt_hole ol p) p (nI i) = gt_lf (ol.take p ++ i :: ol.drop p) := by
  have hl : (ol.take p).length = p := by rw [List.length_take]; omega
  funext k
  unfold upd gt_hole gt_lf
  rw [List.getD_eq_getElem?_getD (l := ol.take p ++ i :: ol.drop p)]
  by_cases h : k = p
  · subst h
    rw [if_pos rfl, List.getElem?_append_right (by omega), hl, Nat.sub_self]
    rfl
  · rw [if_neg h]
    by_cases h2 : k ≤ p
    · rw [if_pos h2, List.getElem?_append_left (by omega), List.getElem?_take, if_pos (by omega), List.getD_eq_getElem?_getD]
    · rw [if_neg h2, List.getElem?_append_right (by omega), hl, show k - p = (k - 1 - p) + 1 by omega, List.getElem?_cons_succ, List.getElem?_drop, show p + (k - 1 - p) = k - 1 by omega, List.getD_eq_getElem?_getD]
theorem gt_ins_len {ol : List Nat} {p i : Nat} (hp : p ≤ ol.length) : (ol.take p ++ i :: ol.drop p).length = ol.length + 1 := by
  rw [List.length_append, List.length_cons, List.length_take, List.length_drop]
  omega
theorem gt_mem_getD {ol : List Nat} {i : Nat} : i ∈ ol ↔ ∃ j, j < ol.length ∧ ol.getD j 0 = i := by
  constructor
  · intro h
    obtain ⟨j, hj, e⟩ := List.mem_iff_getElem.mp h
    exact ⟨j, hj, by rw [List.getD_eq_getElem?_getD, List.getElem?_eq_getElem hj, e]; rfl⟩
  · rintro ⟨j, hj, rfl⟩
    exact gt_getD_mem hj
theorem gt_tm_le {n : Nat} {S : gt_SS} {t now : Nat} {d0 d : gt_Dy} {ol : List Nat} (hs : gt_Hs n S) (ht : t ≤ 1000000000) (_hl : ∃ l, gt_Ok n S t d0 l ∧ gt_rn S d0 l = d) (hd : gt_Hd n S d) (_hd0 : gt_Hd n S d0) (_ho : gt_Ho n S now d0 ol) (i : Nat) (i1 : 1 ≤ i) (i2 : i ≤ n) (hb : ¬ (d.1 i).2.1 < 0) : (d.1 i).2.2 ≤ 1000013000 := by
  have h := hd.1 i i1 i2
  rcases h.2 with q | ⟨-, q⟩
  · exact absurd (by rw [q]; decide) hb
  · rw [q]
    have h1 := (hs.2.2.2.1 i i1 i2).1
    have h2 := h.1
    have h3 := hs.2.1
    unfold gt_fr
    omega
abbrev rm_M_pass : Room := { frames := 2, cells := 0, slots := 0, locals := 48 }
set_option maxHeartbeats 4000000 in
set_option maxRecDepth 100000 in
/-- pass(t) -/
theorem c_M_pass (l : Launch) (D : va_G) (sz : Nat) (ma : Nat → Nat) (mc : Nat → ClassId) (thr : Int32) (S : gt_SS) (lt : Nat → Int32) (d : gt_Dy) (n now : Nat) (ol : List Nat) (told : Int32) (t : Nat) (hs : gt_Hs n S) (hd : gt_Hd n S d) (ho : gt_Ho n S now d ol) (ht0 : now ≤ t) (ht : t ≤ 1000000000) : Met l y_M_pass w_M_pass rm_M_pass (gt_Pre D (va_K D gt_cl (gt_Mt mc)) [.ref (ma 0), .long (lN t)] (gt_MS ma mc thr S lt d n now ol told) sz) (gt_Qv D (gt_MS ma mc thr S lt d n now ol told) sz (fun u : gt_Dy × List Nat => gt_Pass n S t d u.1 u.2 ∧ gt_Hd n S u.1 ∧ gt_Ho n S t u.1 u.2) (fun u : gt_Dy × List Nat => gt_MS ma mc thr S lt u.1 n t u.2 told)) 0 0 (va_A (gt_MS ma mc thr S lt d n now ol told) sz) := by
  refine gt_mut_v (own := R_M) (by decide) rfl (Nat.le_of_ble_eq_true rfl) ?_
  intro p e s m below meth c args A hx hb hml hown hnm hts hP hK0 hD hA Q hret ls hl
  have hS : va_S A s.heap s.heap [] := va_S.rf
  have hl : lv_has ls 6 [(0, .ref (ma 0)), (1, .long (lN t))] := hl
  have hK : va_K D gt_cl (gt_Mt mc) s := hK0
  have hn : n ≤ 400 := hs.2.2.1
  have hG : S.1 ≤ 12 := hs.2.1
  have phase : ∀ d1 : gt_Dy, gt_B n S t d d1 (S.1 + 1) 1 → ∀ (H : Heap) (locs : List Loc), va_P D gt_cl (gt_MS ma mc thr S lt d1 n t ol told) H → va_D A (gt_MS ma mc thr S lt d1 n t ol told) → va_S A s.heap H locs → ∀ ls, lv_has ls 6 [(0, .ref (ma 0)), (1, .long (lN t))] → W p l e rm_M_pass s m args below meth c H locs 0 0 Q (F0 m 79 ls []) := by
    intro d1 hB H locs hP hD hS ls hl
    have loop3 : ∀ (q i : Nat) (ol1 : List Nat), 1 ≤ i → i ≤ n + 1 → n + 1 < i + q → gt_C n d1 ol i ol1 → ∀ (H : Heap) (locs : List Loc), va_P D gt_cl (gt_MS ma mc thr S lt d1 n t ol1 told) H → va_D A (gt_MS ma mc thr S lt d1 n t ol1 told) → va_S A s.heap H locs → ∀ ls, lv_has ls 6 [(3, .int (nI i)), (0, .ref (ma 0)), (1, .long (lN t))] → W p l e rm_M_pass s m args below meth c H locs 0 0 Q (F0 m 81 ls []) := by
      intro q
      induction q with
      | zero => intro i ol1 h1 h2 h3; omega
      | succ q ih =>
        intro i ol1 i1 i2 i3 hC H locs hP hD hS ls hl
        refine lv_iload_n hx hb d_M_pass_81 rfl (lv_at hl 0 rfl) ?_
        refine lv_aload_n hx hb d_M_pass_82 rfl (lv_at hl 1 rfl) ?_
        refine va_get (D := D) (ci := 3) (v := .int (nI n)) (C := R_M) (T := F_M) (N := 21) hx hb hts i_M hown hK hP 0 rfl rfl 2 (by decide) (hts _ kw_240) (fun _ h9 => h9) rfl d_M_pass_83 ?_
        refine lv_icmp_gt (tgt := 269) hx hb d_M_pass_86 (by decide) (fun c1 => ?_) (fun c1 => ?_)
        · rw [nI_ltI (by omega) (by omega)] at c1
          obtain rfl : i = n + 1 := by omega
          exact hret _ _ _ _ (d1, ol1) d_M_pass_269 (gt_C_end ht0 ho hB hC) hP hD hS
        · rw [nI_ltI (by omega) (by omega)] at c1
          have hlen1 : ol1.length ≤ n := gt_len hC.1 (fun j hj => ⟨((hC.2 j).mp hj).1, ((hC.2 j).mp hj).2.1⟩)
          refine lv_aload_n hx hb d_M_pass_89 rfl (lv_at hl 1 rfl) ?_
          refine va_get (D := D) (ci := 3) (v := .ref (ma 5)) (C := R_M) (T := F_M) (N := 21) hx hb hts i_M hown hK hP 0 rfl rfl 7 (by decide) (hts _ kw_245) (fun _ h9 => h9) rfl d_M_pass_90 ?_
          refine lv_iload_n hx hb d_M_pass_93 rfl (lv_at hl 0 rfl) ?_
          refine gt_iald (k := i) hx hb hK hP 5 4 rfl rfl (by omega) (by decide) d_M_pass_94 ?_
          have J : ∀ h0 : Int32, gt_Bit h0 ((d1.1 i).2.1 < 0) → W p l e rm_M_pass s m args below meth c H locs 0 0 Q (F0 m 103 ls [.int h0]) := by
            intro h0 hh0
            have loop4 : ∀ (q k : Nat) (h : Int32), k ≤ ol1.length → ol1.length < k + q → gt_Bit h ((d1.1 i).2.1 < 0 ∨ ∃ j, j < k ∧ ol1.getD j 0 = i) → ∀ ls, lv_has ls 6 [(5, .int (nI k)), (4, .int h), (3, .int (nI i)), (0, .ref (ma 0)), (1, .long (lN t))] → W p l e rm_M_pass s m args below meth c H locs 0 0 Q (F0 m 108 ls []) := by
              intro q
              induction q with
              | zero => intro k h k1 k2; omega
              | succ q ih4 =>
                intro k h k1 k2 hh ls hl
                refine lv_iload hx hb d_M_pass_108 (lv_at hl 0 rfl) ?_
                refine lv_aload_n hx hb d_M_pass_110 rfl (lv_at hl 3 rfl) ?_
                refine va_get (D := D) (ci := 3) (v := .int (nI ol1.length)) (C := R_M) (T := F_M) (N := 21) hx hb hts i_M hown hK hP 0 rfl rfl 18 (by decide) (hts _ kw_256) (fun _ h9 => h9) rfl d_M_pass_111 ?_
                refine lv_icmp_ge (tgt := 146) hx hb d_M_pass_114 (by decide) (fun c2 => ?_) (fun c2 => ?_)
                · rw [nI_leI (by omega) (by omega)] at c2
                  obtain rfl : k = ol1.length := by omega
                  have hh : gt_Bit h ((d1.1 i).2.1 < 0 ∨ i ∈ ol1) := hh.iff (or_congr Iff.rfl gt_mem_getD.symm)
                  refine lv_iload hx hb d_M_pass_146 (lv_at hl 1 rfl) ?_
                  refine lv_if_ne (tgt := 263) hx hb d_M_pass_148 (by decide) (fun c3 => ?_) (fun c3 => ?_)
                  · refine lv_iinc (v := nI (i + 1)) (lv' := [(3, .int (nI (i + 1))), (5, .int (nI ol1.length)), (4, .int h), (0, .ref (ma 0)), (1, .long (lN t))]) hx hb d_M_pass_263 hl (k := 2) rfl (nI_1 _) (by decide) rfl (fun ls hl => ?_)
                    refine lv_goto (tgt := 81) hx hb d_M_pass_266 (by decide) ?_
                    exact ih (i + 1) ol1 (by omega) (by omega) (by omega) (gt_C_skip hC (hh.yes c3)) _ _ hP hD hS ls (lv_sub hl [0, 3, 4] rfl)
                  · have hno := hh.no c3
                    have hbo : ¬ (d1.1 i).2.1 < 0 := fun q => hno (Or.inl q)
                    have hio : i ∉ ol1 := fun q => hno (Or.inr q)
                    have hl4 : ol1.length < n := gt_len_lt hC.1 (fun j hj => ⟨((hC.2 j).mp hj).1, ((hC.2 j).mp hj).2.1⟩) hio i1 (by omega)
                    refine lv_aload_n hx hb d_M_pass_151 rfl (lv_at hl 3 rfl) ?_
                    refine va_get (D := D) (ci := 3) (v := .int (nI ol1.length)) (C := R_M) (T := F_M) (N := 21) hx hb hts i_M hown hK hP 0 rfl rfl 18 (by decide) (hts _ kw_256) (fun _ h9 => h9) rfl d_M_pass_152 ?_
                    refine lv_istore (lv' := [(5, .int (nI ol1.length)), (4, .int h), (3, .int (nI i)), (0, .ref (ma 0)), (1, .long (lN t))]) hx hb d_M_pass_155 hl (by decide) rfl (fun ls hl => ?_)
                    have loop5 : ∀ (p5 : Nat), p5 ≤ ol1.length → (∀ k, p5 ≤ k → k < ol1.length → gt_lx d1 i (ol1.getD k 0)) → ∀ (H : Heap) (locs : List Loc), va_P D gt_cl (gt_MW ma mc thr S.1 n t ol1.length told (fun j9 => lN (S.2.1 j9)) (fun j9 => lN (S.2.2.1 j9)) S.2.2.2.1 (fun j9 => nI (d1.1 j9).1) (fun j9 => (d1.1 j9).2.1) lt (fun j9 => lN (d1.1 j9).2.2) (fun g9 => (d1.2 g9).1) S.2.2.2.2.1 (fun g9 => (d1.2 g9).2.1) (fun g9 => lN (d1.2 g9).2.2.1) S.2.2.2.2.2 (fun g9 => (d1.2 g9).2.2.2.1) (fun g9 => (d1.2 g9).2.2.2.2) (gt_hole ol1 p5)) H → va_D A (gt_MW ma mc thr S.1 n t ol1.length told (fun j9 => lN (S.2.1 j9)) (fun j9 => lN (S.2.2.1 j9)) S.2.2.2.1 (fun j9 => nI (d1.1 j9).1) (fun j9 => (d1.1 j9).2.1) lt (fun j9 => lN (d1.1 j9).2.2) (fun g9 => (d1.2 g9).1) S.2.2.2.2.1 (fun g9 => (d1.2 g9).2.1) (fun g9 => lN (d1.2 g9).2.2.1) S.2.2.2.2.2 (fun g9 => (d1.2 g9).2.2.2.1) (fun g9 => (d1.2 g9).2.2.2.2) (gt_hole ol1 p5)) → va_S A s.heap H locs → ∀ ls, lv_has ls 6 [(5, .int (nI p5)), (3, .int (nI i)), (0, .ref (ma 0)), (1, .long (lN t))] → W p l e rm_M_pass s m args below meth c H locs 0 0 Q (F0 m 157 ls []) := by
                      intro p5
                      induction p5 with
                      | zero =>
                        intro p1 p2 H locs hP hD hS ls hl
                        refine lv_iload hx hb d_M_pass_157 (lv_at hl 0 rfl) ?_
                        refine lv_if_le (tgt := 245) hx hb d_M_pass_159 (by decide) (fun c4 => ?_) (fun c4 => ?_)
                        · refine lv_aload_n hx hb d_M_pass_245 rfl (lv_at hl 2 rfl) ?_
                          refine va_get (D := D) (ci := 3) (v := .ref (ma 15)) (C := R_M) (T := F_M) (N := 21) hx hb hts i_M hown hK hP 0 rfl rfl 19 (by decide) (hts _ kw_257) (fun _ h9 => h9) rfl d_M_pass_246 ?_
                          refine lv_iload hx hb d_M_pass_249 (lv_at hl 0 rfl) ?_
                          refine lv_iload_n hx hb d_M_pass_251 rfl (lv_at hl 1 rfl) ?_
                          refine gt_iast (k := 0) hx hb hK hP hD hS 15 14 rfl rfl (by omega) (by decide) d_M_pass_252 (fun H locs hP hD hS => ?_)
                          have hP : va_P D gt_cl (gt_MW ma mc thr S.1 n t ol1.length told (fun j9 => lN (S.2.1 j9)) (fun j9 => lN (S.2.2.1 j9)) S.2.2.2.1 (fun j9 => nI (d1.1 j9).1) (fun j9 => (d1.1 j9).2.1) lt (fun j9 => lN (d1.1 j9).2.2) (fun g9 => (d1.2 g9).1) S.2.2.2.2.1 (fun g9 => (d1.2 g9).2.1) (fun g9 => lN (d1.2 g9).2.2.1) S.2.2.2.2.2 (fun g9 => (d1.2 g9).2.2.2.1) (fun g9 => (d1.2 g9).2.2.2.2) (upd (gt_hole ol1 0) 0 (nI i))) H := hP
                          have hD : va_D A (gt_MW ma mc thr S.1 n t ol1.length told (fun j9 => lN (S.2.1 j9)) (fun j9 => lN (S.2.2.1 j9)) S.2.2.2.1 (fun j9 => nI (d1.1 j9).1) (fun j9 => (d1.1 j9).2.1) lt (fun j9 => lN (d1.1 j9).2.2) (fun g9 => (d1.2 g9).1) S.2.2.2.2.1 (fun g9 => (d1.2 g9).2.1) (fun g9 => lN (d1.2 g9).2.2.1) S.2.2.2.2.2 (fun g9 => (d1.2 g9).2.2.2.1) (fun g9 => (d1.2 g9).2.2.2.2) (upd (gt_hole ol1 0) 0 (nI i))) := hD
                          rw [gt_hole_fill p1] at hP hD
                          refine lv_aload_n hx hb d_M_pass_253 rfl (lv_at hl 2 rfl) ?_
                          refine lv_dup hx hb d_M_pass_254 rfl ?_
                          refine va_get (D := D) (ci := 3) (v := .int (nI ol1.length)) (C := R_M) (T := F_M) (N := 21) hx hb hts i_M hown hK hP 0 rfl rfl 18 (by decide) (hts _ kw_256) (fun _ h9 => h9) rfl d_M_pass_255 ?_
                          refine lv_iconst (v := 1) hx hb d_M_pass_258 (by decide) ?_
                          refine lv_iadd hx hb d_M_pass_259 ?_
                          rw [nI_1]
                          refine va_put (D := D) (ci := 3) (v := .int (nI (ol1.length + 1))) (ty := .int) (C := R_M) (T := F_M) (N := 21) hx hb hts i_M t_M t_M_ok n_M hown hK hP hD hS 0 rfl rfl 18 (by decide) (hts _ kw_256) (fun _ h9 => h9) rfl (by decide +kernel) rfl rfl (Nat.le_of_ble_eq_true rfl) d_M_pass_260 (fun H locs hP hD hS => ?_)
                          have hP : va_P D gt_cl (gt_MW ma mc thr S.1 n t (ol1.length + 1) told (fun j9 => lN (S.2.1 j9)) (fun j9 => lN (S.2.2.1 j9)) S.2.2.2.1 (fun j9 => nI (d1.1 j9).1) (fun j9 => (d1.1 j9).2.1) lt (fun j9 => lN (d1.1 j9).2.2) (fun g9 => (d1.2 g9).1) S.2.2.2.2.1 (fun g9 => (d1.2 g9).2.1) (fun g9 => lN (d1.2 g9).2.2.1) S.2.2.2.2.2 (fun g9 => (d1.2 g9).2.2.2.1) (fun g9 => (d1.2 g9).2.2.2.2) (gt_lf (ol1.take (0) ++ i :: ol1.drop (0)))) H := hP
                          have hD : va_D A (gt_MW ma mc thr S.1 n t (ol1.length + 1) told (fun j9 => lN (S.2.1 j9)) (fun j9 => lN (S.2.2.1 j9)) S.2.2.2.1 (fun j9 => nI (d1.1 j9).1) (fun j9 => (d1.1 j9).2.1) lt (fun j9 => lN (d1.1 j9).2.2) (fun g9 => (d1.2 g9).1) S.2.2.2.2.1 (fun g9 => (d1.2 g9).2.1) (fun g9 => lN (d1.2 g9).2.2.1) S.2.2.2.2.2 (fun g9 => (d1.2 g9).2.2.2.1) (fun g9 => (d1.2 g9).2.2.2.2) (gt_lf (ol1.take (0) ++ i :: ol1.drop (0)))) := hD
                          refine lv_iinc (v := nI (i + 1)) (lv' := [(3, .int (nI (i + 1))), (5, .int (nI 0)), (0, .ref (ma 0)), (1, .long (lN t))]) hx hb d_M_pass_263 hl (k := 1) rfl (nI_1 _) (by decide) rfl (fun ls hl => ?_)
                          refine lv_goto (tgt := 81) hx hb d_M_pass_266 (by decide) ?_
                          rw [← gt_ins_len (i := i) p1] at hP hD
                          exact ih (i + 1) (ol1.take (0) ++ i :: ol1.drop (0)) (by omega) (by omega) (by omega) (gt_C_ins hC i1 (by omega) hbo hio p1 (Or.inl rfl) p2) _ _ hP hD hS ls (lv_sub hl [0, 2, 3] rfl)
                        · exact absurd (by decide) c4
                      | succ p5 ih5 =>
                        intro p1 p2 H locs hP hD hS ls hl
                        have hm := (hC.2 _).mp (gt_getD_mem (l := ol1) (k := p5) (by omega))
                        have hm1 := hm.1
                        have hm2 := hm.2.1
                        refine lv_iload hx hb d_M_pass_157 (lv_at hl 0 rfl) ?_
                        refine lv_if_le (tgt := 245) hx hb d_M_pass_159 (by decide) (fun c4 => ?_) (fun c4 => ?_)
                        · exact absurd c4 (nI_nle (by omega) (by omega))
                        · refine lv_aload_n hx hb d_M_pass_162 rfl (lv_at hl 2 rfl) ?_
                          refine va_get (D := D) (ci := 3) (v := .ref (ma 7)) (C := R_M) (T := F_M) (N := 21) hx hb hts i_M hown hK hP 0 rfl rfl 9 (by decide) (hts _ kw_247) (fun _ h9 => h9) rfl d_M_pass_163 ?_
                          refine lv_aload_n hx hb d_M_pass_166 rfl (lv_at hl 2 rfl) ?_
                          refine va_get (D := D) (ci := 3) (v := .ref (ma 15)) (C := R_M) (T := F_M) (N := 21) hx hb hts i_M hown hK hP 0 rfl rfl 19 (by decide) (hts _ kw_257) (fun _ h9 => h9) rfl d_M_pass_167 ?_
                          refine lv_iload hx hb d_M_pass_170 (lv_at hl 0 rfl) ?_
                          refine lv_iconst (v := 1) hx hb d_M_pass_172 (by decide) ?_
                          refine lv_isub hx hb d_M_pass_173 ?_
                          rw [nI_pred]
                          refine gt_iald (k := p5) hx hb hK hP 15 14 rfl rfl (by omega) (by decide) d_M_pass_174 ?_
                          rw [gt_hole_at (by omega)]
                          refine gt_lald (k := ol1.getD p5 0) hx hb hK hP 7 6 rfl rfl (by omega) (by decide) d_M_pass_175 ?_
                          refine lv_aload_n hx hb d_M_pass_176 rfl (lv_at hl 2 rfl) ?_
                          refine va_get (D := D) (ci := 3) (v := .ref (ma 7)) (C := R_M) (T := F_M) (N := 21) hx hb hts i_M hown hK hP 0 rfl rfl 9 (by decide) (hts _ kw_247) (fun _ h9 => h9) rfl d_M_pass_177 ?_
                          refine lv_iload_n hx hb d_M_pass_180 rfl (lv_at hl 1 rfl) ?_
                          refine gt_lald (k := i) hx hb hK hP 7 6 rfl rfl (by omega) (by decide) d_M_pass_181 ?_
                          refine W.lcmp hx hb d_M_pass_182 ?_
                          refine lv_if_gt (tgt := 223) hx hb d_M_pass_183 (by decide) (fun c5 => ?_) (fun c5 => ?_)
                          · have c5 := (lg_cmp_gt _ _).mp c5
                            have hb1 : (d1.1 (ol1.getD p5 0)).2.2 < 2 ^ 63 := by have := gt_tm_le hs ht hB.1 hB.2.1 hd ho (ol1.getD p5 0) hm.1 hm.2.1 hm.2.2.1; omega
                            have hb2 : (d1.1 i).2.2 < 2 ^ 63 := by have := gt_tm_le hs ht hB.1 hB.2.1 hd ho i i1 (by omega) hbo; omega
                            rw [pk_lLT hb2 hb1] at c5
                            refine lv_aload_n hx hb d_M_pass_223 rfl (lv_at hl 2 rfl) ?_
                            refine va_get (D := D) (ci := 3) (v := .ref (ma 15)) (C := R_M) (T := F_M) (N := 21) hx hb hts i_M hown hK hP 0 rfl rfl 19 (by decide) (hts _ kw_257) (fun _ h9 => h9) rfl d_M_pass_224 ?_
                            refine lv_iload hx hb d_M_pass_227 (lv_at hl 0 rfl) ?_
                            refine lv_aload_n hx hb d_M_pass_229 rfl (lv_at hl 2 rfl) ?_
                            refine va_get (D := D) (ci := 3) (v := .ref (ma 15)) (C := R_M) (T := F_M) (N := 21) hx hb hts i_M hown hK hP 0 rfl rfl 19 (by decide) (hts _ kw_257) (fun _ h9 => h9) rfl d_M_pass_230 ?_
                            refine lv_iload hx hb d_M_pass_233 (lv_at hl 0 rfl) ?_
                            refine lv_iconst (v := 1) hx hb d_M_pass_235 (by decide) ?_
                            refine lv_isub hx hb d_M_pass_236 ?_
                            rw [nI_pred]
                            refine gt_iald (k := p5) hx hb hK hP 15 14 rfl rfl (by omega) (by decide) d_M_pass_237 ?_
                            rw [gt_hole_at (by omega)]
                            refine gt_iast (k := p5 + 1) hx hb hK hP hD hS 15 14 rfl rfl (by omega) (by decide) d_M_pass_238 (fun H locs hP hD hS => ?_)
                            have hP : va_P D gt_cl (gt_MW ma mc thr S.1 n t ol1.length told (fun j9 => lN (S.2.1 j9)) (fun j9 => lN (S.2.2.1 j9)) S.2.2.2.1 (fun j9 => nI (d1.1 j9).1) (fun j9 => (d1.1 j9).2.1) lt (fun j9 => lN (d1.1 j9).2.2) (fun g9 => (d1.2 g9).1) S.2.2.2.2.1 (fun g9 => (d1.2 g9).2.1) (fun g9 => lN (d1.2 g9).2.2.1) S.2.2.2.2.2 (fun g9 => (d1.2 g9).2.2.2.1) (fun g9 => (d1.2 g9).2.2.2.2) (upd (gt_hole ol1 (p5 + 1)) (p5 + 1) (nI (ol1.getD p5 0)))) H := hP
                            have hD : va_D A (gt_MW ma mc thr S.1 n t ol1.length told (fun j9 => lN (S.2.1 j9)) (fun j9 => lN (S.2.2.1 j9)) S.2.2.2.1 (fun j9 => nI (d1.1 j9).1) (fun j9 => (d1.1 j9).2.1) lt (fun j9 => lN (d1.1 j9).2.2) (fun g9 => (d1.2 g9).1) S.2.2.2.2.1 (fun g9 => (d1.2 g9).2.1) (fun g9 => lN (d1.2 g9).2.2.1) S.2.2.2.2.2 (fun g9 => (d1.2 g9).2.2.2.1) (fun g9 => (d1.2 g9).2.2.2.2) (upd (gt_hole ol1 (p5 + 1)) (p5 + 1) (nI (ol1.getD p5 0)))) := hD
                            rw [gt_hole_shift] at hP hD
                            refine lv_iinc (v := nI p5) (lv' := [(5, .int (nI p5)), (3, .int (nI i)), (0, .ref (ma 0)), (1, .long (lN t))]) hx hb d_M_pass_239 hl (k := 0) rfl (by rw [show Int32.ofInt (-1) = (-1 : Int32) by decide]; exact pk_m1 p5) (by decide) rfl (fun ls hl => ?_)
                            refine lv_goto (tgt := 157) hx hb d_M_pass_242 (by decide) ?_
                            exact ih5 (by omega) (fun k k1 k2 => by
                              by_cases e : k = p5
                              · subst e
                                exact Or.inl c5
                              · exact p2 k (by omega) k2) _ _ hP hD hS ls (lv_sub hl [0, 1, 2, 3] rfl)
                          · have c5 : ¬ _ := fun q => c5 ((lg_cmp_gt _ _).mpr q)
                            have hb1 : (d1.1 (ol1.getD p5 0)).2.2 < 2 ^ 63 := by have := gt_tm_le hs ht hB.1 hB.2.1 hd ho (ol1.getD p5 0) hm.1 hm.2.1 hm.2.2.1; omega
                            have hb2 : (d1.1 i).2.2 < 2 ^ 63 := by have := gt_tm_le hs ht hB.1 hB.2.1 hd ho i i1 (by omega) hbo; omega
                            rw [pk_lLT hb2 hb1] at c5
                            refine lv_aload_n hx hb d_M_pass_186 rfl (lv_at hl 2 rfl) ?_
                            refine va_get (D := D) (ci := 3) (v := .ref (ma 7)) (C := R_M) (T := F_M) (N := 21) hx hb hts i_M hown hK hP 0 rfl rfl 9 (by decide) (hts _ kw_247) (fun _ h9 => h9) rfl d_M_pass_187 ?_
                            refine lv_aload_n hx hb d_M_pass_190 rfl (lv_at hl 2 rfl) ?_
                            refine va_get (D := D) (ci := 3) (v := .ref (ma 15)) (C := R_M) (T := F_M) (N := 21) hx hb hts i_M hown hK hP 0 rfl rfl 19 (by decide) (hts _ kw_257) (fun _ h9 => h9) rfl d_M_pass_191 ?_
                            refine lv_iload hx hb d_M_pass_194 (lv_at hl 0 rfl) ?_
                            refine lv_iconst (v := 1) hx hb d_M_pass_196 (by decide) ?_
                            refine lv_isub hx hb d_M_pass_197 ?_
                            rw [nI_pred]
                            refine gt_iald (k := p5) hx hb hK hP 15 14 rfl rfl (by omega) (by decide) d_M_pass_198 ?_
                            rw [gt_hole_at (by omega)]
                            refine gt_lald (k := ol1.getD p5 0) hx hb hK hP 7 6 rfl rfl (by omega) (by decide) d_M_pass_199 ?_
                            refine lv_aload_n hx hb d_M_pass_200 rfl (lv_at hl 2 rfl) ?_
                            refine va_get (D := D) (ci := 3) (v := .ref (ma 7)) (C := R_M) (T := F_M) (N := 21) hx hb hts i_M hown hK hP 0 rfl rfl 9 (by decide) (hts _ kw_247) (fun _ h9 => h9) rfl d_M_pass_201 ?_
                            refine lv_iload_n hx hb d_M_pass_204 rfl (lv_at hl 1 rfl) ?_
                            refine gt_lald (k := i) hx hb hK hP 7 6 rfl rfl (by omega) (by decide) d_M_pass_205 ?_
                            refine W.lcmp hx hb d_M_pass_206 ?_
                            refine lv_if_ne (tgt := 245) hx hb d_M_pass_207 (by decide) (fun c6 => ?_) (fun c6 => ?_)
                            · have c6 : ¬ _ := fun q => c6 ((lg_cmp_eq _ _).mpr q)
                              rw [pk_lEQ hb1 hb2] at c6
                              refine lv_aload_n hx hb d_M_pass_245 rfl (lv_at hl 2 rfl) ?_
                              refine va_get (D := D) (ci := 3) (v := .ref (ma 15)) (C := R_M) (T := F_M) (N := 21) hx hb hts i_M hown hK hP 0 rfl rfl 19 (by decide) (hts _ kw_257) (fun _ h9 => h9) rfl d_M_pass_246 ?_
                              refine lv_iload hx hb d_M_pass_249 (lv_at hl 0 rfl) ?_
                              refine lv_iload_n hx hb d_M_pass_251 rfl (lv_at hl 1 rfl) ?_
                              refine gt_iast (k := p5 + 1) hx hb hK hP hD hS 15 14 rfl rfl (by omega) (by decide) d_M_pass_252 (fun H locs hP hD hS => ?_)
                              have hP : va_P D gt_cl (gt_MW ma mc thr S.1 n t ol1.length told (fun j9 => lN (S.2.1 j9)) (fun j9 => lN (S.2.2.1 j9)) S.2.2.2.1 (fun j9 => nI (d1.1 j9).1) (fun j9 => (d1.1 j9).2.1) lt (fun j9 => lN (d1.1 j9).2.2) (fun g9 => (d1.2 g9).1) S.2.2.2.2.1 (fun g9 => (d1.2 g9).2.1) (fun g9 => lN (d1.2 g9).2.2.1) S.2.2.2.2.2 (fun g9 => (d1.2 g9).2.2.2.1) (fun g9 => (d1.2 g9).2.2.2.2) (upd (gt_hole ol1 (p5 + 1)) (p5 + 1) (nI i))) H := hP
                              have hD : va_D A (gt_MW ma mc thr S.1 n t ol1.length told (fun j9 => lN (S.2.1 j9)) (fun j9 => lN (S.2.2.1 j9)) S.2.2.2.1 (fun j9 => nI (d1.1 j9).1) (fun j9 => (d1.1 j9).2.1) lt (fun j9 => lN (d1.1 j9).2.2) (fun g9 => (d1.2 g9).1) S.2.2.2.2.1 (fun g9 => (d1.2 g9).2.1) (fun g9 => lN (d1.2 g9).2.2.1) S.2.2.2.2.2 (fun g9 => (d1.2 g9).2.2.2.1) (fun g9 => (d1.2 g9).2.2.2.2) (upd (gt_hole ol1 (p5 + 1)) (p5 + 1) (nI i))) := hD
                              rw [gt_hole_fill p1] at hP hD
                              refine lv_aload_n hx hb d_M_pass_253 rfl (lv_at hl 2 rfl) ?_
                              refine lv_dup hx hb d_M_pass_254 rfl ?_
                              refine va_get (D := D) (ci := 3) (v := .int (nI ol1.length)) (C := R_M) (T := F_M) (N := 21) hx hb hts i_M hown hK hP 0 rfl rfl 18 (by decide) (hts _ kw_256) (fun _ h9 => h9) rfl d_M_pass_255 ?_
                              refine lv_iconst (v := 1) hx hb d_M_pass_258 (by decide) ?_
                              refine lv_iadd hx hb d_M_pass_259 ?_
                              rw [nI_1]
                              refine va_put (D := D) (ci := 3) (v := .int (nI (ol1.length + 1))) (ty := .int) (C := R_M) (T := F_M) (N := 21) hx hb hts i_M t_M t_M_ok n_M hown hK hP hD hS 0 rfl rfl 18 (by decide) (hts _ kw_256) (fun _ h9 => h9) rfl (by decide +kernel) rfl rfl (Nat.le_of_ble_eq_true rfl) d_M_pass_260 (fun H locs hP hD hS => ?_)
                              have hP : va_P D gt_cl (gt_MW ma mc thr S.1 n t (ol1.length + 1) told (fun j9 => lN (S.2.1 j9)) (fun j9 => lN (S.2.2.1 j9)) S.2.2.2.1 (fun j9 => nI (d1.1 j9).1) (fun j9 => (d1.1 j9).2.1) lt (fun j9 => lN (d1.1 j9).2.2) (fun g9 => (d1.2 g9).1) S.2.2.2.2.1 (fun g9 => (d1.2 g9).2.1) (fun g9 => lN (d1.2 g9).2.2.1) S.2.2.2.2.2 (fun g9 => (d1.2 g9).2.2.2.1) (fun g9 => (d1.2 g9).2.2.2.2) (gt_lf (ol1.take (p5 + 1) ++ i :: ol1.drop (p5 + 1)))) H := hP
                              have hD : va_D A (gt_MW ma mc thr S.1 n t (ol1.length + 1) told (fun j9 => lN (S.2.1 j9)) (fun j9 => lN (S.2.2.1 j9)) S.2.2.2.1 (fun j9 => nI (d1.1 j9).1) (fun j9 => (d1.1 j9).2.1) lt (fun j9 => lN (d1.1 j9).2.2) (fun g9 => (d1.2 g9).1) S.2.2.2.2.1 (fun g9 => (d1.2 g9).2.1) (fun g9 => lN (d1.2 g9).2.2.1) S.2.2.2.2.2 (fun g9 => (d1.2 g9).2.2.2.1) (fun g9 => (d1.2 g9).2.2.2.2) (gt_lf (ol1.take (p5 + 1) ++ i :: ol1.drop (p5 + 1)))) := hD
                              refine lv_iinc (v := nI (i + 1)) (lv' := [(3, .int (nI (i + 1))), (5, .int (nI (p5 + 1))), (0, .ref (ma 0)), (1, .long (lN t))]) hx hb d_M_pass_263 hl (k := 1) rfl (nI_1 _) (by decide) rfl (fun ls hl => ?_)
                              refine lv_goto (tgt := 81) hx hb d_M_pass_266 (by decide) ?_
                              rw [← gt_ins_len (i := i) p1] at hP hD
                              exact ih (i + 1) (ol1.take (p5 + 1) ++ i :: ol1.drop (p5 + 1)) (by omega) (by omega) (by omega) (gt_C_ins hC i1 (by omega) hbo hio p1 (Or.inr (by show ¬ gt_lx d1 i (ol1.getD p5 0); unfold gt_lx; omega)) p2) _ _ hP hD hS ls (lv_sub hl [0, 2, 3] rfl)
                            · have c6 := (lg_cmp_eq _ _).mp c6
                              rw [pk_lEQ hb1 hb2] at c6
                              refine lv_aload_n hx hb d_M_pass_210 rfl (lv_at hl 2 rfl) ?_
                              refine va_get (D := D) (ci := 3) (v := .ref (ma 15)) (C := R_M) (T := F_M) (N := 21) hx hb hts i_M hown hK hP 0 rfl rfl 19 (by decide) (hts _ kw_257) (fun _ h9 => h9) rfl d_M_pass_211 ?_
                              refine lv_iload hx hb d_M_pass_214 (lv_at hl 0 rfl) ?_
                              refine lv_iconst (v := 1) hx hb d_M_pass_216 (by decide) ?_
                              refine lv_isub hx hb d_M_pass_217 ?_
                              rw [nI_pred]
                              refine gt_iald (k := p5) hx hb hK hP 15 14 rfl rfl (by omega) (by decide) d_M_pass_218 ?_
                              rw [gt_hole_at (by omega)]
                              refine lv_iload_n hx hb d_M_pass_219 rfl (lv_at hl 1 rfl) ?_
                              refine lv_icmp_le (tgt := 245) hx hb d_M_pass_220 (by decide) (fun c7 => ?_) (fun c7 => ?_)
                              · rw [nI_leI (by omega) (by omega)] at c7
                                refine lv_aload_n hx hb d_M_pass_245 rfl (lv_at hl 2 rfl) ?_
                                refine va_get (D := D) (ci := 3) (v := .ref (ma 15)) (C := R_M) (T := F_M) (N := 21) hx hb hts i_M hown hK hP 0 rfl rfl 19 (by decide) (hts _ kw_257) (fun _ h9 => h9) rfl d_M_pass_246 ?_
                                refine lv_iload hx hb d_M_pass_249 (lv_at hl 0 rfl) ?_
                                refine lv_iload_n hx hb d_M_pass_251 rfl (lv_at hl 1 rfl) ?_
                                refine gt_iast (k := p5 + 1) hx hb hK hP hD hS 15 14 rfl rfl (by omega) (by decide) d_M_pass_252 (fun H locs hP hD hS => ?_)
                                have hP : va_P D gt_cl (gt_MW ma mc thr S.1 n t ol1.length told (fun j9 => lN (S.2.1 j9)) (fun j9 => lN (S.2.2.1 j9)) S.2.2.2.1 (fun j9 => nI (d1.1 j9).1) (fun j9 => (d1.1 j9).2.1) lt (fun j9 => lN (d1.1 j9).2.2) (fun g9 => (d1.2 g9).1) S.2.2.2.2.1 (fun g9 => (d1.2 g9).2.1) (fun g9 => lN (d1.2 g9).2.2.1) S.2.2.2.2.2 (fun g9 => (d1.2 g9).2.2.2.1) (fun g9 => (d1.2 g9).2.2.2.2) (upd (gt_hole ol1 (p5 + 1)) (p5 + 1) (nI i))) H := hP
                                have hD : va_D A (gt_MW ma mc thr S.1 n t ol1.length told (fun j9 => lN (S.2.1 j9)) (fun j9 => lN (S.2.2.1 j9)) S.2.2.2.1 (fun j9 => nI (d1.1 j9).1) (fun j9 => (d1.1 j9).2.1) lt (fun j9 => lN (d1.1 j9).2.2) (fun g9 => (d1.2 g9).1) S.2.2.2.2.1 (fun g9 => (d1.2 g9).2.1) (fun g9 => lN (d1.2 g9).2.2.1) S.2.2.2.2.2 (fun g9 => (d1.2 g9).2.2.2.1) (fun g9 => (d1.2 g9).2.2.2.2) (upd (gt_hole ol1 (p5 + 1)) (p5 + 1) (nI i))) := hD
                                rw [gt_hole_fill p1] at hP hD
                                refine lv_aload_n hx hb d_M_pass_253 rfl (lv_at hl 2 rfl) ?_
                                refine lv_dup hx hb d_M_pass_254 rfl ?_
                                refine va_get (D := D) (ci := 3) (v := .int (nI ol1.length)) (C := R_M) (T := F_M) (N := 21) hx hb hts i_M hown hK hP 0 rfl rfl 18 (by decide) (hts _ kw_256) (fun _ h9 => h9) rfl d_M_pass_255 ?_
                                refine lv_iconst (v := 1) hx hb d_M_pass_258 (by decide) ?_
                                refine lv_iadd hx hb d_M_pass_259 ?_
                                rw [nI_1]
                                refine va_put (D := D) (ci := 3) (v := .int (nI (ol1.length + 1))) (ty := .int) (C := R_M) (T := F_M) (N := 21) hx hb hts i_M t_M t_M_ok n_M hown hK hP hD hS 0 rfl rfl 18 (by decide) (hts _ kw_256) (fun _ h9 => h9) rfl (by decide +kernel) rfl rfl (Nat.le_of_ble_eq_true rfl) d_M_pass_260 (fun H locs hP hD hS => ?_)
                                have hP : va_P D gt_cl (gt_MW ma mc thr S.1 n t (ol1.length + 1) told (fun j9 => lN (S.2.1 j9)) (fun j9 => lN (S.2.2.1 j9)) S.2.2.2.1 (fun j9 => nI (d1.1 j9).1) (fun j9 => (d1.1 j9).2.1) lt (fun j9 => lN (d1.1 j9).2.2) (fun g9 => (d1.2 g9).1) S.2.2.2.2.1 (fun g9 => (d1.2 g9).2.1) (fun g9 => lN (d1.2 g9).2.2.1) S.2.2.2.2.2 (fun g9 => (d1.2 g9).2.2.2.1) (fun g9 => (d1.2 g9).2.2.2.2) (gt_lf (ol1.take (p5 + 1) ++ i :: ol1.drop (p5 + 1)))) H := hP
                                have hD : va_D A (gt_MW ma mc thr S.1 n t (ol1.length + 1) told (fun j9 => lN (S.2.1 j9)) (fun j9 => lN (S.2.2.1 j9)) S.2.2.2.1 (fun j9 => nI (d1.1 j9).1) (fun j9 => (d1.1 j9).2.1) lt (fun j9 => lN (d1.1 j9).2.2) (fun g9 => (d1.2 g9).1) S.2.2.2.2.1 (fun g9 => (d1.2 g9).2.1) (fun g9 => lN (d1.2 g9).2.2.1) S.2.2.2.2.2 (fun g9 => (d1.2 g9).2.2.2.1) (fun g9 => (d1.2 g9).2.2.2.2) (gt_lf (ol1.take (p5 + 1) ++ i :: ol1.drop (p5 + 1)))) := hD
                                refine lv_iinc (v := nI (i + 1)) (lv' := [(3, .int (nI (i + 1))), (5, .int (nI (p5 + 1))), (0, .ref (ma 0)), (1, .long (lN t))]) hx hb d_M_pass_263 hl (k := 1) rfl (nI_1 _) (by decide) rfl (fun ls hl => ?_)
                                refine lv_goto (tgt := 81) hx hb d_M_pass_266 (by decide) ?_
                                rw [← gt_ins_len (i := i) p1] at hP hD
                                exact ih (i + 1) (ol1.take (p5 + 1) ++ i :: ol1.drop (p5 + 1)) (by omega) (by omega) (by omega) (gt_C_ins hC i1 (by omega) hbo hio p1 (Or.inr (by show ¬ gt_lx d1 i (ol1.getD p5 0); unfold gt_lx; omega)) p2) _ _ hP hD hS ls (lv_sub hl [0, 2, 3] rfl)
                              · rw [nI_leI (by omega) (by omega)] at c7
                                refine lv_aload_n hx hb d_M_pass_223 rfl (lv_at hl 2 rfl) ?_
                                refine va_get (D := D) (ci := 3) (v := .ref (ma 15)) (C := R_M) (T := F_M) (N := 21) hx hb hts i_M hown hK hP 0 rfl rfl 19 (by decide) (hts _ kw_257) (fun _ h9 => h9) rfl d_M_pass_224 ?_
                                refine lv_iload hx hb d_M_pass_227 (lv_at hl 0 rfl) ?_
                                refine lv_aload_n hx hb d_M_pass_229 rfl (lv_at hl 2 rfl) ?_
                                refine va_get (D := D) (ci := 3) (v := .ref (ma 15)) (C := R_M) (T := F_M) (N := 21) hx hb hts i_M hown hK hP 0 rfl rfl 19 (by decide) (hts _ kw_257) (fun _ h9 => h9) rfl d_M_pass_230 ?_
                                refine lv_iload hx hb d_M_pass_233 (lv_at hl 0 rfl) ?_
                                refine lv_iconst (v := 1) hx hb d_M_pass_235 (by decide) ?_
                                refine lv_isub hx hb d_M_pass_236 ?_
                                rw [nI_pred]
                                refine gt_iald (k := p5) hx hb hK hP 15 14 rfl rfl (by omega) (by decide) d_M_pass_237 ?_
                                rw [gt_hole_at (by omega)]
                                refine gt_iast (k := p5 + 1) hx hb hK hP hD hS 15 14 rfl rfl (by omega) (by decide) d_M_pass_238 (fun H locs hP hD hS => ?_)
                                have hP : va_P D gt_cl (gt_MW ma mc thr S.1 n t ol1.length told (fun j9 => lN (S.2.1 j9)) (fun j9 => lN (S.2.2.1 j9)) S.2.2.2.1 (fun j9 => nI (d1.1 j9).1) (fun j9 => (d1.1 j9).2.1) lt (fun j9 => lN (d1.1 j9).2.2) (fun g9 => (d1.2 g9).1) S.2.2.2.2.1 (fun g9 => (d1.2 g9).2.1) (fun g9 => lN (d1.2 g9).2.2.1) S.2.2.2.2.2 (fun g9 => (d1.2 g9).2.2.2.1) (fun g9 => (d1.2 g9).2.2.2.2) (upd (gt_hole ol1 (p5 + 1)) (p5 + 1) (nI (ol1.getD p5 0)))) H := hP
                                have hD : va_D A (gt_MW ma mc thr S.1 n t ol1.length told (fun j9 => lN (S.2.1 j9)) (fun j9 => lN (S.2.2.1 j9)) S.2.2.2.1 (fun j9 => nI (d1.1 j9).1) (fun j9 => (d1.1 j9).2.1) lt (fun j9 => lN (d1.1 j9).2.2) (fun g9 => (d1.2 g9).1) S.2.2.2.2.1 (fun g9 => (d1.2 g9).2.1) (fun g9 => lN (d1.2 g9).2.2.1) S.2.2.2.2.2 (fun g9 => (d1.2 g9).2.2.2.1) (fun g9 => (d1.2 g9).2.2.2.2) (upd (gt_hole ol1 (p5 + 1)) (p5 + 1) (nI (ol1.getD p5 0)))) := hD
                                rw [gt_hole_shift] at hP hD
                                refine lv_iinc (v := nI p5) (lv' := [(5, .int (nI p5)), (3, .int (nI i)), (0, .ref (ma 0)), (1, .long (lN t))]) hx hb d_M_pass_239 hl (k := 0) rfl (by rw [show Int32.ofInt (-1) = (-1 : Int32) by decide]; exact pk_m1 p5) (by decide) rfl (fun ls hl => ?_)
                                refine lv_goto (tgt := 157) hx hb d_M_pass_242 (by decide) ?_
                                exact ih5 (by omega) (fun k k1 k2 => by
                                  by_cases e : k = p5
                                  · subst e
                                    exact Or.inr ⟨c6.symm, by omega⟩
                                  · exact p2 k (by omega) k2) _ _ hP hD hS ls (lv_sub hl [0, 1, 2, 3] rfl)
                    have hP : va_P D gt_cl (gt_MW ma mc thr S.1 n t ol1.length told (fun j9 => lN (S.2.1 j9)) (fun j9 => lN (S.2.2.1 j9)) S.2.2.2.1 (fun j9 => nI (d1.1 j9).1) (fun j9 => (d1.1 j9).2.1) lt (fun j9 => lN (d1.1 j9).2.2) (fun g9 => (d1.2 g9).1) S.2.2.2.2.1 (fun g9 => (d1.2 g9).2.1) (fun g9 => lN (d1.2 g9).2.2.1) S.2.2.2.2.2 (fun g9 => (d1.2 g9).2.2.2.1) (fun g9 => (d1.2 g9).2.2.2.2) (gt_lf ol1)) H := hP
                    have hD : va_D A (gt_MW ma mc thr S.1 n t ol1.length told (fun j9 => lN (S.2.1 j9)) (fun j9 => lN (S.2.2.1 j9)) S.2.2.2.1 (fun j9 => nI (d1.1 j9).1) (fun j9 => (d1.1 j9).2.1) lt (fun j9 => lN (d1.1 j9).2.2) (fun g9 => (d1.2 g9).1) S.2.2.2.2.1 (fun g9 => (d1.2 g9).2.1) (fun g9 => lN (d1.2 g9).2.2.1) S.2.2.2.2.2 (fun g9 => (d1.2 g9).2.2.2.1) (fun g9 => (d1.2 g9).2.2.2.2) (gt_lf ol1)) := hD
                    rw [← gt_hole_len] at hP hD
                    exact loop5 ol1.length (Nat.le_refl _) (fun k k1 k2 => by omega) _ _ hP hD hS ls (lv_sub hl [0, 2, 3, 4] rfl)
                · rw [nI_leI (by omega) (by omega)] at c2
                  refine lv_iload hx hb d_M_pass_117 (lv_at hl 1 rfl) ?_
                  refine lv_if_ne (tgt := 133) hx hb d_M_pass_119 (by decide) (fun c3 => ?_) (fun c3 => ?_)
                  · refine lv_iconst (v := 1) hx hb d_M_pass_133 (by decide) ?_
                    refine lv_goto (tgt := 138) hx hb d_M_pass_134 (by decide) ?_
                    refine lv_istore (lv' := [(4, .int 1), (5, .int (nI k)), (3, .int (nI i)), (0, .ref (ma 0)), (1, .long (lN t))]) hx hb d_M_pass_138 hl (by decide) rfl (fun ls hl => ?_)
                    refine lv_iinc (v := nI (k + 1)) (lv' := [(5, .int (nI (k + 1))), (4, .int 1), (3, .int (nI i)), (0, .ref (ma 0)), (1, .long (lN t))]) hx hb d_M_pass_140 hl (k := 1) rfl (nI_1 _) (by decide) rfl (fun ls hl => ?_)
                    refine lv_goto (tgt := 108) hx hb d_M_pass_143 (by decide) ?_
                    exact ih4 (k + 1) 1 (by omega) (by omega) (gt_Bit.t ((hh.yes c3).imp id (fun ⟨j, j1, j2⟩ => ⟨j, by omega, j2⟩))) ls (lv_sub hl [0, 1, 2, 3, 4] rfl)
                  · have hm := (hC.2 _).mp (gt_getD_mem (l := ol1) (k := k) (by omega))
                    have hm2 := hm.2.1
                    refine lv_aload_n hx hb d_M_pass_122 rfl (lv_at hl 3 rfl) ?_
                    refine va_get (D := D) (ci := 3) (v := .ref (ma 15)) (C := R_M) (T := F_M) (N := 21) hx hb hts i_M hown hK hP 0 rfl rfl 19 (by decide) (hts _ kw_257) (fun _ h9 => h9) rfl d_M_pass_123 ?_
                    refine lv_iload hx hb d_M_pass_126 (lv_at hl 0 rfl) ?_
                    refine gt_iald (k := k) hx hb hK hP 15 14 rfl rfl (by omega) (by decide) d_M_pass_128 ?_
                    rw [gt_lf_at]
                    refine lv_iload_n hx hb d_M_pass_129 rfl (lv_at hl 2 rfl) ?_
                    refine lv_icmp_ne (tgt := 137) hx hb d_M_pass_130 (by decide) (fun c4 => ?_) (fun c4 => ?_)
                    · rw [nI_eq (by omega) (by omega)] at c4
                      refine lv_iconst (v := 0) hx hb d_M_pass_137 (by decide) ?_
                      refine lv_istore (lv' := [(4, .int 0), (5, .int (nI k)), (3, .int (nI i)), (0, .ref (ma 0)), (1, .long (lN t))]) hx hb d_M_pass_138 hl (by decide) rfl (fun ls hl => ?_)
                      refine lv_iinc (v := nI (k + 1)) (lv' := [(5, .int (nI (k + 1))), (4, .int 0), (3, .int (nI i)), (0, .ref (ma 0)), (1, .long (lN t))]) hx hb d_M_pass_140 hl (k := 1) rfl (nI_1 _) (by decide) rfl (fun ls hl => ?_)
                      refine lv_goto (tgt := 108) hx hb d_M_pass_143 (by decide) ?_
                      exact ih4 (k + 1) 0 (by omega) (by omega) (gt_Bit.f (fun q => hh.no c3 (q.imp id (fun ⟨j, j1, j2⟩ => ⟨j, by
                        by_cases e : j = k
                        · exact absurd (e ▸ j2) c4
                        · omega, j2⟩)))) ls (lv_sub hl [0, 1, 2, 3, 4] rfl)
                    · rw [nI_eq (by omega) (by omega)] at c4
                      refine lv_iconst (v := 1) hx hb d_M_pass_133 (by decide) ?_
                      refine lv_goto (tgt := 138) hx hb d_M_pass_134 (by decide) ?_
                      refine lv_istore (lv' := [(4, .int 1), (5, .int (nI k)), (3, .int (nI i)), (0, .ref (ma 0)), (1, .long (lN t))]) hx hb d_M_pass_138 hl (by decide) rfl (fun ls hl => ?_)
                      refine lv_iinc (v := nI (k + 1)) (lv' := [(5, .int (nI (k + 1))), (4, .int 1), (3, .int (nI i)), (0, .ref (ma 0)), (1, .long (lN t))]) hx hb d_M_pass_140 hl (k := 1) rfl (nI_1 _) (by decide) rfl (fun ls hl => ?_)
                      refine lv_goto (tgt := 108) hx hb d_M_pass_143 (by decide) ?_
                      exact ih4 (k + 1) 1 (by omega) (by omega) (gt_Bit.t (Or.inr ⟨k, by omega, c4⟩)) ls (lv_sub hl [0, 1, 2, 3, 4] rfl)
            refine lv_istore (lv' := [(4, .int h0), (3, .int (nI i)), (0, .ref (ma 0)), (1, .long (lN t))]) hx hb d_M_pass_103 hl (by decide) rfl (fun ls hl => ?_)
            refine lv_iconst (v := 0) hx hb d_M_pass_105 (by decide) ?_
            refine lv_istore (lv' := [(5, .int 0), (4, .int h0), (3, .int (nI i)), (0, .ref (ma 0)), (1, .long (lN t))]) hx hb d_M_pass_106 hl (by decide) rfl (fun ls hl => ?_)
            exact loop4 (ol1.length + 1) 0 h0 (Nat.zero_le _) (by omega) (hh0.iff ⟨Or.inl, fun q => q.elim id (fun ⟨j, j1, _⟩ => absurd j1 (Nat.not_lt_zero j))⟩) ls (lv_sub hl [0, 1, 2, 3, 4] rfl)
          refine lv_if_ge (tgt := 102) hx hb d_M_pass_95 (by decide) (fun c2 => ?_) (fun c2 => ?_)
          · refine lv_iconst (v := 0) hx hb d_M_pass_102 (by decide) ?_
            exact J 0 (gt_Bit.f (Int32.not_lt.mpr c2))
          · refine lv_iconst (v := 1) hx hb d_M_pass_98 (by decide) ?_
            refine lv_goto (tgt := 103) hx hb d_M_pass_99 (by decide) ?_
            exact J 1 (gt_Bit.t (Int32.not_le.mp c2))
    refine lv_iconst (v := 1) hx hb d_M_pass_79 (by decide) ?_
    refine lv_istore_n (lv' := [(3, .int 1), (0, .ref (ma 0)), (1, .long (lN t))]) hx hb d_M_pass_80 rfl hl (by decide) rfl (fun ls hl => ?_)
    exact loop3 (n + 2) 1 ol (Nat.le_refl 1) (by omega) (by omega) (gt_C_init ho hB.1) _ _ hP hD hS ls (lv_sub hl [0, 1, 2] rfl)
  have loop1 : ∀ (q g : Nat) (d1 : gt_Dy), g ≤ S.1 + 1 → S.1 + 1 < g + q → gt_B n S t d d1 g 1 → ∀ (H : Heap) (locs : List Loc), va_P D gt_cl (gt_MS ma mc thr S lt d1 n t ol told) H → va_D A (gt_MS ma mc thr S lt d1 n t ol told) → va_S A s.heap H locs → ∀ ls, lv_has ls 6 [(3, .int (nI g)), (0, .ref (ma 0)), (1, .long (lN t))] → W p l e rm_M_pass s m args below meth c H locs 0 0 Q (F0 m 7 ls []) := by
    intro q
    induction q with
    | zero => intro g d1 h1 h2; omega
    | succ q ih =>
      intro g d1 g1 g2 hB H locs hP hD hS ls hl
      refine lv_iload_n hx hb d_M_pass_7 rfl (lv_at hl 0 rfl) ?_
      refine lv_aload_n hx hb d_M_pass_8 rfl (lv_at hl 1 rfl) ?_
      refine va_get (D := D) (ci := 3) (v := .int (nI S.1)) (C := R_M) (T := F_M) (N := 21) hx hb hts i_M hown hK hP 0 rfl rfl 1 (by decide) (hts _ kw_239) (fun _ h9 => h9) rfl d_M_pass_9 ?_
      refine lv_icmp_gt (tgt := 79) hx hb d_M_pass_12 (by decide) (fun c1 => ?_) (fun c1 => ?_)
      · rw [nI_ltI (by omega) (by omega)] at c1
        obtain rfl : g = S.1 + 1 := by omega
        exact phase d1 hB _ _ hP hD hS ls (lv_sub hl [1, 2] rfl)
      · rw [nI_ltI (by omega) (by omega)] at c1
        have loop2 : ∀ (q i : Nat) (d2 : gt_Dy), 1 ≤ i → i ≤ n + 1 → n + 1 < i + q → gt_B n S t d d2 g i → ∀ (H : Heap) (locs : List Loc), va_P D gt_cl (gt_MS ma mc thr S lt d2 n t ol told) H → va_D A (gt_MS ma mc thr S lt d2 n t ol told) → va_S A s.heap H locs → ∀ ls, lv_has ls 6 [(4, .int (nI i)), (3, .int (nI g)), (0, .ref (ma 0)), (1, .long (lN t))] → W p l e rm_M_pass s m args below meth c H locs 0 0 Q (F0 m 18 ls []) := by
          intro q2
          induction q2 with
          | zero => intro i d2 h1 h2 h3; omega
          | succ q2 ih2 =>
            intro i d2 i1 i2 i3 hB2 H locs hP hD hS ls hl
            refine lv_iload hx hb d_M_pass_18 (lv_at hl 0 rfl) ?_
            refine lv_aload_n hx hb d_M_pass_20 rfl (lv_at hl 2 rfl) ?_
            refine va_get (D := D) (ci := 3) (v := .int (nI n)) (C := R_M) (T := F_M) (N := 21) hx hb hts i_M hown hK hP 0 rfl rfl 2 (by decide) (hts _ kw_240) (fun _ h9 => h9) rfl d_M_pass_21 ?_
            refine lv_icmp_gt (tgt := 73) hx hb d_M_pass_24 (by decide) (fun c2 => ?_) (fun c2 => ?_)
            · rw [nI_ltI (by omega) (by omega)] at c2
              obtain rfl : i = n + 1 := by omega
              refine lv_iinc (v := nI (g + 1)) (lv' := [(3, .int (nI (g + 1))), (4, .int (nI (n + 1))), (0, .ref (ma 0)), (1, .long (lN t))]) hx hb d_M_pass_73 hl (k := 1) rfl (nI_1 _) (by decide) rfl (fun ls hl => ?_)
              refine lv_goto (tgt := 7) hx hb d_M_pass_76 (by decide) ?_
              exact ih (g + 1) d2 (by omega) (by omega) (gt_B_next hB2) _ _ hP hD hS ls (lv_sub hl [0, 2, 3] rfl)
            · rw [nI_ltI (by omega) (by omega)] at c2
              have hnx := (hB2.2.1.1 i i1 (by omega)).1
              refine lv_aload_n hx hb d_M_pass_27 rfl (lv_at hl 2 rfl) ?_
              refine va_get (D := D) (ci := 3) (v := .ref (ma 5)) (C := R_M) (T := F_M) (N := 21) hx hb hts i_M hown hK hP 0 rfl rfl 7 (by decide) (hts _ kw_245) (fun _ h9 => h9) rfl d_M_pass_28 ?_
              refine lv_iload hx hb d_M_pass_31 (lv_at hl 0 rfl) ?_
              refine gt_iald (k := i) hx hb hK hP 5 4 rfl rfl (by omega) (by decide) d_M_pass_33 ?_
              refine lv_if_ge (tgt := 67) hx hb d_M_pass_34 (by decide) (fun c3 => ?_) (fun c3 => ?_)
              · refine lv_iinc (v := nI (i + 1)) (lv' := [(4, .int (nI (i + 1))), (3, .int (nI g)), (0, .ref (ma 0)), (1, .long (lN t))]) hx hb d_M_pass_67 hl (k := 0) rfl (nI_1 _) (by decide) rfl (fun ls hl => ?_)
                refine lv_goto (tgt := 18) hx hb d_M_pass_70 (by decide) ?_
                exact ih2 (i + 1) d2 (by omega) (by omega) (by omega) (gt_B_skip hB2 (fun q _ => absurd q (Int32.not_lt.mpr c3))) _ _ hP hD hS ls (lv_sub hl [0, 1, 2, 3] rfl)
              · refine lv_aload_n hx hb d_M_pass_37 rfl (lv_at hl 2 rfl) ?_
                refine va_get (D := D) (ci := 3) (v := .ref (ma 4)) (C := R_M) (T := F_M) (N := 21) hx hb hts i_M hown hK hP 0 rfl rfl 6 (by decide) (hts _ kw_244) (fun _ h9 => h9) rfl d_M_pass_38 ?_
                refine lv_iload hx hb d_M_pass_41 (lv_at hl 0 rfl) ?_
                refine gt_iald (k := i) hx hb hK hP 4 3 rfl rfl (by omega) (by decide) d_M_pass_43 ?_
                refine lv_iload_n hx hb d_M_pass_44 rfl (lv_at hl 1 rfl) ?_
                refine lv_icmp_ne (tgt := 67) hx hb d_M_pass_45 (by decide) (fun c4 => ?_) (fun c4 => ?_)
                · rw [nI_eq (by omega) (by omega)] at c4
                  refine lv_iinc (v := nI (i + 1)) (lv' := [(4, .int (nI (i + 1))), (3, .int (nI g)), (0, .ref (ma 0)), (1, .long (lN t))]) hx hb d_M_pass_67 hl (k := 0) rfl (nI_1 _) (by decide) rfl (fun ls hl => ?_)
                  refine lv_goto (tgt := 18) hx hb d_M_pass_70 (by decide) ?_
                  exact ih2 (i + 1) d2 (by omega) (by omega) (by omega) (gt_B_skip hB2 (fun _ q => absurd q c4)) _ _ hP hD hS ls (lv_sub hl [0, 1, 2, 3] rfl)
                · rw [nI_eq (by omega) (by omega)] at c4
                  have hab := hs.2.2.2.1 i i1 (by omega)
                  refine lv_aload_n hx hb d_M_pass_48 rfl (lv_at hl 2 rfl) ?_
                  refine lv_iload hx hb d_M_pass_49 (lv_at hl 0 rfl) ?_
                  refine lv_iload_n hx hb d_M_pass_51 rfl (lv_at hl 1 rfl) ?_
                  refine vp_callSl (va_runV (As := [.int (nI i), .int (nI g)]) (rest := []) ⟨hx, hb, hml, hown, hts⟩ (c_M_front l D ma mc thr S lt d2 n t ol told i g (by omega) (by omega)) (cwV 2 hts (tb_inV kw_329 kw_331 ks_M_front kw_4 kw_332) rfl rfl rfl (by decide +kernel) ⟨Nat.le_of_ble_eq_true rfl, Nat.le_of_ble_eq_true rfl⟩) (gt_PreP_V gt_K_mv (va_recv hK hP (ci := 3) (q0 := 0) rfl rfl) hP hK) rfl rfl hl.1 rfl (lv_room (Nat.le_of_ble_eq_true rfl)) d_M_pass_52 ⟨Nat.zero_le _, Nat.zero_le _⟩).run (fun r hr => ?_)
                  subst hr
                  refine lv_lload_n hx hb d_M_pass_55 rfl (lv_at hl 3 rfl) ?_
                  refine W.lcmp hx hb d_M_pass_56 ?_
                  refine lv_if_gt (tgt := 67) hx hb d_M_pass_57 (by decide) (fun c5 => ?_) (fun c5 => ?_)
                  · have c5 := (lg_cmp_gt _ _).mp c5
                    rw [pk_lLT (by omega) (by unfold gt_fr; omega)] at c5
                    refine lv_iinc (v := nI (i + 1)) (lv' := [(4, .int (nI (i + 1))), (3, .int (nI g)), (0, .ref (ma 0)), (1, .long (lN t))]) hx hb d_M_pass_67 hl (k := 0) rfl (nI_1 _) (by decide) rfl (fun ls hl => ?_)
                    refine lv_goto (tgt := 18) hx hb d_M_pass_70 (by decide) ?_
                    exact ih2 (i + 1) d2 (by omega) (by omega) (by omega) (gt_B_skip hB2 (fun _ _ => by omega)) _ _ hP hD hS ls (lv_sub hl [0, 1, 2, 3] rfl)
                  · have c5 : ¬ _ := fun q => c5 ((lg_cmp_gt _ _).mpr q)
                    rw [pk_lLT (by omega) (by unfold gt_fr; omega)] at c5
                    subst c4
                    have hb2 := Int32.not_le.mp c3
                    refine lv_aload_n hx hb d_M_pass_60 rfl (lv_at hl 2 rfl) ?_
                    refine lv_iload hx hb d_M_pass_61 (lv_at hl 0 rfl) ?_
                    refine lv_iload_n hx hb d_M_pass_63 rfl (lv_at hl 1 rfl) ?_
                    have hFc := gt_freeW hD hS hA
                    refine va_callv (va_runV (As := [.int (nI i), .int (nI (d2.1 i).1)]) (rest := []) ⟨hx, hb, hml, hown, hts⟩ (c_M_at l D H.size ma mc thr S lt d2 n t ol told i i1 (by omega) hn hG hnx hB2.2.1.2 (by omega)) (cwV 2 hts (tb_inV kw_334 kw_336 ks_M_at kw_4 kw_337) rfl rfl rfl (by decide +kernel) ⟨Nat.le_of_ble_eq_true rfl, Nat.le_of_ble_eq_true rfl⟩) (gt_Pre_V gt_K_mv (va_recv hK hP (ci := 3) (q0 := 0) rfl rfl) hP hK hD) rfl rfl hl.1 rfl (lv_room (Nat.le_of_ble_eq_true rfl)) d_M_pass_64 ⟨Nat.zero_le _, Nat.zero_le _⟩) hS (fun q _ h => hFc q h) hFc (fun u t9 H1 locs ht9 hvm9 hw hB hz1 hk1 hS => ?_)
                    obtain ⟨hP1, hD1⟩ := hB
                    rw [ht9] at hP1
                    have hD := hD1.weaken (fun _ _ _ h => hFc _ h)
                    have hP := hP1
                    have hP : va_P D gt_cl (gt_MS ma mc thr S lt (gt_act S d2 i) n t ol told) H1 := hP
                    have hD : va_D A (gt_MS ma mc thr S lt (gt_act S d2 i) n t ol told) := hD
                    have hP : va_P D gt_cl (gt_MW ma mc thr S.1 n t ol.length told (fun j9 => lN (S.2.1 j9)) (fun j9 => lN (S.2.2.1 j9)) S.2.2.2.1 (fun j9 => nI ((gt_act S d2 i).1 j9).1) (fun j9 => ((gt_act S d2 i).1 j9).2.1) lt (fun j9 => lN ((gt_act S d2 i).1 j9).2.2) (fun g9 => ((gt_act S d2 i).2 g9).1) S.2.2.2.2.1 (fun g9 => ((gt_act S d2 i).2 g9).2.1) (fun g9 => lN ((gt_act S d2 i).2 g9).2.2.1) S.2.2.2.2.2 (fun g9 => ((gt_act S d2 i).2 g9).2.2.2.1) (fun g9 => ((gt_act S d2 i).2 g9).2.2.2.2) (gt_lf ol)) H1 := hP
                    have hD : va_D A (gt_MW ma mc thr S.1 n t ol.length told (fun j9 => lN (S.2.1 j9)) (fun j9 => lN (S.2.2.1 j9)) S.2.2.2.1 (fun j9 => nI ((gt_act S d2 i).1 j9).1) (fun j9 => ((gt_act S d2 i).1 j9).2.1) lt (fun j9 => lN ((gt_act S d2 i).1 j9).2.2) (fun g9 => ((gt_act S d2 i).2 g9).1) S.2.2.2.2.1 (fun g9 => ((gt_act S d2 i).2 g9).2.1) (fun g9 => lN ((gt_act S d2 i).2 g9).2.2.1) S.2.2.2.2.2 (fun g9 => ((gt_act S d2 i).2 g9).2.2.2.1) (fun g9 => ((gt_act S d2 i).2 g9).2.2.2.2) (gt_lf ol)) := hD
                    refine lv_iinc (v := nI (i + 1)) (lv' := [(4, .int (nI (i + 1))), (3, .int (nI (d2.1 i).1)), (0, .ref (ma 0)), (1, .long (lN t))]) hx hb d_M_pass_67 hl (k := 0) rfl (nI_1 _) (by decide) rfl (fun ls hl => ?_)
                    refine lv_goto (tgt := 18) hx hb d_M_pass_70 (by decide) ?_
                    exact ih2 (i + 1) (gt_act S d2 i) (by omega) (by omega) (by omega) (gt_B_step hs ht hB2 i1 (by omega) hb2 rfl (by omega)) _ _ hP hD hS ls (lv_sub hl [0, 1, 2, 3] rfl)
        refine lv_iconst (v := 1) hx hb d_M_pass_15 (by decide) ?_
        refine lv_istore (lv' := [(4, .int 1), (3, .int (nI g)), (0, .ref (ma 0)), (1, .long (lN t))]) hx hb d_M_pass_16 hl (by decide) rfl (fun ls hl => ?_)
        exact loop2 (n + 2) 1 d1 (Nat.le_refl 1) (by omega) (by omega) hB _ _ hP hD hS ls (lv_sub hl [0, 1, 2, 3] rfl)
  refine lv_aload_n hx hb d_M_pass_0 rfl (lv_at hl 0 rfl) ?_
  refine lv_lload_n hx hb d_M_pass_1 rfl (lv_at hl 1 rfl) ?_
  refine va_put (D := D) (ci := 3) (v := .long (lN t)) (ty := .long) (C := R_M) (T := F_M) (N := 21) hx hb hts i_M t_M t_M_ok n_M hown hK hP hD hS 0 rfl rfl 17 (by decide) (hts _ kw_255) (fun _ h9 => h9) rfl (by decide +kernel) rfl rfl (Nat.le_of_ble_eq_true rfl) d_M_pass_2 (fun H locs hP hD hS => ?_)
  have hP : va_P D gt_cl (gt_MW ma mc thr S.1 n t ol.length told (fun j9 => lN (S.2.1 j9)) (fun j9 => lN (S.2.2.1 j9)) S.2.2.2.1 (fun j9 => nI (d.1 j9).1) (fun j9 => (d.1 j9).2.1) lt (fun j9 => lN (d.1 j9).2.2) (fun g9 => (d.2 g9).1) S.2.2.2.2.1 (fun g9 => (d.2 g9).2.1) (fun g9 => lN (d.2 g9).2.2.1) S.2.2.2.2.2 (fun g9 => (d.2 g9).2.2.2.1) (fun g9 => (d.2 g9).2.2.2.2) (gt_lf ol)) H := hP
  have hD : va_D A (gt_MW ma mc thr S.1 n t ol.length told (fun j9 => lN (S.2.1 j9)) (fun j9 => lN (S.2.2.1 j9)) S.2.2.2.1 (fun j9 => nI (d.1 j9).1) (fun j9 => (d.1 j9).2.1) lt (fun j9 => lN (d.1 j9).2.2) (fun g9 => (d.2 g9).1) S.2.2.2.2.1 (fun g9 => (d.2 g9).2.1) (fun g9 => lN (d.2 g9).2.2.1) S.2.2.2.2.2 (fun g9 => (d.2 g9).2.2.2.1) (fun g9 => (d.2 g9).2.2.2.2) (gt_lf ol)) := hD
  refine lv_iconst (v := 0) hx hb d_M_pass_5 (by decide) ?_
  refine lv_istore_n (lv' := [(3, .int 0), (0, .ref (ma 0)), (1, .long (lN t))]) hx hb d_M_pass_6 rfl hl (by decide) rfl (fun ls hl => ?_)
  exact loop1 (S.1 + 2) 0 d (Nat.zero_le _) (by omega) (gt_B_init hd) _ _ hP hD hS ls (lv_sub hl [0, 1, 2] rfl)
end
section
/-! THE REFERENCE: order, step, out, late, count, height, swap, stuck, verify. -/
abbrev rm_M_order : Room := { frames := 3, cells := 0, slots := 0, locals := 73 }
set_option maxHeartbeats 4000000 in
set_option maxRecDepth 100000 in
/-- order(i, bin, t) -/
theorem c_M_order (l : Launch) (D : va_G) (sz : Nat) (ma : Nat → Nat) (mc : Nat → ClassId) (thr : Int32) (S : gt_SS) (lt : Nat → Int32) (d : gt_Dy) (n now : Nat) (ol : List Nat) (told : Int32) (x y : Int32) (tt : Int64) (hinv : gt_Inv n S lt d now ol) : Met l y_M_order w_M_order rm_M_order (gt_Pre D (va_K D gt_cl (gt_Mt mc)) [.ref (ma 0), .int x, .int y, .long tt] (gt_MS ma mc thr S lt d n now ol told) sz) (gt_Qi D (gt_MS ma mc thr S lt d n now ol told) sz (fun (r : Int32) (u : gt_St) => gt_ROrder n (S, lt, d, now, ol) x y tt r u) (fun u : gt_St => gt_MS ma mc 0 u.1 u.2.1 u.2.2.1 n u.2.2.2.1 u.2.2.2.2 told)) 0 0 (va_A (gt_MS ma mc thr S lt d n now ol told) sz) := by
  refine gt_mut_i (own := R_M) (by decide) rfl (Nat.le_of_ble_eq_true rfl) ?_
  intro p e s m below meth c args A hx hb hml hown hts hP hK0 hD hA Q hret ls hl
  have hS : va_S A s.heap s.heap [] := va_S.rf
  have hl : lv_has ls 7 [(0, .ref (ma 0)), (1, .int x), (2, .int y), (3, .long tt)] := hl
  have hK : va_K D gt_cl (gt_Mt mc) s := hK0
  have hn : n ≤ 400 := hinv.1.2.2.1
  have hG1 : 1 ≤ S.1 := hinv.1.1
  have hG : S.1 ≤ 12 := hinv.1.2.1
  have hlen := gt_Inv_len hinv
  have hnow : now ≤ 1000000000 := hinv.2.2.2.1
  refine lv_aload_n hx hb d_M_order_0 rfl (lv_at hl 0 rfl) ?_
  refine lv_iconst (v := 0) hx hb d_M_order_1 (by decide) ?_
  refine va_put (D := D) (ci := 3) (v := .int 0) (ty := .int) (C := R_M) (T := F_M) (N := 21) hx hb hts i_M t_M t_M_ok n_M hown hK hP hD hS 0 rfl rfl 0 (by decide) (hts _ kw_238) (fun _ h9 => h9) rfl (by decide +kernel) rfl rfl (Nat.le_of_ble_eq_true rfl) d_M_order_2 (fun H locs hP hD hS => ?_)
  have hP : va_P D gt_cl (gt_MW ma mc 0 S.1 n now ol.length told (fun j9 => lN (S.2.1 j9)) (fun j9 => lN (S.2.2.1 j9)) S.2.2.2.1 (fun j9 => nI (d.1 j9).1) (fun j9 => (d.1 j9).2.1) lt (fun j9 => lN (d.1 j9).2.2) (fun g9 => (d.2 g9).1) S.2.2.2.2.1 (fun g9 => (d.2 g9).2.1) (fun g9 => lN (d.2 g9).2.2.1) S.2.2.2.2.2 (fun g9 => (d.2 g9).2.2.2.1) (fun g9 => (d.2 g9).2.2.2.2) (gt_lf ol)) H := hP
  have hD : va_D A (gt_MW ma mc 0 S.1 n now ol.length told (fun j9 => lN (S.2.1 j9)) (fun j9 => lN (S.2.2.1 j9)) S.2.2.2.1 (fun j9 => nI (d.1 j9).1) (fun j9 => (d.1 j9).2.1) lt (fun j9 => lN (d.1 j9).2.2) (fun g9 => (d.2 g9).1) S.2.2.2.2.1 (fun g9 => (d.2 g9).2.1) (fun g9 => lN (d.2 g9).2.2.1) S.2.2.2.2.2 (fun g9 => (d.2 g9).2.2.2.1) (fun g9 => (d.2 g9).2.2.2.2) (gt_lf ol)) := hD
  refine lv_aload_n hx hb d_M_order_5 rfl (lv_at hl 0 rfl) ?_
  refine lv_iload_n hx hb d_M_order_6 rfl (lv_at hl 1 rfl) ?_
  have hP : va_P D gt_cl (gt_MS ma mc 0 S lt d n now ol told) H := hP
  have hD : va_D A (gt_MS ma mc 0 S lt d n now ol told) := hD
  refine vp_callSi (va_runV (As := [.int x]) (rest := []) ⟨hx, hb, hml, hown, hts⟩ (c_M_isItem l D ma mc 0 S lt d n now ol told x hn) (cwV 1 hts (tb_inV kw_317 kw_319 ks_M_isItem kw_4 kw_320) rfl rfl rfl (by decide +kernel) ⟨Nat.le_of_ble_eq_true rfl, Nat.le_of_ble_eq_true rfl⟩) (gt_PreP_V gt_K_mv (va_recv hK hP (ci := 3) (q0 := 0) rfl rfl) hP hK) rfl rfl hl.1 rfl (lv_room (Nat.le_of_ble_eq_true rfl)) d_M_order_7 ⟨Nat.zero_le _, Nat.zero_le _⟩).run (fun r1 h1 => ?_)
  refine lv_if_eq (tgt := 21) hx hb d_M_order_10 (by decide) (fun c1 => ?_) (fun c1 => ?_)
  · refine lv_bipush (v := (-101)) hx hb d_M_order_21 (by decide) ?_
    exact hret _ _ _ _ _ (S, lt, d, now, ol) d_M_order_23 (Or.inl ⟨fun q => h1.no c1 q.1, rfl, rfl⟩) hP hD hS
  · refine lv_aload_n hx hb d_M_order_13 rfl (lv_at hl 0 rfl) ?_
    refine lv_iload_n hx hb d_M_order_14 rfl (lv_at hl 2 rfl) ?_
    refine vp_callSi (va_runV (As := [.int y]) (rest := []) ⟨hx, hb, hml, hown, hts⟩ (c_M_isBin l D ma mc 0 S lt d n now ol told y hG1 hG) (cwV 1 hts (tb_inV kw_321 kw_323 ks_M_isBin kw_4 kw_324) rfl rfl rfl (by decide +kernel) ⟨Nat.le_of_ble_eq_true rfl, Nat.le_of_ble_eq_true rfl⟩) (gt_PreP_V gt_K_mv (va_recv hK hP (ci := 3) (q0 := 0) rfl rfl) hP hK) rfl rfl hl.1 rfl (lv_room (Nat.le_of_ble_eq_true rfl)) d_M_order_15 ⟨Nat.zero_le _, Nat.zero_le _⟩).run (fun r2 h2 => ?_)
    refine lv_if_ne (tgt := 24) hx hb d_M_order_18 (by decide) (fun c2 => ?_) (fun c2 => ?_)
    · obtain ⟨i, i1, i2, rfl⟩ := h1.yes c1
      obtain ⟨g, g1, rfl⟩ := h2.yes c2
      refine lv_lload_n hx hb d_M_order_24 rfl (lv_at hl 3 rfl) ?_
      refine lv_aload_n hx hb d_M_order_25 rfl (lv_at hl 0 rfl) ?_
      refine va_get (D := D) (ci := 3) (v := .long (lN now)) (C := R_M) (T := F_M) (N := 21) hx hb hts i_M hown hK hP 0 rfl rfl 17 (by decide) (hts _ kw_255) (fun _ h9 => h9) rfl d_M_order_26 ?_
      refine lv_ldc2 (v := lN 1000000000) hx hb hown (hts _ kw_312) d_M_order_29 ?_
      refine vp_callSi (va_runS (As := [.long tt, .long (lN now), .long (lN 1000000000)]) (rest := []) ⟨hx, hb, hml, hown, hts⟩ (c_M_isIn l D tt (lN now) (lN 1000000000)) (cwS 3 hts (tb_inS kw_309 kw_310 kw_4 kw_311) rfl rfl rfl (by decide +kernel) ⟨Nat.le_of_ble_eq_true rfl, Nat.le_of_ble_eq_true rfl⟩) (gt_PreP_S gt_T_mv gt_P0 trivial) rfl rfl hl.1 rfl (lv_room (Nat.le_of_ble_eq_true rfl)) d_M_order_32 ⟨Nat.zero_le _, Nat.zero_le _⟩).run (fun r3 h3 => ?_)
      refine lv_if_ne (tgt := 41) hx hb d_M_order_35 (by decide) (fun c3 => ?_) (fun c3 => ?_)
      · obtain ⟨t, t1, t2, rfl⟩ := (gt_num_time (by omega) (by omega)).mp (h3.yes c3)
        refine lv_aload_n hx hb d_M_order_41 rfl (lv_at hl 0 rfl) ?_
        refine lv_lload_n hx hb d_M_order_42 rfl (lv_at hl 3 rfl) ?_
        have hFc := gt_freeW hD hS hA
        refine va_callv (va_runV (As := [.long (lN t)]) (rest := []) ⟨hx, hb, hml, hown, hts⟩ (c_M_pass l D H.size ma mc 0 S lt d n now ol told t hinv.1 hinv.2.1 hinv.2.2.1 t1 t2) (cwV 1 hts (tb_inV kw_325 kw_327 ks_M_pass kw_4 kw_328) rfl rfl rfl (by decide +kernel) ⟨Nat.le_of_ble_eq_true rfl, Nat.le_of_ble_eq_true rfl⟩) (gt_Pre_V gt_K_mv (va_recv hK hP (ci := 3) (q0 := 0) rfl rfl) hP hK hD) rfl rfl hl.1 rfl (lv_room (Nat.le_of_ble_eq_true rfl)) d_M_order_43 ⟨Nat.zero_le _, Nat.zero_le _⟩) hS (fun q _ h => hFc q h) hFc (fun u t9 H1 locs ht9 hvm9 hw hB hz1 hk1 hS => ?_)
        obtain ⟨hP1, hD1⟩ := hB
        rw [ht9] at hP1
        obtain ⟨d1, ol1⟩ := u
        have hD := hD1.weaken (fun _ _ _ h => hFc _ h)
        have hP := hP1
        have hP : va_P D gt_cl (gt_MS ma mc 0 S lt d1 n t ol1 told) H1 := hP
        have hD : va_D A (gt_MS ma mc 0 S lt d1 n t ol1 told) := hD
        have hP : va_P D gt_cl (gt_MW ma mc 0 S.1 n t ol1.length told (fun j9 => lN (S.2.1 j9)) (fun j9 => lN (S.2.2.1 j9)) S.2.2.2.1 (fun j9 => nI (d1.1 j9).1) (fun j9 => (d1.1 j9).2.1) lt (fun j9 => lN (d1.1 j9).2.2) (fun g9 => (d1.2 g9).1) S.2.2.2.2.1 (fun g9 => (d1.2 g9).2.1) (fun g9 => lN (d1.2 g9).2.2.1) S.2.2.2.2.2 (fun g9 => (d1.2 g9).2.2.2.1) (fun g9 => (d1.2 g9).2.2.2.2) (gt_lf ol1)) H1 := hP
        have hD : va_D A (gt_MW ma mc 0 S.1 n t ol1.length told (fun j9 => lN (S.2.1 j9)) (fun j9 => lN (S.2.2.1 j9)) S.2.2.2.1 (fun j9 => nI (d1.1 j9).1) (fun j9 => (d1.1 j9).2.1) lt (fun j9 => lN (d1.1 j9).2.2) (fun g9 => (d1.2 g9).1) S.2.2.2.2.1 (fun g9 => (d1.2 g9).2.1) (fun g9 => lN (d1.2 g9).2.2.1) S.2.2.2.2.2 (fun g9 => (d1.2 g9).2.2.2.1) (fun g9 => (d1.2 g9).2.2.2.2) (gt_lf ol1)) := hD
        obtain ⟨hp, hd1, ho1⟩ := hw
        have hab := hinv.1.2.2.2.1 i i1 i2
        have hod := hinv.2.2.2.2.1 i i1 i2
        refine lv_aload_n hx hb d_M_order_46 rfl (lv_at hl 0 rfl) ?_
        refine va_get (D := D) (ci := 3) (v := .ref (ma 5)) (C := R_M) (T := F_M) (N := 21) hx hb hts i_M hown hK hP 0 rfl rfl 7 (by decide) (hts _ kw_245) (fun _ h9 => h9) rfl d_M_order_47 ?_
        refine lv_iload_n hx hb d_M_order_50 rfl (lv_at hl 1 rfl) ?_
        refine gt_iald (k := i) hx hb hK hP 5 4 rfl rfl (by omega) (by decide) d_M_order_51 ?_
        refine lv_if_ge (tgt := 64) hx hb d_M_order_52 (by decide) (fun c4 => ?_) (fun c4 => ?_)
        · refine lv_aload_n hx hb d_M_order_64 rfl (lv_at hl 0 rfl) ?_
          refine va_get (D := D) (ci := 3) (v := .ref (ma 5)) (C := R_M) (T := F_M) (N := 21) hx hb hts i_M hown hK hP 0 rfl rfl 7 (by decide) (hts _ kw_245) (fun _ h9 => h9) rfl d_M_order_65 ?_
          refine lv_iload_n hx hb d_M_order_68 rfl (lv_at hl 1 rfl) ?_
          refine gt_iald (k := i) hx hb hK hP 5 4 rfl rfl (by omega) (by decide) d_M_order_69 ?_
          refine lv_if_lt (tgt := 77) hx hb d_M_order_70 (by decide) (fun c6 => ?_) (fun c6 => ?_)
          · exact absurd c4 (Int32.not_le.mpr c6)
          · refine lv_iconst (v := 0) hx hb d_M_order_73 (by decide) ?_
            refine lv_goto (tgt := 78) hx hb d_M_order_74 (by decide) ?_
            have hP : va_P D gt_cl (gt_MS ma mc 0 S lt d1 n t ol1 told) H1 := hP
            have hD : va_D A (gt_MS ma mc 0 S lt d1 n t ol1 told) := hD
            exact hret _ _ _ _ _ (S, lt, d1, t, ol1) d_M_order_78 (Or.inr ⟨i, g, i1, i2, rfl, g1, rfl, Or.inr ⟨t, t1, t2, rfl, hp, rfl, Or.inl ⟨c6, rfl, rfl, rfl⟩⟩⟩) hP hD hS
        · refine lv_aload_n hx hb d_M_order_55 rfl (lv_at hl 0 rfl) ?_
          refine va_get (D := D) (ci := 3) (v := .ref (ma 3)) (C := R_M) (T := F_M) (N := 21) hx hb hts i_M hown hK hP 0 rfl rfl 5 (by decide) (hts _ kw_243) (fun _ h9 => h9) rfl d_M_order_56 ?_
          refine lv_iload_n hx hb d_M_order_59 rfl (lv_at hl 1 rfl) ?_
          refine gt_iald (k := i) hx hb hK hP 3 2 rfl rfl (by omega) (by decide) d_M_order_60 ?_
          refine lv_if_lt (tgt := 79) hx hb d_M_order_61 (by decide) (fun c5 => ?_) (fun c5 => ?_)
          · have hb4 := Int32.not_le.mp c4
            have hm1 : S.2.2.2.1 i = -1 := hod.resolve_right (fun q => absurd c5 (Int32.not_lt.mpr q))
            refine lv_lload_n hx hb d_M_order_79 rfl (lv_at hl 3 rfl) ?_
            refine lv_ldc2 (v := lN 200) hx hb hown (hts _ kw_338) d_M_order_80 ?_
            refine lv_ladd hx hb d_M_order_83 ?_
            rw [lN_add]
            refine lv_aload_n hx hb d_M_order_84 rfl (lv_at hl 0 rfl) ?_
            refine lv_iload_n hx hb d_M_order_85 rfl (lv_at hl 1 rfl) ?_
            refine lv_iload_n hx hb d_M_order_86 rfl (lv_at hl 2 rfl) ?_
            refine vp_callSl (va_runV (As := [.int (nI i), .int (nI g)]) (rest := [.long (lN (t + 200))]) ⟨hx, hb, hml, hown, hts⟩ (c_M_front l D ma mc 0 S lt d1 n t ol1 told i g (by omega) (by omega)) (cwV 2 hts (tb_inV kw_329 kw_331 ks_M_front kw_4 kw_332) rfl rfl rfl (by decide +kernel) ⟨Nat.le_of_ble_eq_true rfl, Nat.le_of_ble_eq_true rfl⟩) (gt_PreP_V gt_K_mv (va_recv hK hP (ci := 3) (q0 := 0) rfl rfl) hP hK) rfl rfl hl.1 rfl (lv_room (Nat.le_of_ble_eq_true rfl)) d_M_order_87 ⟨Nat.zero_le _, Nat.zero_le _⟩).run (fun r4 h4 => ?_)
            subst h4
            refine lv_lsub hx hb d_M_order_90 ?_
            refine lv_lstore (lv' := [(5, .long ((lN (t + 200)) - (lN (gt_fr S.2.1 i g)))), (0, .ref (ma 0)), (1, .int (nI i)), (2, .int (nI g)), (3, .long (lN t))]) hx hb d_M_order_91 hl (by decide) rfl (fun ls hl => ?_)
            refine lv_lload hx hb d_M_order_93 (lv_at hl 0 rfl) ?_
            refine lv_lconst (v := lN 0) hx hb d_M_order_95 rfl ?_
            refine W.lcmp hx hb d_M_order_96 ?_
            refine lv_if_le (tgt := 111) hx hb d_M_order_97 (by decide) (fun c7 => ?_) (fun c7 => ?_)
            · have c7 := (lg_cmp_le _ _).mp c7
              rw [gt_sub_pos (by omega) (by unfold gt_fr; omega)] at c7
              refine lv_aload_n hx hb d_M_order_111 rfl (lv_at hl 1 rfl) ?_
              refine va_get (D := D) (ci := 3) (v := .ref (ma 3)) (C := R_M) (T := F_M) (N := 21) hx hb hts i_M hown hK hP 0 rfl rfl 5 (by decide) (hts _ kw_243) (fun _ h9 => h9) rfl d_M_order_112 ?_
              refine lv_iload_n hx hb d_M_order_115 rfl (lv_at hl 2 rfl) ?_
              refine lv_iload_n hx hb d_M_order_116 rfl (lv_at hl 3 rfl) ?_
              refine gt_iast (k := i) hx hb hK hP hD hS 3 2 rfl rfl (by omega) (by decide) d_M_order_117 (fun H locs hP hD hS => ?_)
              have hP : va_P D gt_cl (gt_MW ma mc 0 S.1 n t ol1.length told (fun j9 => lN (S.2.1 j9)) (fun j9 => lN (S.2.2.1 j9)) (upd S.2.2.2.1 i (nI g)) (fun j9 => nI (d1.1 j9).1) (fun j9 => (d1.1 j9).2.1) lt (fun j9 => lN (d1.1 j9).2.2) (fun g9 => (d1.2 g9).1) S.2.2.2.2.1 (fun g9 => (d1.2 g9).2.1) (fun g9 => lN (d1.2 g9).2.2.1) S.2.2.2.2.2 (fun g9 => (d1.2 g9).2.2.2.1) (fun g9 => (d1.2 g9).2.2.2.2) (gt_lf ol1)) H := hP
              have hD : va_D A (gt_MW ma mc 0 S.1 n t ol1.length told (fun j9 => lN (S.2.1 j9)) (fun j9 => lN (S.2.2.1 j9)) (upd S.2.2.2.1 i (nI g)) (fun j9 => nI (d1.1 j9).1) (fun j9 => (d1.1 j9).2.1) lt (fun j9 => lN (d1.1 j9).2.2) (fun g9 => (d1.2 g9).1) S.2.2.2.2.1 (fun g9 => (d1.2 g9).2.1) (fun g9 => lN (d1.2 g9).2.2.1) S.2.2.2.2.2 (fun g9 => (d1.2 g9).2.2.2.1) (fun g9 => (d1.2 g9).2.2.2.2) (gt_lf ol1)) := hD
              refine lv_iconst (v := 1) hx hb d_M_order_118 (by decide) ?_
              have hP : va_P D gt_cl (gt_MS ma mc 0 (S.1, S.2.1, S.2.2.1, va_up S.2.2.2.1 i (nI g), S.2.2.2.2) lt d1 n t ol1 told) H := hP
              have hD : va_D A (gt_MS ma mc 0 (S.1, S.2.1, S.2.2.1, va_up S.2.2.2.1 i (nI g), S.2.2.2.2) lt d1 n t ol1 told) := hD
              exact hret _ _ _ _ _ ((S.1, S.2.1, S.2.2.1, va_up S.2.2.2.1 i (nI g), S.2.2.2.2), lt, d1, t, ol1) d_M_order_119 (Or.inr ⟨i, g, i1, i2, rfl, g1, rfl, Or.inr ⟨t, t1, t2, rfl, hp, rfl, Or.inr (Or.inr (Or.inr ⟨hb4, hm1, c7, rfl, rfl, rfl⟩))⟩⟩) hP hD hS
            · have c7 : ¬ _ := fun q => c7 ((lg_cmp_le _ _).mpr q)
              rw [gt_sub_pos (by omega) (by unfold gt_fr; omega)] at c7
              have c8 : gt_fr S.2.1 i g < t + 200 := Decidable.not_not.mp c7
              rw [lN_sub (Nat.le_of_lt c8)] at hl
              refine lv_aload_n hx hb d_M_order_100 rfl (lv_at hl 1 rfl) ?_
              refine va_get (D := D) (ci := 3) (v := .ref (ma 6)) (C := R_M) (T := F_M) (N := 21) hx hb hts i_M hown hK hP 0 rfl rfl 8 (by decide) (hts _ kw_246) (fun _ h9 => h9) rfl d_M_order_101 ?_
              refine lv_iload_n hx hb d_M_order_104 rfl (lv_at hl 2 rfl) ?_
              refine lv_lload hx hb d_M_order_105 (lv_at hl 0 rfl) ?_
              refine lv_l2i (v := nI (t + 200 - gt_fr S.2.1 i g)) hx hb d_M_order_107 (lN_i _) ?_
              refine gt_iast (k := i) hx hb hK hP hD hS 6 5 rfl rfl (by omega) (by decide) d_M_order_108 (fun H locs hP hD hS => ?_)
              have hP : va_P D gt_cl (gt_MW ma mc 0 S.1 n t ol1.length told (fun j9 => lN (S.2.1 j9)) (fun j9 => lN (S.2.2.1 j9)) S.2.2.2.1 (fun j9 => nI (d1.1 j9).1) (fun j9 => (d1.1 j9).2.1) (upd lt i (nI (t + 200 - gt_fr S.2.1 i g))) (fun j9 => lN (d1.1 j9).2.2) (fun g9 => (d1.2 g9).1) S.2.2.2.2.1 (fun g9 => (d1.2 g9).2.1) (fun g9 => lN (d1.2 g9).2.2.1) S.2.2.2.2.2 (fun g9 => (d1.2 g9).2.2.2.1) (fun g9 => (d1.2 g9).2.2.2.2) (gt_lf ol1)) H := hP
              have hD : va_D A (gt_MW ma mc 0 S.1 n t ol1.length told (fun j9 => lN (S.2.1 j9)) (fun j9 => lN (S.2.2.1 j9)) S.2.2.2.1 (fun j9 => nI (d1.1 j9).1) (fun j9 => (d1.1 j9).2.1) (upd lt i (nI (t + 200 - gt_fr S.2.1 i g))) (fun j9 => lN (d1.1 j9).2.2) (fun g9 => (d1.2 g9).1) S.2.2.2.2.1 (fun g9 => (d1.2 g9).2.1) (fun g9 => lN (d1.2 g9).2.2.1) S.2.2.2.2.2 (fun g9 => (d1.2 g9).2.2.2.1) (fun g9 => (d1.2 g9).2.2.2.2) (gt_lf ol1)) := hD
              refine lv_iconst (v := 0) hx hb d_M_order_109 (by decide) ?_
              have hP : va_P D gt_cl (gt_MS ma mc 0 S (va_up lt i (nI (t + 200 - gt_fr S.2.1 i g))) d1 n t ol1 told) H := hP
              have hD : va_D A (gt_MS ma mc 0 S (va_up lt i (nI (t + 200 - gt_fr S.2.1 i g))) d1 n t ol1 told) := hD
              exact hret _ _ _ _ _ (S, va_up lt i (nI (t + 200 - gt_fr S.2.1 i g)), d1, t, ol1) d_M_order_110 (Or.inr ⟨i, g, i1, i2, rfl, g1, rfl, Or.inr ⟨t, t1, t2, rfl, hp, rfl, Or.inr (Or.inr (Or.inl ⟨hb4, hm1, c8, rfl, rfl, rfl⟩))⟩⟩) hP hD hS
          · have hb4 := Int32.not_le.mp c4
            refine lv_aload_n hx hb d_M_order_64 rfl (lv_at hl 0 rfl) ?_
            refine va_get (D := D) (ci := 3) (v := .ref (ma 5)) (C := R_M) (T := F_M) (N := 21) hx hb hts i_M hown hK hP 0 rfl rfl 7 (by decide) (hts _ kw_245) (fun _ h9 => h9) rfl d_M_order_65 ?_
            refine lv_iload_n hx hb d_M_order_68 rfl (lv_at hl 1 rfl) ?_
            refine gt_iald (k := i) hx hb hK hP 5 4 rfl rfl (by omega) (by decide) d_M_order_69 ?_
            refine lv_if_lt (tgt := 77) hx hb d_M_order_70 (by decide) (fun c6 => ?_) (fun c6 => ?_)
            · refine lv_iconst (v := 2) hx hb d_M_order_77 (by decide) ?_
              have hP : va_P D gt_cl (gt_MS ma mc 0 S lt d1 n t ol1 told) H1 := hP
              have hD : va_D A (gt_MS ma mc 0 S lt d1 n t ol1 told) := hD
              exact hret _ _ _ _ _ (S, lt, d1, t, ol1) d_M_order_78 (Or.inr ⟨i, g, i1, i2, rfl, g1, rfl, Or.inr ⟨t, t1, t2, rfl, hp, rfl, Or.inr (Or.inl ⟨hb4, fun e => c5 (by rw [e]; decide), rfl, rfl, rfl⟩)⟩⟩) hP hD hS
            · exact absurd hb4 c6
      · refine lv_bipush (v := (-102)) hx hb d_M_order_38 (by decide) ?_
        exact hret _ _ _ _ _ (S, lt, d, now, ol) d_M_order_40 (Or.inr ⟨i, g, i1, i2, rfl, g1, rfl, Or.inl ⟨fun q => h3.no c3 ((gt_num_time (by omega) (by omega)).mpr q), rfl, rfl⟩⟩) hP hD hS
    · refine lv_bipush (v := (-101)) hx hb d_M_order_21 (by decide) ?_
      exact hret _ _ _ _ _ (S, lt, d, now, ol) d_M_order_23 (Or.inl ⟨fun q => h2.no c2 q.2, rfl, rfl⟩) hP hD hS
abbrev rm_M_step : Room := { frames := 3, cells := 0, slots := 0, locals := 73 }
set_option maxHeartbeats 4000000 in
set_option maxRecDepth 100000 in
/-- step(t) -/
theorem c_M_step (l : Launch) (D : va_G) (sz : Nat) (ma : Nat → Nat) (mc : Nat → ClassId) (thr : Int32) (S : gt_SS) (lt : Nat → Int32) (d : gt_Dy) (n now : Nat) (ol : List Nat) (told : Int32) (tt : Int64) (hinv : gt_Inv n S lt d now ol) : Met l y_M_step w_M_step rm_M_step (gt_Pre D (va_K D gt_cl (gt_Mt mc)) [.ref (ma 0), .long tt] (gt_MS ma mc thr S lt d n now ol told) sz) (gt_Qi D (gt_MS ma mc thr S lt d n now ol told) sz (fun (r : Int32) (v : gt_St × Int32) => gt_RStep n (S, lt, d, now, ol) told tt r v.1 v.2) (fun v : gt_St × Int32 => gt_MS ma mc 0 v.1.1 v.1.2.1 v.1.2.2.1 n v.1.2.2.2.1 v.1.2.2.2.2 v.2)) 0 0 (va_A (gt_MS ma mc thr S lt d n now ol told) sz) := by
  refine gt_mut_i (own := R_M) (by decide) rfl (Nat.le_of_ble_eq_true rfl) ?_
  intro p e s m below meth c args A hx hb hml hown hts hP hK0 hD hA Q hret ls hl
  have hS : va_S A s.heap s.heap [] := va_S.rf
  have hl : lv_has ls 4 [(0, .ref (ma 0)), (1, .long tt)] := hl
  have hK : va_K D gt_cl (gt_Mt mc) s := hK0
  have hn : n ≤ 400 := hinv.1.2.2.1
  have hG1 : 1 ≤ S.1 := hinv.1.1
  have hG : S.1 ≤ 12 := hinv.1.2.1
  have hlen := gt_Inv_len hinv
  have hnow : now ≤ 1000000000 := hinv.2.2.2.1
  refine lv_aload_n hx hb d_M_step_0 rfl (lv_at hl 0 rfl) ?_
  refine lv_iconst (v := 0) hx hb d_M_step_1 (by decide) ?_
  refine va_put (D := D) (ci := 3) (v := .int 0) (ty := .int) (C := R_M) (T := F_M) (N := 21) hx hb hts i_M t_M t_M_ok n_M hown hK hP hD hS 0 rfl rfl 0 (by decide) (hts _ kw_238) (fun _ h9 => h9) rfl (by decide +kernel) rfl rfl (Nat.le_of_ble_eq_true rfl) d_M_step_2 (fun H locs hP hD hS => ?_)
  have hP : va_P D gt_cl (gt_MW ma mc 0 S.1 n now ol.length told (fun j9 => lN (S.2.1 j9)) (fun j9 => lN (S.2.2.1 j9)) S.2.2.2.1 (fun j9 => nI (d.1 j9).1) (fun j9 => (d.1 j9).2.1) lt (fun j9 => lN (d.1 j9).2.2) (fun g9 => (d.2 g9).1) S.2.2.2.2.1 (fun g9 => (d.2 g9).2.1) (fun g9 => lN (d.2 g9).2.2.1) S.2.2.2.2.2 (fun g9 => (d.2 g9).2.2.2.1) (fun g9 => (d.2 g9).2.2.2.2) (gt_lf ol)) H := hP
  have hD : va_D A (gt_MW ma mc 0 S.1 n now ol.length told (fun j9 => lN (S.2.1 j9)) (fun j9 => lN (S.2.2.1 j9)) S.2.2.2.1 (fun j9 => nI (d.1 j9).1) (fun j9 => (d.1 j9).2.1) lt (fun j9 => lN (d.1 j9).2.2) (fun g9 => (d.2 g9).1) S.2.2.2.2.1 (fun g9 => (d.2 g9).2.1) (fun g9 => lN (d.2 g9).2.2.1) S.2.2.2.2.2 (fun g9 => (d.2 g9).2.2.2.1) (fun g9 => (d.2 g9).2.2.2.2) (gt_lf ol)) := hD
  refine lv_lload_n hx hb d_M_step_5 rfl (lv_at hl 1 rfl) ?_
  refine lv_aload_n hx hb d_M_step_6 rfl (lv_at hl 0 rfl) ?_
  refine va_get (D := D) (ci := 3) (v := .long (lN now)) (C := R_M) (T := F_M) (N := 21) hx hb hts i_M hown hK hP 0 rfl rfl 17 (by decide) (hts _ kw_255) (fun _ h9 => h9) rfl d_M_step_7 ?_
  refine lv_ldc2 (v := lN 1000000000) hx hb hown (hts _ kw_312) d_M_step_10 ?_
  have hP : va_P D gt_cl (gt_MS ma mc 0 S lt d n now ol told) H := hP
  have hD : va_D A (gt_MS ma mc 0 S lt d n now ol told) := hD
  refine vp_callSi (va_runS (As := [.long tt, .long (lN now), .long (lN 1000000000)]) (rest := []) ⟨hx, hb, hml, hown, hts⟩ (c_M_isIn l D tt (lN now) (lN 1000000000)) (cwS 3 hts (tb_inS kw_309 kw_310 kw_4 kw_311) rfl rfl rfl (by decide +kernel) ⟨Nat.le_of_ble_eq_true rfl, Nat.le_of_ble_eq_true rfl⟩) (gt_PreP_S gt_T_mv gt_P0 trivial) rfl rfl hl.1 rfl (lv_room (Nat.le_of_ble_eq_true rfl)) d_M_step_13 ⟨Nat.zero_le _, Nat.zero_le _⟩).run (fun r3 h3 => ?_)
  refine lv_if_ne (tgt := 22) hx hb d_M_step_16 (by decide) (fun c3 => ?_) (fun c3 => ?_)
  · obtain ⟨t, t1, t2, rfl⟩ := (gt_num_time (by omega) (by omega)).mp (h3.yes c3)
    refine lv_aload_n hx hb d_M_step_22 rfl (lv_at hl 0 rfl) ?_
    refine lv_lload_n hx hb d_M_step_23 rfl (lv_at hl 1 rfl) ?_
    have hFc := gt_freeW hD hS hA
    refine va_callv (va_runV (As := [.long (lN t)]) (rest := []) ⟨hx, hb, hml, hown, hts⟩ (c_M_pass l D H.size ma mc 0 S lt d n now ol told t hinv.1 hinv.2.1 hinv.2.2.1 t1 t2) (cwV 1 hts (tb_inV kw_325 kw_327 ks_M_pass kw_4 kw_328) rfl rfl rfl (by decide +kernel) ⟨Nat.le_of_ble_eq_true rfl, Nat.le_of_ble_eq_true rfl⟩) (gt_Pre_V gt_K_mv (va_recv hK hP (ci := 3) (q0 := 0) rfl rfl) hP hK hD) rfl rfl hl.1 rfl (lv_room (Nat.le_of_ble_eq_true rfl)) d_M_step_24 ⟨Nat.zero_le _, Nat.zero_le _⟩) hS (fun q _ h => hFc q h) hFc (fun u t9 H1 locs ht9 hvm9 hw hB hz1 hk1 hS => ?_)
    obtain ⟨hP1, hD1⟩ := hB
    rw [ht9] at hP1
    obtain ⟨d1, ol1⟩ := u
    have hD := hD1.weaken (fun _ _ _ h => hFc _ h)
    have hP := hP1
    have hP : va_P D gt_cl (gt_MS ma mc 0 S lt d1 n t ol1 told) H1 := hP
    have hD : va_D A (gt_MS ma mc 0 S lt d1 n t ol1 told) := hD
    have hP : va_P D gt_cl (gt_MW ma mc 0 S.1 n t ol1.length told (fun j9 => lN (S.2.1 j9)) (fun j9 => lN (S.2.2.1 j9)) S.2.2.2.1 (fun j9 => nI (d1.1 j9).1) (fun j9 => (d1.1 j9).2.1) lt (fun j9 => lN (d1.1 j9).2.2) (fun g9 => (d1.2 g9).1) S.2.2.2.2.1 (fun g9 => (d1.2 g9).2.1) (fun g9 => lN (d1.2 g9).2.2.1) S.2.2.2.2.2 (fun g9 => (d1.2 g9).2.2.2.1) (fun g9 => (d1.2 g9).2.2.2.2) (gt_lf ol1)) H1 := hP
    have hD : va_D A (gt_MW ma mc 0 S.1 n t ol1.length told (fun j9 => lN (S.2.1 j9)) (fun j9 => lN (S.2.2.1 j9)) S.2.2.2.1 (fun j9 => nI (d1.1 j9).1) (fun j9 => (d1.1 j9).2.1) lt (fun j9 => lN (d1.1 j9).2.2) (fun g9 => (d1.2 g9).1) S.2.2.2.2.1 (fun g9 => (d1.2 g9).2.1) (fun g9 => lN (d1.2 g9).2.2.1) S.2.2.2.2.2 (fun g9 => (d1.2 g9).2.2.2.1) (fun g9 => (d1.2 g9).2.2.2.2) (gt_lf ol1)) := hD
    obtain ⟨hp, hd1, ho1⟩ := hw
    refine lv_aload_n hx hb d_M_step_27 rfl (lv_at hl 0 rfl) ?_
    refine va_get (D := D) (ci := 3) (v := .int (nI ol1.length)) (C := R_M) (T := F_M) (N := 21) hx hb hts i_M hown hK hP 0 rfl rfl 18 (by decide) (hts _ kw_256) (fun _ h9 => h9) rfl d_M_step_28 ?_
    refine lv_aload_n hx hb d_M_step_31 rfl (lv_at hl 0 rfl) ?_
    refine va_get (D := D) (ci := 3) (v := .int told) (C := R_M) (T := F_M) (N := 21) hx hb hts i_M hown hK hP 0 rfl rfl 20 (by decide) (hts _ kw_258) (fun _ h9 => h9) rfl d_M_step_32 ?_
    refine lv_isub hx hb d_M_step_35 ?_
    refine lv_istore_n (lv' := [(3, .int ((nI ol1.length) - told)), (0, .ref (ma 0)), (1, .long (lN t))]) hx hb d_M_step_36 rfl hl (by decide) rfl (fun ls hl => ?_)
    refine lv_aload_n hx hb d_M_step_37 rfl (lv_at hl 1 rfl) ?_
    refine lv_aload_n hx hb d_M_step_38 rfl (lv_at hl 1 rfl) ?_
    refine va_get (D := D) (ci := 3) (v := .int (nI ol1.length)) (C := R_M) (T := F_M) (N := 21) hx hb hts i_M hown hK hP 0 rfl rfl 18 (by decide) (hts _ kw_256) (fun _ h9 => h9) rfl d_M_step_39 ?_
    refine va_put (D := D) (ci := 3) (v := .int (nI ol1.length)) (ty := .int) (C := R_M) (T := F_M) (N := 21) hx hb hts i_M t_M t_M_ok n_M hown hK hP hD hS 0 rfl rfl 20 (by decide) (hts _ kw_258) (fun _ h9 => h9) rfl (by decide +kernel) rfl rfl (Nat.le_of_ble_eq_true rfl) d_M_step_42 (fun H locs hP hD hS => ?_)
    have hP : va_P D gt_cl (gt_MW ma mc 0 S.1 n t ol1.length (nI ol1.length) (fun j9 => lN (S.2.1 j9)) (fun j9 => lN (S.2.2.1 j9)) S.2.2.2.1 (fun j9 => nI (d1.1 j9).1) (fun j9 => (d1.1 j9).2.1) lt (fun j9 => lN (d1.1 j9).2.2) (fun g9 => (d1.2 g9).1) S.2.2.2.2.1 (fun g9 => (d1.2 g9).2.1) (fun g9 => lN (d1.2 g9).2.2.1) S.2.2.2.2.2 (fun g9 => (d1.2 g9).2.2.2.1) (fun g9 => (d1.2 g9).2.2.2.2) (gt_lf ol1)) H := hP
    have hD : va_D A (gt_MW ma mc 0 S.1 n t ol1.length (nI ol1.length) (fun j9 => lN (S.2.1 j9)) (fun j9 => lN (S.2.2.1 j9)) S.2.2.2.1 (fun j9 => nI (d1.1 j9).1) (fun j9 => (d1.1 j9).2.1) lt (fun j9 => lN (d1.1 j9).2.2) (fun g9 => (d1.2 g9).1) S.2.2.2.2.1 (fun g9 => (d1.2 g9).2.1) (fun g9 => lN (d1.2 g9).2.2.1) S.2.2.2.2.2 (fun g9 => (d1.2 g9).2.2.2.1) (fun g9 => (d1.2 g9).2.2.2.2) (gt_lf ol1)) := hD
    refine lv_iload_n hx hb d_M_step_45 rfl (lv_at hl 0 rfl) ?_
    exact hret _ _ _ _ _ ((S, lt, d1, t, ol1), nI ol1.length) d_M_step_46 (Or.inr ⟨t, t1, t2, rfl, hp, rfl, rfl, rfl, rfl, rfl⟩) hP hD hS
  · refine lv_bipush (v := (-102)) hx hb d_M_step_19 (by decide) ?_
    exact hret _ _ _ _ _ ((S, lt, d, now, ol), told) d_M_step_21 (Or.inl ⟨fun q => h3.no c3 ((gt_num_time (by omega) (by omega)).mpr q), rfl, rfl, rfl⟩) hP hD hS
abbrev rm_M_out : Room := { frames := 0, cells := 0, slots := 0, locals := 0 }
set_option maxHeartbeats 4000000 in
set_option maxRecDepth 100000 in
/-- out(i, what) -/
theorem c_M_out (l : Launch) (D : va_G) (sz : Nat) (ma : Nat → Nat) (mc : Nat → ClassId) (thr : Int32) (S : gt_SS) (lt : Nat → Int32) (d : gt_Dy) (n now : Nat) (ol : List Nat) (told : Int32) (x w : Int32) (hinv : gt_Inv n S lt d now ol) : Met l y_M_out w_M_out rm_M_out (gt_Pre D (va_K D gt_cl (gt_Mt mc)) [.ref (ma 0), .int x, .int w] (gt_MS ma mc thr S lt d n now ol told) sz) (gt_Qi D (gt_MS ma mc thr S lt d n now ol told) sz (fun (r : Int32) (_ : Unit) => gt_ROut d ol x w r) (fun _ : Unit => gt_MS ma mc 0 S lt d n now ol told)) 0 0 (va_A (gt_MS ma mc thr S lt d n now ol told) sz) := by
  refine gt_mut_i (own := R_M) (by decide) rfl (Nat.le_of_ble_eq_true rfl) ?_
  intro p e s m below meth c args A hx hb hml hown hts hP hK0 hD hA Q hret ls hl
  have hS : va_S A s.heap s.heap [] := va_S.rf
  have hl : lv_has ls 3 [(0, .ref (ma 0)), (1, .int x), (2, .int w)] := hl
  have hK : va_K D gt_cl (gt_Mt mc) s := hK0
  have hn : n ≤ 400 := hinv.1.2.2.1
  have hG1 : 1 ≤ S.1 := hinv.1.1
  have hG : S.1 ≤ 12 := hinv.1.2.1
  have hlen := gt_Inv_len hinv
  have hnow : now ≤ 1000000000 := hinv.2.2.2.1
  refine lv_aload_n hx hb d_M_out_0 rfl (lv_at hl 0 rfl) ?_
  refine lv_iconst (v := 0) hx hb d_M_out_1 (by decide) ?_
  refine va_put (D := D) (ci := 3) (v := .int 0) (ty := .int) (C := R_M) (T := F_M) (N := 21) hx hb hts i_M t_M t_M_ok n_M hown hK hP hD hS 0 rfl rfl 0 (by decide) (hts _ kw_238) (fun _ h9 => h9) rfl (by decide +kernel) rfl rfl (Nat.le_of_ble_eq_true rfl) d_M_out_2 (fun H locs hP hD hS => ?_)
  have hP : va_P D gt_cl (gt_MW ma mc 0 S.1 n now ol.length told (fun j9 => lN (S.2.1 j9)) (fun j9 => lN (S.2.2.1 j9)) S.2.2.2.1 (fun j9 => nI (d.1 j9).1) (fun j9 => (d.1 j9).2.1) lt (fun j9 => lN (d.1 j9).2.2) (fun g9 => (d.2 g9).1) S.2.2.2.2.1 (fun g9 => (d.2 g9).2.1) (fun g9 => lN (d.2 g9).2.2.1) S.2.2.2.2.2 (fun g9 => (d.2 g9).2.2.2.1) (fun g9 => (d.2 g9).2.2.2.2) (gt_lf ol)) H := hP
  have hD : va_D A (gt_MW ma mc 0 S.1 n now ol.length told (fun j9 => lN (S.2.1 j9)) (fun j9 => lN (S.2.2.1 j9)) S.2.2.2.1 (fun j9 => nI (d.1 j9).1) (fun j9 => (d.1 j9).2.1) lt (fun j9 => lN (d.1 j9).2.2) (fun g9 => (d.2 g9).1) S.2.2.2.2.1 (fun g9 => (d.2 g9).2.1) (fun g9 => lN (d.2 g9).2.2.1) S.2.2.2.2.2 (fun g9 => (d.2 g9).2.2.2.1) (fun g9 => (d.2 g9).2.2.2.2) (gt_lf ol)) := hD
  refine lv_iload_n hx hb d_M_out_5 rfl (lv_at hl 1 rfl) ?_
  refine lv_if_lt (tgt := 17) hx hb d_M_out_6 (by decide) (fun c1 => ?_) (fun c1 => ?_)
  · refine lv_iconst (v := (-1)) hx hb d_M_out_17 (by decide) ?_
    exact hret _ _ _ _ _ () d_M_out_18 (Or.inr ⟨gt_num_bin0 (by omega) c1, rfl⟩) hP hD hS
  · refine lv_iload_n hx hb d_M_out_9 rfl (lv_at hl 1 rfl) ?_
    refine lv_aload_n hx hb d_M_out_10 rfl (lv_at hl 0 rfl) ?_
    refine va_get (D := D) (ci := 3) (v := .int (nI ol.length)) (C := R_M) (T := F_M) (N := 21) hx hb hts i_M hown hK hP 0 rfl rfl 18 (by decide) (hts _ kw_256) (fun _ h9 => h9) rfl d_M_out_11 ?_
    refine lv_icmp_lt (tgt := 19) hx hb d_M_out_14 (by decide) (fun c2 => ?_) (fun c2 => ?_)
    · obtain ⟨k, hk, rfl⟩ := gt_num_bin (by omega) c1 (Int32.not_le.mpr c2)
      have hm := (hinv.2.2.1.2.1 _).mp (gt_getD_mem hk)
      have hm2 := hm.2.1
      refine lv_iload_n hx hb d_M_out_19 rfl (lv_at hl 2 rfl) ?_
      refine lv_if_ne (tgt := 32) hx hb d_M_out_20 (by decide) (fun c3 => ?_) (fun c3 => ?_)
      · refine lv_iload_n hx hb d_M_out_32 rfl (lv_at hl 2 rfl) ?_
        refine lv_iconst (v := 1) hx hb d_M_out_33 (by decide) ?_
        refine lv_icmp_ne (tgt := 51) hx hb d_M_out_34 (by decide) (fun c4 => ?_) (fun c4 => ?_)
        · refine lv_iload_n hx hb d_M_out_51 rfl (lv_at hl 2 rfl) ?_
          refine lv_iconst (v := 2) hx hb d_M_out_52 (by decide) ?_
          refine lv_icmp_ne (tgt := 71) hx hb d_M_out_53 (by decide) (fun c5 => ?_) (fun c5 => ?_)
          · refine lv_iconst (v := (-1)) hx hb d_M_out_71 (by decide) ?_
            exact hret _ _ _ _ _ () d_M_out_72 (Or.inl ⟨k, hk, rfl, gt_sel_no ⟨c3, c4, c5⟩⟩) hP hD hS
          · refine lv_aload_n hx hb d_M_out_56 rfl (lv_at hl 0 rfl) ?_
            refine va_get (D := D) (ci := 3) (v := .ref (ma 7)) (C := R_M) (T := F_M) (N := 21) hx hb hts i_M hown hK hP 0 rfl rfl 9 (by decide) (hts _ kw_247) (fun _ h9 => h9) rfl d_M_out_57 ?_
            refine lv_aload_n hx hb d_M_out_60 rfl (lv_at hl 0 rfl) ?_
            refine va_get (D := D) (ci := 3) (v := .ref (ma 15)) (C := R_M) (T := F_M) (N := 21) hx hb hts i_M hown hK hP 0 rfl rfl 19 (by decide) (hts _ kw_257) (fun _ h9 => h9) rfl d_M_out_61 ?_
            refine lv_iload_n hx hb d_M_out_64 rfl (lv_at hl 1 rfl) ?_
            refine gt_iald (k := k) hx hb hK hP 15 14 rfl rfl (by omega) (by decide) d_M_out_65 ?_
            rw [gt_lf_at]
            refine gt_lald (k := ol.getD k 0) hx hb hK hP 7 6 rfl rfl (by omega) (by decide) d_M_out_66 ?_
            refine lv_l2i (v := nI (d.1 (ol.getD k 0)).2.2) hx hb d_M_out_67 (lN_i _) ?_
            refine lv_goto (tgt := 72) hx hb d_M_out_68 (by decide) ?_
            exact hret _ _ _ _ _ () d_M_out_72 (Or.inl ⟨k, hk, rfl, Or.inr (Or.inr (Or.inl ⟨c5, rfl⟩))⟩) hP hD hS
        · refine lv_aload_n hx hb d_M_out_37 rfl (lv_at hl 0 rfl) ?_
          refine va_get (D := D) (ci := 3) (v := .ref (ma 5)) (C := R_M) (T := F_M) (N := 21) hx hb hts i_M hown hK hP 0 rfl rfl 7 (by decide) (hts _ kw_245) (fun _ h9 => h9) rfl d_M_out_38 ?_
          refine lv_aload_n hx hb d_M_out_41 rfl (lv_at hl 0 rfl) ?_
          refine va_get (D := D) (ci := 3) (v := .ref (ma 15)) (C := R_M) (T := F_M) (N := 21) hx hb hts i_M hown hK hP 0 rfl rfl 19 (by decide) (hts _ kw_257) (fun _ h9 => h9) rfl d_M_out_42 ?_
          refine lv_iload_n hx hb d_M_out_45 rfl (lv_at hl 1 rfl) ?_
          refine gt_iald (k := k) hx hb hK hP 15 14 rfl rfl (by omega) (by decide) d_M_out_46 ?_
          rw [gt_lf_at]
          refine gt_iald (k := ol.getD k 0) hx hb hK hP 5 4 rfl rfl (by omega) (by decide) d_M_out_47 ?_
          refine lv_goto (tgt := 72) hx hb d_M_out_48 (by decide) ?_
          exact hret _ _ _ _ _ () d_M_out_72 (Or.inl ⟨k, hk, rfl, Or.inr (Or.inl ⟨c4, rfl⟩)⟩) hP hD hS
      · refine lv_aload_n hx hb d_M_out_23 rfl (lv_at hl 0 rfl) ?_
        refine va_get (D := D) (ci := 3) (v := .ref (ma 15)) (C := R_M) (T := F_M) (N := 21) hx hb hts i_M hown hK hP 0 rfl rfl 19 (by decide) (hts _ kw_257) (fun _ h9 => h9) rfl d_M_out_24 ?_
        refine lv_iload_n hx hb d_M_out_27 rfl (lv_at hl 1 rfl) ?_
        refine gt_iald (k := k) hx hb hK hP 15 14 rfl rfl (by omega) (by decide) d_M_out_28 ?_
        refine lv_goto (tgt := 72) hx hb d_M_out_29 (by decide) ?_
        exact hret _ _ _ _ _ () d_M_out_72 (Or.inl ⟨k, hk, rfl, Or.inl ⟨c3, rfl⟩⟩) hP hD hS
    · refine lv_iconst (v := (-1)) hx hb d_M_out_17 (by decide) ?_
      exact hret _ _ _ _ _ () d_M_out_18 (Or.inr ⟨gt_num_bin1 (by omega) (Int32.not_lt.mp c2), rfl⟩) hP hD hS
abbrev rm_M_late : Room := { frames := 2, cells := 0, slots := 0, locals := 46 }
set_option maxHeartbeats 4000000 in
set_option maxRecDepth 100000 in
/-- late(i) -/
theorem c_M_late (l : Launch) (D : va_G) (sz : Nat) (ma : Nat → Nat) (mc : Nat → ClassId) (thr : Int32) (S : gt_SS) (lt : Nat → Int32) (d : gt_Dy) (n now : Nat) (ol : List Nat) (told : Int32) (x : Int32) (hinv : gt_Inv n S lt d now ol) : Met l y_M_late w_M_late rm_M_late (gt_Pre D (va_K D gt_cl (gt_Mt mc)) [.ref (ma 0), .int x] (gt_MS ma mc thr S lt d n now ol told) sz) (gt_Qi D (gt_MS ma mc thr S lt d n now ol told) sz (fun (r : Int32) (_ : Unit) => gt_RLate n lt x r) (fun _ : Unit => gt_MS ma mc 0 S lt d n now ol told)) 0 0 (va_A (gt_MS ma mc thr S lt d n now ol told) sz) := by
  refine gt_mut_i (own := R_M) (by decide) rfl (Nat.le_of_ble_eq_true rfl) ?_
  intro p e s m below meth c args A hx hb hml hown hts hP hK0 hD hA Q hret ls hl
  have hS : va_S A s.heap s.heap [] := va_S.rf
  have hl : lv_has ls 2 [(0, .ref (ma 0)), (1, .int x)] := hl
  have hK : va_K D gt_cl (gt_Mt mc) s := hK0
  have hn : n ≤ 400 := hinv.1.2.2.1
  have hG1 : 1 ≤ S.1 := hinv.1.1
  have hG : S.1 ≤ 12 := hinv.1.2.1
  have hlen := gt_Inv_len hinv
  have hnow : now ≤ 1000000000 := hinv.2.2.2.1
  refine lv_aload_n hx hb d_M_late_0 rfl (lv_at hl 0 rfl) ?_
  refine lv_iconst (v := 0) hx hb d_M_late_1 (by decide) ?_
  refine va_put (D := D) (ci := 3) (v := .int 0) (ty := .int) (C := R_M) (T := F_M) (N := 21) hx hb hts i_M t_M t_M_ok n_M hown hK hP hD hS 0 rfl rfl 0 (by decide) (hts _ kw_238) (fun _ h9 => h9) rfl (by decide +kernel) rfl rfl (Nat.le_of_ble_eq_true rfl) d_M_late_2 (fun H locs hP hD hS => ?_)
  have hP : va_P D gt_cl (gt_MW ma mc 0 S.1 n now ol.length told (fun j9 => lN (S.2.1 j9)) (fun j9 => lN (S.2.2.1 j9)) S.2.2.2.1 (fun j9 => nI (d.1 j9).1) (fun j9 => (d.1 j9).2.1) lt (fun j9 => lN (d.1 j9).2.2) (fun g9 => (d.2 g9).1) S.2.2.2.2.1 (fun g9 => (d.2 g9).2.1) (fun g9 => lN (d.2 g9).2.2.1) S.2.2.2.2.2 (fun g9 => (d.2 g9).2.2.2.1) (fun g9 => (d.2 g9).2.2.2.2) (gt_lf ol)) H := hP
  have hD : va_D A (gt_MW ma mc 0 S.1 n now ol.length told (fun j9 => lN (S.2.1 j9)) (fun j9 => lN (S.2.2.1 j9)) S.2.2.2.1 (fun j9 => nI (d.1 j9).1) (fun j9 => (d.1 j9).2.1) lt (fun j9 => lN (d.1 j9).2.2) (fun g9 => (d.2 g9).1) S.2.2.2.2.1 (fun g9 => (d.2 g9).2.1) (fun g9 => lN (d.2 g9).2.2.1) S.2.2.2.2.2 (fun g9 => (d.2 g9).2.2.2.1) (fun g9 => (d.2 g9).2.2.2.2) (gt_lf ol)) := hD
  refine lv_aload_n hx hb d_M_late_5 rfl (lv_at hl 0 rfl) ?_
  refine lv_iload_n hx hb d_M_late_6 rfl (lv_at hl 1 rfl) ?_
  have hP : va_P D gt_cl (gt_MS ma mc 0 S lt d n now ol told) H := hP
  have hD : va_D A (gt_MS ma mc 0 S lt d n now ol told) := hD
  refine vp_callSi (va_runV (As := [.int x]) (rest := []) ⟨hx, hb, hml, hown, hts⟩ (c_M_isItem l D ma mc 0 S lt d n now ol told x hn) (cwV 1 hts (tb_inV kw_317 kw_319 ks_M_isItem kw_4 kw_320) rfl rfl rfl (by decide +kernel) ⟨Nat.le_of_ble_eq_true rfl, Nat.le_of_ble_eq_true rfl⟩) (gt_PreP_V gt_K_mv (va_recv hK hP (ci := 3) (q0 := 0) rfl rfl) hP hK) rfl rfl hl.1 rfl (lv_room (Nat.le_of_ble_eq_true rfl)) d_M_late_7 ⟨Nat.zero_le _, Nat.zero_le _⟩).run (fun r1 h1 => ?_)
  refine lv_if_eq (tgt := 22) hx hb d_M_late_10 (by decide) (fun c1 => ?_) (fun c1 => ?_)
  · refine lv_bipush (v := (-101)) hx hb d_M_late_22 (by decide) ?_
    exact hret _ _ _ _ _ () d_M_late_24 (Or.inr ⟨h1.no c1, rfl⟩) hP hD hS
  · obtain ⟨i, i1, i2, rfl⟩ := h1.yes c1
    refine lv_aload_n hx hb d_M_late_13 rfl (lv_at hl 0 rfl) ?_
    refine va_get (D := D) (ci := 3) (v := .ref (ma 6)) (C := R_M) (T := F_M) (N := 21) hx hb hts i_M hown hK hP 0 rfl rfl 8 (by decide) (hts _ kw_246) (fun _ h9 => h9) rfl d_M_late_14 ?_
    refine lv_iload_n hx hb d_M_late_17 rfl (lv_at hl 1 rfl) ?_
    refine gt_iald (k := i) hx hb hK hP 6 5 rfl rfl (by omega) (by decide) d_M_late_18 ?_
    refine lv_goto (tgt := 24) hx hb d_M_late_19 (by decide) ?_
    exact hret _ _ _ _ _ () d_M_late_24 (Or.inl ⟨i, i1, i2, rfl, rfl⟩) hP hD hS
abbrev rm_M_count : Room := { frames := 1, cells := 0, slots := 0, locals := 25 }
set_option maxHeartbeats 4000000 in
set_option maxRecDepth 100000 in
/-- count(bin) -/
theorem c_M_count (l : Launch) (D : va_G) (sz : Nat) (ma : Nat → Nat) (mc : Nat → ClassId) (thr : Int32) (S : gt_SS) (lt : Nat → Int32) (d : gt_Dy) (n now : Nat) (ol : List Nat) (told : Int32) (y : Int32) (hinv : gt_Inv n S lt d now ol) : Met l y_M_count w_M_count rm_M_count (gt_Pre D (va_K D gt_cl (gt_Mt mc)) [.ref (ma 0), .int y] (gt_MS ma mc thr S lt d n now ol told) sz) (gt_Qi D (gt_MS ma mc thr S lt d n now ol told) sz (fun (r : Int32) (_ : Unit) => gt_RCount S d y r) (fun _ : Unit => gt_MS ma mc 0 S lt d n now ol told)) 0 0 (va_A (gt_MS ma mc thr S lt d n now ol told) sz) := by
  refine gt_mut_i (own := R_M) (by decide) rfl (Nat.le_of_ble_eq_true rfl) ?_
  intro p e s m below meth c args A hx hb hml hown hts hP hK0 hD hA Q hret ls hl
  have hS : va_S A s.heap s.heap [] := va_S.rf
  have hl : lv_has ls 2 [(0, .ref (ma 0)), (1, .int y)] := hl
  have hK : va_K D gt_cl (gt_Mt mc) s := hK0
  have hn : n ≤ 400 := hinv.1.2.2.1
  have hG1 : 1 ≤ S.1 := hinv.1.1
  have hG : S.1 ≤ 12 := hinv.1.2.1
  have hlen := gt_Inv_len hinv
  have hnow : now ≤ 1000000000 := hinv.2.2.2.1
  refine lv_aload_n hx hb d_M_count_0 rfl (lv_at hl 0 rfl) ?_
  refine lv_iconst (v := 0) hx hb d_M_count_1 (by decide) ?_
  refine va_put (D := D) (ci := 3) (v := .int 0) (ty := .int) (C := R_M) (T := F_M) (N := 21) hx hb hts i_M t_M t_M_ok n_M hown hK hP hD hS 0 rfl rfl 0 (by decide) (hts _ kw_238) (fun _ h9 => h9) rfl (by decide +kernel) rfl rfl (Nat.le_of_ble_eq_true rfl) d_M_count_2 (fun H locs hP hD hS => ?_)
  have hP : va_P D gt_cl (gt_MW ma mc 0 S.1 n now ol.length told (fun j9 => lN (S.2.1 j9)) (fun j9 => lN (S.2.2.1 j9)) S.2.2.2.1 (fun j9 => nI (d.1 j9).1) (fun j9 => (d.1 j9).2.1) lt (fun j9 => lN (d.1 j9).2.2) (fun g9 => (d.2 g9).1) S.2.2.2.2.1 (fun g9 => (d.2 g9).2.1) (fun g9 => lN (d.2 g9).2.2.1) S.2.2.2.2.2 (fun g9 => (d.2 g9).2.2.2.1) (fun g9 => (d.2 g9).2.2.2.2) (gt_lf ol)) H := hP
  have hD : va_D A (gt_MW ma mc 0 S.1 n now ol.length told (fun j9 => lN (S.2.1 j9)) (fun j9 => lN (S.2.2.1 j9)) S.2.2.2.1 (fun j9 => nI (d.1 j9).1) (fun j9 => (d.1 j9).2.1) lt (fun j9 => lN (d.1 j9).2.2) (fun g9 => (d.2 g9).1) S.2.2.2.2.1 (fun g9 => (d.2 g9).2.1) (fun g9 => lN (d.2 g9).2.2.1) S.2.2.2.2.2 (fun g9 => (d.2 g9).2.2.2.1) (fun g9 => (d.2 g9).2.2.2.2) (gt_lf ol)) := hD
  refine lv_iload_n hx hb d_M_count_5 rfl (lv_at hl 1 rfl) ?_
  refine lv_i2l (v := y.toInt64) hx hb d_M_count_6 rfl ?_
  refine lv_lconst (v := lN 0) hx hb d_M_count_7 rfl ?_
  refine lv_aload_n hx hb d_M_count_8 rfl (lv_at hl 0 rfl) ?_
  refine va_get (D := D) (ci := 3) (v := .int (nI S.1)) (C := R_M) (T := F_M) (N := 21) hx hb hts i_M hown hK hP 0 rfl rfl 1 (by decide) (hts _ kw_239) (fun _ h9 => h9) rfl d_M_count_9 ?_
  refine lv_i2l (v := lN S.1) hx hb d_M_count_12 (nI_l (by omega)) ?_
  refine vp_callSi (va_runS (As := [.long y.toInt64, .long (lN 0), .long (lN S.1)]) (rest := []) ⟨hx, hb, hml, hown, hts⟩ (c_M_isIn l D y.toInt64 (lN 0) (lN S.1)) (cwS 3 hts (tb_inS kw_309 kw_310 kw_4 kw_311) rfl rfl rfl (by decide +kernel) ⟨Nat.le_of_ble_eq_true rfl, Nat.le_of_ble_eq_true rfl⟩) (gt_PreP_S gt_T_mv gt_P0 trivial) rfl rfl hl.1 rfl (lv_room (Nat.le_of_ble_eq_true rfl)) d_M_count_13 ⟨Nat.zero_le _, Nat.zero_le _⟩).run (fun r1 h1 => ?_)
  refine lv_if_eq (tgt := 28) hx hb d_M_count_16 (by decide) (fun c1 => ?_) (fun c1 => ?_)
  · refine lv_bipush (v := (-101)) hx hb d_M_count_28 (by decide) ?_
    exact hret _ _ _ _ _ () d_M_count_30 (Or.inr ⟨fun ⟨g, g1, g2⟩ => h1.no c1 ((gt_num_in (by omega) (by omega)).mpr ⟨g, Nat.zero_le _, by omega, g2⟩), rfl, trivial⟩) hP hD hS
  · obtain ⟨g, -, g1, rfl⟩ := (gt_num_in (by omega) (by omega)).mp (h1.yes c1)
    refine lv_aload_n hx hb d_M_count_19 rfl (lv_at hl 0 rfl) ?_
    refine va_get (D := D) (ci := 3) (v := .ref (ma 14)) (C := R_M) (T := F_M) (N := 21) hx hb hts i_M hown hK hP 0 rfl rfl 16 (by decide) (hts _ kw_254) (fun _ h9 => h9) rfl d_M_count_20 ?_
    refine lv_iload_n hx hb d_M_count_23 rfl (lv_at hl 1 rfl) ?_
    refine gt_iald (k := g) hx hb hK hP 14 13 rfl rfl (by omega) (by decide) d_M_count_24 ?_
    refine lv_goto (tgt := 30) hx hb d_M_count_25 (by decide) ?_
    exact hret _ _ _ _ _ () d_M_count_30 (Or.inl ⟨g, by omega, rfl, rfl⟩) hP hD hS
abbrev rm_M_height : Room := { frames := 2, cells := 0, slots := 0, locals := 46 }
set_option maxHeartbeats 4000000 in
set_option maxRecDepth 100000 in
/-- height(bin, n) -/
theorem c_M_height (l : Launch) (D : va_G) (sz : Nat) (ma : Nat → Nat) (mc : Nat → ClassId) (thr : Int32) (S : gt_SS) (lt : Nat → Int32) (d : gt_Dy) (n now : Nat) (ol : List Nat) (told : Int32) (y v : Int32) (hinv : gt_Inv n S lt d now ol) : Met l y_M_height w_M_height rm_M_height (gt_Pre D (va_K D gt_cl (gt_Mt mc)) [.ref (ma 0), .int y, .int v] (gt_MS ma mc thr S lt d n now ol told) sz) (gt_Qi D (gt_MS ma mc thr S lt d n now ol told) sz (fun (r : Int32) (u : Nat → Int32) => gt_RHeight S y v r u) (fun u : Nat → Int32 => gt_MS ma mc 0 (S.1, S.2.1, S.2.2.1, S.2.2.2.1, S.2.2.2.2.1, u) lt d n now ol told)) 0 0 (va_A (gt_MS ma mc thr S lt d n now ol told) sz) := by
  refine gt_mut_i (own := R_M) (by decide) rfl (Nat.le_of_ble_eq_true rfl) ?_
  intro p e s m below meth c args A hx hb hml hown hts hP hK0 hD hA Q hret ls hl
  have hS : va_S A s.heap s.heap [] := va_S.rf
  have hl : lv_has ls 4 [(0, .ref (ma 0)), (1, .int y), (2, .int v)] := hl
  have hK : va_K D gt_cl (gt_Mt mc) s := hK0
  have hn : n ≤ 400 := hinv.1.2.2.1
  have hG1 : 1 ≤ S.1 := hinv.1.1
  have hG : S.1 ≤ 12 := hinv.1.2.1
  have hlen := gt_Inv_len hinv
  have hnow : now ≤ 1000000000 := hinv.2.2.2.1
  refine lv_aload_n hx hb d_M_height_0 rfl (lv_at hl 0 rfl) ?_
  refine lv_iconst (v := 0) hx hb d_M_height_1 (by decide) ?_
  refine va_put (D := D) (ci := 3) (v := .int 0) (ty := .int) (C := R_M) (T := F_M) (N := 21) hx hb hts i_M t_M t_M_ok n_M hown hK hP hD hS 0 rfl rfl 0 (by decide) (hts _ kw_238) (fun _ h9 => h9) rfl (by decide +kernel) rfl rfl (Nat.le_of_ble_eq_true rfl) d_M_height_2 (fun H locs hP hD hS => ?_)
  have hP : va_P D gt_cl (gt_MW ma mc 0 S.1 n now ol.length told (fun j9 => lN (S.2.1 j9)) (fun j9 => lN (S.2.2.1 j9)) S.2.2.2.1 (fun j9 => nI (d.1 j9).1) (fun j9 => (d.1 j9).2.1) lt (fun j9 => lN (d.1 j9).2.2) (fun g9 => (d.2 g9).1) S.2.2.2.2.1 (fun g9 => (d.2 g9).2.1) (fun g9 => lN (d.2 g9).2.2.1) S.2.2.2.2.2 (fun g9 => (d.2 g9).2.2.2.1) (fun g9 => (d.2 g9).2.2.2.2) (gt_lf ol)) H := hP
  have hD : va_D A (gt_MW ma mc 0 S.1 n now ol.length told (fun j9 => lN (S.2.1 j9)) (fun j9 => lN (S.2.2.1 j9)) S.2.2.2.1 (fun j9 => nI (d.1 j9).1) (fun j9 => (d.1 j9).2.1) lt (fun j9 => lN (d.1 j9).2.2) (fun g9 => (d.2 g9).1) S.2.2.2.2.1 (fun g9 => (d.2 g9).2.1) (fun g9 => lN (d.2 g9).2.2.1) S.2.2.2.2.2 (fun g9 => (d.2 g9).2.2.2.1) (fun g9 => (d.2 g9).2.2.2.2) (gt_lf ol)) := hD
  refine lv_aload_n hx hb d_M_height_5 rfl (lv_at hl 0 rfl) ?_
  refine lv_iload_n hx hb d_M_height_6 rfl (lv_at hl 1 rfl) ?_
  have hP : va_P D gt_cl (gt_MS ma mc 0 S lt d n now ol told) H := hP
  have hD : va_D A (gt_MS ma mc 0 S lt d n now ol told) := hD
  refine vp_callSi (va_runV (As := [.int y]) (rest := []) ⟨hx, hb, hml, hown, hts⟩ (c_M_isBin l D ma mc 0 S lt d n now ol told y hG1 hG) (cwV 1 hts (tb_inV kw_321 kw_323 ks_M_isBin kw_4 kw_324) rfl rfl rfl (by decide +kernel) ⟨Nat.le_of_ble_eq_true rfl, Nat.le_of_ble_eq_true rfl⟩) (gt_PreP_V gt_K_mv (va_recv hK hP (ci := 3) (q0 := 0) rfl rfl) hP hK) rfl rfl hl.1 rfl (lv_room (Nat.le_of_ble_eq_true rfl)) d_M_height_7 ⟨Nat.zero_le _, Nat.zero_le _⟩).run (fun r2 h2 => ?_)
  refine lv_if_ne (tgt := 16) hx hb d_M_height_10 (by decide) (fun c2 => ?_) (fun c2 => ?_)
  · obtain ⟨g, g1, rfl⟩ := h2.yes c2
    refine lv_iload_n hx hb d_M_height_16 rfl (lv_at hl 2 rfl) ?_
    refine lv_i2l (v := v.toInt64) hx hb d_M_height_17 rfl ?_
    refine lv_lconst (v := lN 1) hx hb d_M_height_18 rfl ?_
    refine lv_ldc2 (v := lN 1000) hx hb hown (hts _ kw_333) d_M_height_19 ?_
    refine vp_callSi (va_runS (As := [.long v.toInt64, .long (lN 1), .long (lN 1000)]) (rest := []) ⟨hx, hb, hml, hown, hts⟩ (c_M_isIn l D v.toInt64 (lN 1) (lN 1000)) (cwS 3 hts (tb_inS kw_309 kw_310 kw_4 kw_311) rfl rfl rfl (by decide +kernel) ⟨Nat.le_of_ble_eq_true rfl, Nat.le_of_ble_eq_true rfl⟩) (gt_PreP_S gt_T_mv gt_P0 trivial) rfl rfl hl.1 rfl (lv_room (Nat.le_of_ble_eq_true rfl)) d_M_height_22 ⟨Nat.zero_le _, Nat.zero_le _⟩).run (fun r3 h3 => ?_)
    refine lv_if_ne (tgt := 31) hx hb d_M_height_25 (by decide) (fun c3 => ?_) (fun c3 => ?_)
    · refine lv_aload_n hx hb d_M_height_31 rfl (lv_at hl 0 rfl) ?_
      refine va_get (D := D) (ci := 3) (v := .ref (ma 12)) (C := R_M) (T := F_M) (N := 21) hx hb hts i_M hown hK hP 0 rfl rfl 14 (by decide) (hts _ kw_252) (fun _ h9 => h9) rfl d_M_height_32 ?_
      refine lv_iload_n hx hb d_M_height_35 rfl (lv_at hl 1 rfl) ?_
      refine gt_iald (k := g) hx hb hK hP 12 11 rfl rfl (by omega) (by decide) d_M_height_36 ?_
      refine lv_istore_n (lv' := [(3, .int (S.2.2.2.2.2 g)), (0, .ref (ma 0)), (1, .int (nI g)), (2, .int v)]) hx hb d_M_height_37 rfl hl (by decide) rfl (fun ls hl => ?_)
      refine lv_aload_n hx hb d_M_height_38 rfl (lv_at hl 1 rfl) ?_
      refine va_get (D := D) (ci := 3) (v := .ref (ma 12)) (C := R_M) (T := F_M) (N := 21) hx hb hts i_M hown hK hP 0 rfl rfl 14 (by decide) (hts _ kw_252) (fun _ h9 => h9) rfl d_M_height_39 ?_
      refine lv_iload_n hx hb d_M_height_42 rfl (lv_at hl 2 rfl) ?_
      refine lv_iload_n hx hb d_M_height_43 rfl (lv_at hl 3 rfl) ?_
      refine gt_iast (k := g) hx hb hK hP hD hS 12 11 rfl rfl (by omega) (by decide) d_M_height_44 (fun H locs hP hD hS => ?_)
      have hP : va_P D gt_cl (gt_MW ma mc 0 S.1 n now ol.length told (fun j9 => lN (S.2.1 j9)) (fun j9 => lN (S.2.2.1 j9)) S.2.2.2.1 (fun j9 => nI (d.1 j9).1) (fun j9 => (d.1 j9).2.1) lt (fun j9 => lN (d.1 j9).2.2) (fun g9 => (d.2 g9).1) S.2.2.2.2.1 (fun g9 => (d.2 g9).2.1) (fun g9 => lN (d.2 g9).2.2.1) (upd S.2.2.2.2.2 g v) (fun g9 => (d.2 g9).2.2.2.1) (fun g9 => (d.2 g9).2.2.2.2) (gt_lf ol)) H := hP
      have hD : va_D A (gt_MW ma mc 0 S.1 n now ol.length told (fun j9 => lN (S.2.1 j9)) (fun j9 => lN (S.2.2.1 j9)) S.2.2.2.1 (fun j9 => nI (d.1 j9).1) (fun j9 => (d.1 j9).2.1) lt (fun j9 => lN (d.1 j9).2.2) (fun g9 => (d.2 g9).1) S.2.2.2.2.1 (fun g9 => (d.2 g9).2.1) (fun g9 => lN (d.2 g9).2.2.1) (upd S.2.2.2.2.2 g v) (fun g9 => (d.2 g9).2.2.2.1) (fun g9 => (d.2 g9).2.2.2.2) (gt_lf ol)) := hD
      refine lv_iload_n hx hb d_M_height_45 rfl (lv_at hl 0 rfl) ?_
      exact hret _ _ _ _ _ (va_up S.2.2.2.2.2 g v) d_M_height_46 (Or.inl ⟨g, g1, rfl, Or.inl ⟨h3.yes c3, rfl, rfl⟩⟩) hP hD hS
    · refine lv_bipush (v := (-102)) hx hb d_M_height_28 (by decide) ?_
      exact hret _ _ _ _ _ S.2.2.2.2.2 d_M_height_30 (Or.inl ⟨g, g1, rfl, Or.inr ⟨Decidable.not_not.mp (h3.no c3), rfl, rfl⟩⟩) hP hD hS
  · refine lv_bipush (v := (-101)) hx hb d_M_height_13 (by decide) ?_
    exact hret _ _ _ _ _ S.2.2.2.2.2 d_M_height_15 (Or.inr ⟨h2.no c2, rfl, rfl⟩) hP hD hS
theorem gt_MS_swap {ma : Nat → Nat} {mc : Nat → ClassId} {thr : Int32} {S : gt_SS} {lt : Nat → Int32} {d : gt_Dy} {n now : Nat} {ol : List Nat} {told : Int32} {g : Nat} :
    gt_MW ma mc thr S.1 n now ol.length told (fun i => lN (S.2.1 i)) (fun i => lN (S.2.2.1 i)) S.2.2.2.1 (fun i => nI (d.1 i).1) (fun i => (d.1 i).2.1) lt (fun i => lN (d.1 i).2.2) (fun g => (d.2 g).1) S.2.2.2.2.1 (fun g => (d.2 g).2.1) (fun g => lN (d.2 g).2.2.1) S.2.2.2.2.2 (upd (fun g => (d.2 g).2.2.2.1) g 0) (fun g => (d.2 g).2.2.2.2) (gt_lf ol) = gt_MS ma mc thr S lt (d.1, va_up d.2 g ((d.2 g).1, (d.2 g).2.1, (d.2 g).2.2.1, 0, (d.2 g).2.2.2.2)) n now ol told := by
  unfold gt_MS
  generalize hy : ((d.2 g).1, (d.2 g).2.1, (d.2 g).2.2.1, (0 : Int32), (d.2 g).2.2.2.2) = y
  rw [gt_upM (fun q : gt_GS => q.2.2.2.1) d.2 g y _ (by rw [← hy]), gt_upK (fun q : gt_GS => q.1) d.2 g y (by rw [← hy]), gt_upK (fun q : gt_GS => q.2.1) d.2 g y (by rw [← hy]), gt_upK (fun q : gt_GS => lN q.2.2.1) d.2 g y (by rw [← hy]), gt_upK (fun q : gt_GS => q.2.2.2.2) d.2 g y (by rw [← hy])]
abbrev rm_M_swap : Room := { frames := 2, cells := 0, slots := 0, locals := 46 }
set_option maxHeartbeats 4000000 in
set_option maxRecDepth 100000 in
/-- swap(bin) -/
theorem c_M_swap (l : Launch) (D : va_G) (sz : Nat) (ma : Nat → Nat) (mc : Nat → ClassId) (thr : Int32) (S : gt_SS) (lt : Nat → Int32) (d : gt_Dy) (n now : Nat) (ol : List Nat) (told : Int32) (y : Int32) (hinv : gt_Inv n S lt d now ol) : Met l y_M_swap w_M_swap rm_M_swap (gt_Pre D (va_K D gt_cl (gt_Mt mc)) [.ref (ma 0), .int y] (gt_MS ma mc thr S lt d n now ol told) sz) (gt_Qi D (gt_MS ma mc thr S lt d n now ol told) sz (fun (r : Int32) (u : Nat → gt_GS) => gt_RSwap S d y r u) (fun u : Nat → gt_GS => gt_MS ma mc 0 S lt (d.1, u) n now ol told)) 0 0 (va_A (gt_MS ma mc thr S lt d n now ol told) sz) := by
  refine gt_mut_i (own := R_M) (by decide) rfl (Nat.le_of_ble_eq_true rfl) ?_
  intro p e s m below meth c args A hx hb hml hown hts hP hK0 hD hA Q hret ls hl
  have hS : va_S A s.heap s.heap [] := va_S.rf
  have hl : lv_has ls 3 [(0, .ref (ma 0)), (1, .int y)] := hl
  have hK : va_K D gt_cl (gt_Mt mc) s := hK0
  have hn : n ≤ 400 := hinv.1.2.2.1
  have hG1 : 1 ≤ S.1 := hinv.1.1
  have hG : S.1 ≤ 12 := hinv.1.2.1
  have hlen := gt_Inv_len hinv
  have hnow : now ≤ 1000000000 := hinv.2.2.2.1
  refine lv_aload_n hx hb d_M_swap_0 rfl (lv_at hl 0 rfl) ?_
  refine lv_iconst (v := 0) hx hb d_M_swap_1 (by decide) ?_
  refine va_put (D := D) (ci := 3) (v := .int 0) (ty := .int) (C := R_M) (T := F_M) (N := 21) hx hb hts i_M t_M t_M_ok n_M hown hK hP hD hS 0 rfl rfl 0 (by decide) (hts _ kw_238) (fun _ h9 => h9) rfl (by decide +kernel) rfl rfl (Nat.le_of_ble_eq_true rfl) d_M_swap_2 (fun H locs hP hD hS => ?_)
  have hP : va_P D gt_cl (gt_MW ma mc 0 S.1 n now ol.length told (fun j9 => lN (S.2.1 j9)) (fun j9 => lN (S.2.2.1 j9)) S.2.2.2.1 (fun j9 => nI (d.1 j9).1) (fun j9 => (d.1 j9).2.1) lt (fun j9 => lN (d.1 j9).2.2) (fun g9 => (d.2 g9).1) S.2.2.2.2.1 (fun g9 => (d.2 g9).2.1) (fun g9 => lN (d.2 g9).2.2.1) S.2.2.2.2.2 (fun g9 => (d.2 g9).2.2.2.1) (fun g9 => (d.2 g9).2.2.2.2) (gt_lf ol)) H := hP
  have hD : va_D A (gt_MW ma mc 0 S.1 n now ol.length told (fun j9 => lN (S.2.1 j9)) (fun j9 => lN (S.2.2.1 j9)) S.2.2.2.1 (fun j9 => nI (d.1 j9).1) (fun j9 => (d.1 j9).2.1) lt (fun j9 => lN (d.1 j9).2.2) (fun g9 => (d.2 g9).1) S.2.2.2.2.1 (fun g9 => (d.2 g9).2.1) (fun g9 => lN (d.2 g9).2.2.1) S.2.2.2.2.2 (fun g9 => (d.2 g9).2.2.2.1) (fun g9 => (d.2 g9).2.2.2.2) (gt_lf ol)) := hD
  refine lv_aload_n hx hb d_M_swap_5 rfl (lv_at hl 0 rfl) ?_
  refine lv_iload_n hx hb d_M_swap_6 rfl (lv_at hl 1 rfl) ?_
  have hP : va_P D gt_cl (gt_MS ma mc 0 S lt d n now ol told) H := hP
  have hD : va_D A (gt_MS ma mc 0 S lt d n now ol told) := hD
  refine vp_callSi (va_runV (As := [.int y]) (rest := []) ⟨hx, hb, hml, hown, hts⟩ (c_M_isBin l D ma mc 0 S lt d n now ol told y hG1 hG) (cwV 1 hts (tb_inV kw_321 kw_323 ks_M_isBin kw_4 kw_324) rfl rfl rfl (by decide +kernel) ⟨Nat.le_of_ble_eq_true rfl, Nat.le_of_ble_eq_true rfl⟩) (gt_PreP_V gt_K_mv (va_recv hK hP (ci := 3) (q0 := 0) rfl rfl) hP hK) rfl rfl hl.1 rfl (lv_room (Nat.le_of_ble_eq_true rfl)) d_M_swap_7 ⟨Nat.zero_le _, Nat.zero_le _⟩).run (fun r2 h2 => ?_)
  refine lv_if_ne (tgt := 16) hx hb d_M_swap_10 (by decide) (fun c2 => ?_) (fun c2 => ?_)
  · obtain ⟨g, g1, rfl⟩ := h2.yes c2
    refine lv_aload_n hx hb d_M_swap_16 rfl (lv_at hl 0 rfl) ?_
    refine va_get (D := D) (ci := 3) (v := .ref (ma 13)) (C := R_M) (T := F_M) (N := 21) hx hb hts i_M hown hK hP 0 rfl rfl 15 (by decide) (hts _ kw_253) (fun _ h9 => h9) rfl d_M_swap_17 ?_
    refine lv_iload_n hx hb d_M_swap_20 rfl (lv_at hl 1 rfl) ?_
    refine gt_iald (k := g) hx hb hK hP 13 12 rfl rfl (by omega) (by decide) d_M_swap_21 ?_
    refine lv_istore_n (lv' := [(2, .int ((d.2 g).2.2.2.1)), (0, .ref (ma 0)), (1, .int (nI g))]) hx hb d_M_swap_22 rfl hl (by decide) rfl (fun ls hl => ?_)
    refine lv_aload_n hx hb d_M_swap_23 rfl (lv_at hl 1 rfl) ?_
    refine va_get (D := D) (ci := 3) (v := .ref (ma 13)) (C := R_M) (T := F_M) (N := 21) hx hb hts i_M hown hK hP 0 rfl rfl 15 (by decide) (hts _ kw_253) (fun _ h9 => h9) rfl d_M_swap_24 ?_
    refine lv_iload_n hx hb d_M_swap_27 rfl (lv_at hl 2 rfl) ?_
    refine lv_iconst (v := 0) hx hb d_M_swap_28 (by decide) ?_
    refine gt_iast (k := g) hx hb hK hP hD hS 13 12 rfl rfl (by omega) (by decide) d_M_swap_29 (fun H locs hP hD hS => ?_)
    have hP : va_P D gt_cl (gt_MW ma mc 0 S.1 n now ol.length told (fun j9 => lN (S.2.1 j9)) (fun j9 => lN (S.2.2.1 j9)) S.2.2.2.1 (fun j9 => nI (d.1 j9).1) (fun j9 => (d.1 j9).2.1) lt (fun j9 => lN (d.1 j9).2.2) (fun g9 => (d.2 g9).1) S.2.2.2.2.1 (fun g9 => (d.2 g9).2.1) (fun g9 => lN (d.2 g9).2.2.1) S.2.2.2.2.2 (upd (fun g9 => (d.2 g9).2.2.2.1) g 0) (fun g9 => (d.2 g9).2.2.2.2) (gt_lf ol)) H := hP
    have hD : va_D A (gt_MW ma mc 0 S.1 n now ol.length told (fun j9 => lN (S.2.1 j9)) (fun j9 => lN (S.2.2.1 j9)) S.2.2.2.1 (fun j9 => nI (d.1 j9).1) (fun j9 => (d.1 j9).2.1) lt (fun j9 => lN (d.1 j9).2.2) (fun g9 => (d.2 g9).1) S.2.2.2.2.1 (fun g9 => (d.2 g9).2.1) (fun g9 => lN (d.2 g9).2.2.1) S.2.2.2.2.2 (upd (fun g9 => (d.2 g9).2.2.2.1) g 0) (fun g9 => (d.2 g9).2.2.2.2) (gt_lf ol)) := hD
    refine lv_iload_n hx hb d_M_swap_30 rfl (lv_at hl 0 rfl) ?_
    rw [gt_MS_swap] at hP hD
    exact hret _ _ _ _ _ (va_up d.2 g ((d.2 g).1, (d.2 g).2.1, (d.2 g).2.2.1, 0, (d.2 g).2.2.2.2)) d_M_swap_31 (Or.inl ⟨g, g1, rfl, rfl, rfl⟩) hP hD hS
  · refine lv_bipush (v := (-101)) hx hb d_M_swap_13 (by decide) ?_
    exact hret _ _ _ _ _ d.2 d_M_swap_15 (Or.inr ⟨h2.no c2, rfl, rfl⟩) hP hD hS
abbrev rm_M_stuck : Room := { frames := 2, cells := 0, slots := 0, locals := 46 }
set_option maxHeartbeats 4000000 in
set_option maxRecDepth 100000 in
/-- stuck(gate, on) -/
theorem c_M_stuck (l : Launch) (D : va_G) (sz : Nat) (ma : Nat → Nat) (mc : Nat → ClassId) (thr : Int32) (S : gt_SS) (lt : Nat → Int32) (d : gt_Dy) (n now : Nat) (ol : List Nat) (told : Int32) (y on : Int32) (hinv : gt_Inv n S lt d now ol) (hon : on = 0 ∨ on = 1) : Met l y_M_stuck w_M_stuck rm_M_stuck (gt_Pre D (va_K D gt_cl (gt_Mt mc)) [.ref (ma 0), .int y, .int on] (gt_MS ma mc thr S lt d n now ol told) sz) (gt_Qi D (gt_MS ma mc thr S lt d n now ol told) sz (fun (r : Int32) (u : Nat → Int32) => gt_RStuck S y on r u) (fun u : Nat → Int32 => gt_MS ma mc 0 (S.1, S.2.1, S.2.2.1, S.2.2.2.1, u, S.2.2.2.2.2) lt d n now ol told)) 0 0 (va_A (gt_MS ma mc thr S lt d n now ol told) sz) := by
  refine gt_mut_i (own := R_M) (by decide) rfl (Nat.le_of_ble_eq_true rfl) ?_
  intro p e s m below meth c args A hx hb hml hown hts hP hK0 hD hA Q hret ls hl
  have hS : va_S A s.heap s.heap [] := va_S.rf
  have hl : lv_has ls 4 [(0, .ref (ma 0)), (1, .int y), (2, .int on)] := hl
  have hK : va_K D gt_cl (gt_Mt mc) s := hK0
  have hn : n ≤ 400 := hinv.1.2.2.1
  have hG1 : 1 ≤ S.1 := hinv.1.1
  have hG : S.1 ≤ 12 := hinv.1.2.1
  have hlen := gt_Inv_len hinv
  have hnow : now ≤ 1000000000 := hinv.2.2.2.1
  refine lv_aload_n hx hb d_M_stuck_0 rfl (lv_at hl 0 rfl) ?_
  refine lv_iconst (v := 0) hx hb d_M_stuck_1 (by decide) ?_
  refine va_put (D := D) (ci := 3) (v := .int 0) (ty := .int) (C := R_M) (T := F_M) (N := 21) hx hb hts i_M t_M t_M_ok n_M hown hK hP hD hS 0 rfl rfl 0 (by decide) (hts _ kw_238) (fun _ h9 => h9) rfl (by decide +kernel) rfl rfl (Nat.le_of_ble_eq_true rfl) d_M_stuck_2 (fun H locs hP hD hS => ?_)
  have hP : va_P D gt_cl (gt_MW ma mc 0 S.1 n now ol.length told (fun j9 => lN (S.2.1 j9)) (fun j9 => lN (S.2.2.1 j9)) S.2.2.2.1 (fun j9 => nI (d.1 j9).1) (fun j9 => (d.1 j9).2.1) lt (fun j9 => lN (d.1 j9).2.2) (fun g9 => (d.2 g9).1) S.2.2.2.2.1 (fun g9 => (d.2 g9).2.1) (fun g9 => lN (d.2 g9).2.2.1) S.2.2.2.2.2 (fun g9 => (d.2 g9).2.2.2.1) (fun g9 => (d.2 g9).2.2.2.2) (gt_lf ol)) H := hP
  have hD : va_D A (gt_MW ma mc 0 S.1 n now ol.length told (fun j9 => lN (S.2.1 j9)) (fun j9 => lN (S.2.2.1 j9)) S.2.2.2.1 (fun j9 => nI (d.1 j9).1) (fun j9 => (d.1 j9).2.1) lt (fun j9 => lN (d.1 j9).2.2) (fun g9 => (d.2 g9).1) S.2.2.2.2.1 (fun g9 => (d.2 g9).2.1) (fun g9 => lN (d.2 g9).2.2.1) S.2.2.2.2.2 (fun g9 => (d.2 g9).2.2.2.1) (fun g9 => (d.2 g9).2.2.2.2) (gt_lf ol)) := hD
  refine lv_aload_n hx hb d_M_stuck_5 rfl (lv_at hl 0 rfl) ?_
  refine lv_iload_n hx hb d_M_stuck_6 rfl (lv_at hl 1 rfl) ?_
  have hP : va_P D gt_cl (gt_MS ma mc 0 S lt d n now ol told) H := hP
  have hD : va_D A (gt_MS ma mc 0 S lt d n now ol told) := hD
  refine vp_callSi (va_runV (As := [.int y]) (rest := []) ⟨hx, hb, hml, hown, hts⟩ (c_M_isBin l D ma mc 0 S lt d n now ol told y hG1 hG) (cwV 1 hts (tb_inV kw_321 kw_323 ks_M_isBin kw_4 kw_324) rfl rfl rfl (by decide +kernel) ⟨Nat.le_of_ble_eq_true rfl, Nat.le_of_ble_eq_true rfl⟩) (gt_PreP_V gt_K_mv (va_recv hK hP (ci := 3) (q0 := 0) rfl rfl) hP hK) rfl rfl hl.1 rfl (lv_room (Nat.le_of_ble_eq_true rfl)) d_M_stuck_7 ⟨Nat.zero_le _, Nat.zero_le _⟩).run (fun r2 h2 => ?_)
  refine lv_if_ne (tgt := 16) hx hb d_M_stuck_10 (by decide) (fun c2 => ?_) (fun c2 => ?_)
  · obtain ⟨g, g1, rfl⟩ := h2.yes c2
    refine lv_aload_n hx hb d_M_stuck_16 rfl (lv_at hl 0 rfl) ?_
    refine va_get (D := D) (ci := 3) (v := .ref (ma 9)) (C := R_M) (T := F_M) (N := 21) hx hb hts i_M hown hK hP 0 rfl rfl 11 (by decide) (hts _ kw_249) (fun _ h9 => h9) rfl d_M_stuck_17 ?_
    refine lv_iload_n hx hb d_M_stuck_20 rfl (lv_at hl 1 rfl) ?_
    refine gt_zald (k := g) hx hb hK hP 9 8 rfl rfl (by omega) (by decide) d_M_stuck_21 ?_
    refine lv_istore_n (lv' := [(3, .int (S.2.2.2.2.1 g)), (0, .ref (ma 0)), (1, .int (nI g)), (2, .int on)]) hx hb d_M_stuck_22 rfl hl (by decide) rfl (fun ls hl => ?_)
    refine lv_aload_n hx hb d_M_stuck_23 rfl (lv_at hl 1 rfl) ?_
    refine va_get (D := D) (ci := 3) (v := .ref (ma 9)) (C := R_M) (T := F_M) (N := 21) hx hb hts i_M hown hK hP 0 rfl rfl 11 (by decide) (hts _ kw_249) (fun _ h9 => h9) rfl d_M_stuck_24 ?_
    refine lv_iload_n hx hb d_M_stuck_27 rfl (lv_at hl 2 rfl) ?_
    refine lv_iload_n hx hb d_M_stuck_28 rfl (lv_at hl 3 rfl) ?_
    refine gt_zast (k := g) hx hb hK hP hD hS 9 8 rfl rfl (by omega) (by decide) hon d_M_stuck_29 (fun H locs hP hD hS => ?_)
    have hP : va_P D gt_cl (gt_MW ma mc 0 S.1 n now ol.length told (fun j9 => lN (S.2.1 j9)) (fun j9 => lN (S.2.2.1 j9)) S.2.2.2.1 (fun j9 => nI (d.1 j9).1) (fun j9 => (d.1 j9).2.1) lt (fun j9 => lN (d.1 j9).2.2) (fun g9 => (d.2 g9).1) (upd S.2.2.2.2.1 g on) (fun g9 => (d.2 g9).2.1) (fun g9 => lN (d.2 g9).2.2.1) S.2.2.2.2.2 (fun g9 => (d.2 g9).2.2.2.1) (fun g9 => (d.2 g9).2.2.2.2) (gt_lf ol)) H := hP
    have hD : va_D A (gt_MW ma mc 0 S.1 n now ol.length told (fun j9 => lN (S.2.1 j9)) (fun j9 => lN (S.2.2.1 j9)) S.2.2.2.1 (fun j9 => nI (d.1 j9).1) (fun j9 => (d.1 j9).2.1) lt (fun j9 => lN (d.1 j9).2.2) (fun g9 => (d.2 g9).1) (upd S.2.2.2.2.1 g on) (fun g9 => (d.2 g9).2.1) (fun g9 => lN (d.2 g9).2.2.1) S.2.2.2.2.2 (fun g9 => (d.2 g9).2.2.2.1) (fun g9 => (d.2 g9).2.2.2.2) (gt_lf ol)) := hD
    refine lv_iload_n hx hb d_M_stuck_30 rfl (lv_at hl 0 rfl) ?_
    refine lv_iload_n hx hb d_M_stuck_31 rfl (lv_at hl 3 rfl) ?_
    refine lv_icmp_ne (tgt := 39) hx hb d_M_stuck_32 (by decide) (fun c3 => ?_) (fun c3 => ?_)
    · refine lv_iconst (v := 1) hx hb d_M_stuck_39 (by decide) ?_
      exact hret _ _ _ _ _ (va_up S.2.2.2.2.1 g on) d_M_stuck_40 (Or.inl ⟨g, g1, rfl, Or.inr ⟨c3, rfl⟩, rfl⟩) hP hD hS
    · refine lv_iconst (v := 0) hx hb d_M_stuck_35 (by decide) ?_
      refine lv_goto (tgt := 40) hx hb d_M_stuck_36 (by decide) ?_
      exact hret _ _ _ _ _ (va_up S.2.2.2.2.1 g on) d_M_stuck_40 (Or.inl ⟨g, g1, rfl, Or.inl ⟨c3, rfl⟩, rfl⟩) hP hD hS
  · refine lv_bipush (v := (-101)) hx hb d_M_stuck_13 (by decide) ?_
    exact hret _ _ _ _ _ S.2.2.2.2.1 d_M_stuck_15 (Or.inr ⟨h2.no c2, rfl, rfl⟩) hP hD hS
abbrev rm_M_verify : Room := { frames := 0, cells := 0, slots := 0, locals := 0 }
set_option maxHeartbeats 4000000 in
set_option maxRecDepth 100000 in
/-- verify(i, what) -/
theorem c_M_verify (l : Launch) (D : va_G) (sz : Nat) (ma : Nat → Nat) (mc : Nat → ClassId) (thr : Int32) (S : gt_SS) (lt : Nat → Int32) (d : gt_Dy) (n now : Nat) (ol : List Nat) (told : Int32) (x w : Int32) (hinv : gt_Inv n S lt d now ol) : Met l y_M_verify w_M_verify rm_M_verify (gt_Pre D (va_K D gt_cl (gt_Mt mc)) [.ref (ma 0), .int x, .int w] (gt_MS ma mc thr S lt d n now ol told) sz) (gt_Qi D (gt_MS ma mc thr S lt d n now ol told) sz (fun (r : Int32) (_ : Unit) => gt_RVer S d ol x w r) (fun _ : Unit => gt_MS ma mc 0 S lt d n now ol told)) 0 0 (va_A (gt_MS ma mc thr S lt d n now ol told) sz) := by
  refine gt_mut_i (own := R_M) (by decide) rfl (Nat.le_of_ble_eq_true rfl) ?_
  intro p e s m below meth c args A hx hb hml hown hts hP hK0 hD hA Q hret ls hl
  have hS : va_S A s.heap s.heap [] := va_S.rf
  have hl : lv_has ls 7 [(0, .ref (ma 0)), (1, .int x), (2, .int w)] := hl
  have hK : va_K D gt_cl (gt_Mt mc) s := hK0
  have hn : n ≤ 400 := hinv.1.2.2.1
  have hG1 : 1 ≤ S.1 := hinv.1.1
  have hG : S.1 ≤ 12 := hinv.1.2.1
  have hlen := gt_Inv_len hinv
  have hnow : now ≤ 1000000000 := hinv.2.2.2.1
  refine lv_aload_n hx hb d_M_verify_0 rfl (lv_at hl 0 rfl) ?_
  refine lv_iconst (v := 0) hx hb d_M_verify_1 (by decide) ?_
  refine va_put (D := D) (ci := 3) (v := .int 0) (ty := .int) (C := R_M) (T := F_M) (N := 21) hx hb hts i_M t_M t_M_ok n_M hown hK hP hD hS 0 rfl rfl 0 (by decide) (hts _ kw_238) (fun _ h9 => h9) rfl (by decide +kernel) rfl rfl (Nat.le_of_ble_eq_true rfl) d_M_verify_2 (fun H locs hP hD hS => ?_)
  have hP : va_P D gt_cl (gt_MW ma mc 0 S.1 n now ol.length told (fun j9 => lN (S.2.1 j9)) (fun j9 => lN (S.2.2.1 j9)) S.2.2.2.1 (fun j9 => nI (d.1 j9).1) (fun j9 => (d.1 j9).2.1) lt (fun j9 => lN (d.1 j9).2.2) (fun g9 => (d.2 g9).1) S.2.2.2.2.1 (fun g9 => (d.2 g9).2.1) (fun g9 => lN (d.2 g9).2.2.1) S.2.2.2.2.2 (fun g9 => (d.2 g9).2.2.2.1) (fun g9 => (d.2 g9).2.2.2.2) (gt_lf ol)) H := hP
  have hD : va_D A (gt_MW ma mc 0 S.1 n now ol.length told (fun j9 => lN (S.2.1 j9)) (fun j9 => lN (S.2.2.1 j9)) S.2.2.2.1 (fun j9 => nI (d.1 j9).1) (fun j9 => (d.1 j9).2.1) lt (fun j9 => lN (d.1 j9).2.2) (fun g9 => (d.2 g9).1) S.2.2.2.2.1 (fun g9 => (d.2 g9).2.1) (fun g9 => lN (d.2 g9).2.2.1) S.2.2.2.2.2 (fun g9 => (d.2 g9).2.2.2.1) (fun g9 => (d.2 g9).2.2.2.2) (gt_lf ol)) := hD
  refine lv_iconst (v := 0) hx hb d_M_verify_5 (by decide) ?_
  refine lv_istore_n (lv' := [(3, .int 0), (0, .ref (ma 0)), (1, .int x), (2, .int w)]) hx hb d_M_verify_6 rfl hl (by decide) rfl (fun ls hl => ?_)
  refine lv_iconst (v := 0) hx hb d_M_verify_7 (by decide) ?_
  refine lv_istore (lv' := [(4, .int 0), (3, .int 0), (0, .ref (ma 0)), (1, .int x), (2, .int w)]) hx hb d_M_verify_8 hl (by decide) rfl (fun ls hl => ?_)
  have loop : ∀ (q k : Nat), k ≤ ol.length → ol.length < k + q → (∀ i, i < k → ¬ gt_hit S d ol x i) → ∀ ls, lv_has ls 7 [(4, .int (nI k)), (3, .int (nI (gt_ct S d ol k))), (0, .ref (ma 0)), (1, .int x), (2, .int w)] → W p l e rm_M_verify s m args below meth c H locs 0 0 Q (F0 m 10 ls []) := by
    intro q
    induction q with
    | zero => intro k h1 h2; omega
    | succ q ih =>
      intro k k1 k2 hno ls hl
      refine lv_iload hx hb d_M_verify_10 (lv_at hl 0 rfl) ?_
      refine lv_aload_n hx hb d_M_verify_12 rfl (lv_at hl 2 rfl) ?_
      refine va_get (D := D) (ci := 3) (v := .int (nI ol.length)) (C := R_M) (T := F_M) (N := 21) hx hb hts i_M hown hK hP 0 rfl rfl 18 (by decide) (hts _ kw_256) (fun _ h9 => h9) rfl d_M_verify_13 ?_
      refine lv_icmp_ge (tgt := 136) hx hb d_M_verify_16 (by decide) (fun c1 => ?_) (fun c1 => ?_)
      · rw [nI_leI (by omega) (by omega)] at c1
        refine lv_iconst (v := (-1)) hx hb d_M_verify_136 (by decide) ?_
        exact hret _ _ _ _ _ () d_M_verify_137 (gt_RVer_end (fun i hi => hno i (by omega))) hP hD hS
      · rw [nI_leI (by omega) (by omega)] at c1
        have hk : k < ol.length := by omega
        have hm := (hinv.2.2.1.2.1 _).mp (gt_getD_mem hk)
        have hm1 := hm.1
        have hm2 := hm.2.1
        have hod := hinv.2.2.2.2.1 _ hm.1 hm.2.1
        have hct := gt_ct_le S d ol k
        refine lv_iload_n hx hb d_M_verify_19 rfl (lv_at hl 3 rfl) ?_
        refine lv_if_lt (tgt := 136) hx hb d_M_verify_20 (by decide) (fun c2 => ?_) (fun c2 => ?_)
        · refine lv_iconst (v := (-1)) hx hb d_M_verify_136 (by decide) ?_
          exact hret _ _ _ _ _ () d_M_verify_137 (gt_RVer_neg (by omega) c2) hP hD hS
        · refine lv_aload_n hx hb d_M_verify_23 rfl (lv_at hl 2 rfl) ?_
          refine va_get (D := D) (ci := 3) (v := .ref (ma 15)) (C := R_M) (T := F_M) (N := 21) hx hb hts i_M hown hK hP 0 rfl rfl 19 (by decide) (hts _ kw_257) (fun _ h9 => h9) rfl d_M_verify_24 ?_
          refine lv_iload hx hb d_M_verify_27 (lv_at hl 0 rfl) ?_
          refine gt_iald (k := k) hx hb hK hP 15 14 rfl rfl (by omega) (by decide) d_M_verify_29 ?_
          rw [gt_lf_at]
          refine lv_istore (lv' := [(5, .int (nI (ol.getD k 0))), (4, .int (nI k)), (3, .int (nI (gt_ct S d ol k))), (0, .ref (ma 0)), (1, .int x), (2, .int w)]) hx hb d_M_verify_30 hl (by decide) rfl (fun ls hl => ?_)
          refine lv_aload_n hx hb d_M_verify_32 rfl (lv_at hl 3 rfl) ?_
          refine va_get (D := D) (ci := 3) (v := .ref (ma 3)) (C := R_M) (T := F_M) (N := 21) hx hb hts i_M hown hK hP 0 rfl rfl 5 (by decide) (hts _ kw_243) (fun _ h9 => h9) rfl d_M_verify_33 ?_
          refine lv_iload hx hb d_M_verify_36 (lv_at hl 0 rfl) ?_
          refine gt_iald (k := ol.getD k 0) hx hb hK hP 3 2 rfl rfl (by omega) (by decide) d_M_verify_38 ?_
          have J : ∀ wr : Int32, gt_Bit wr (gt_wr S d ol k) → W p l e rm_M_verify s m args below meth c H locs 0 0 Q (F0 m 64 ls [.int wr]) := by
            intro wr hwr
            refine lv_istore (lv' := [(6, .int wr), (5, .int (nI (ol.getD k 0))), (4, .int (nI k)), (3, .int (nI (gt_ct S d ol k))), (0, .ref (ma 0)), (1, .int x), (2, .int w)]) hx hb d_M_verify_64 hl (by decide) rfl (fun ls hl => ?_)
            have T : ¬ gt_hit S d ol x k → W p l e rm_M_verify s m args below meth c H locs 0 0 Q (F0 m 117 ls []) := by
              intro hnh
              refine lv_iload hx hb d_M_verify_117 (lv_at hl 0 rfl) ?_
              refine lv_if_eq (tgt := 128) hx hb d_M_verify_119 (by decide) (fun c5 => ?_) (fun c5 => ?_)
              · have h5 := gt_ct_n (hwr.no c5)
                refine lv_iload_n hx hb d_M_verify_128 rfl (lv_at hl 3 rfl) ?_
                refine lv_istore_n (lv' := [(3, .int (nI (gt_ct S d ol k))), (6, .int wr), (5, .int (nI (ol.getD k 0))), (4, .int (nI k)), (0, .ref (ma 0)), (1, .int x), (2, .int w)]) hx hb d_M_verify_129 rfl hl (by decide) rfl (fun ls hl => ?_)
                refine lv_iinc (v := nI (k + 1)) (lv' := [(4, .int (nI (k + 1))), (3, .int (nI (gt_ct S d ol k))), (6, .int wr), (5, .int (nI (ol.getD k 0))), (0, .ref (ma 0)), (1, .int x), (2, .int w)]) hx hb d_M_verify_130 hl (k := 3) rfl (nI_1 _) (by decide) rfl (fun ls hl => ?_)
                refine lv_goto (tgt := 10) hx hb d_M_verify_133 (by decide) ?_
                rw [← h5] at hl
                exact ih (k + 1) (by omega) (by omega) (fun i hi => by
                  by_cases e : i = k
                  · subst e; exact hnh
                  · exact hno i (by omega)) ls (lv_sub hl [0, 1, 4, 5, 6] rfl)
              · have h5 := gt_ct_y (hwr.yes c5)
                refine lv_iload_n hx hb d_M_verify_122 rfl (lv_at hl 3 rfl) ?_
                refine lv_iconst (v := 1) hx hb d_M_verify_123 (by decide) ?_
                refine lv_iadd hx hb d_M_verify_124 ?_
                rw [nI_1]
                refine lv_goto (tgt := 129) hx hb d_M_verify_125 (by decide) ?_
                refine lv_istore_n (lv' := [(3, .int (nI (gt_ct S d ol k + 1))), (6, .int wr), (5, .int (nI (ol.getD k 0))), (4, .int (nI k)), (0, .ref (ma 0)), (1, .int x), (2, .int w)]) hx hb d_M_verify_129 rfl hl (by decide) rfl (fun ls hl => ?_)
                refine lv_iinc (v := nI (k + 1)) (lv' := [(4, .int (nI (k + 1))), (3, .int (nI (gt_ct S d ol k + 1))), (6, .int wr), (5, .int (nI (ol.getD k 0))), (0, .ref (ma 0)), (1, .int x), (2, .int w)]) hx hb d_M_verify_130 hl (k := 3) rfl (nI_1 _) (by decide) rfl (fun ls hl => ?_)
                refine lv_goto (tgt := 10) hx hb d_M_verify_133 (by decide) ?_
                rw [← h5] at hl
                exact ih (k + 1) (by omega) (by omega) (fun i hi => by
                  by_cases e : i = k
                  · subst e; exact hnh
                  · exact hno i (by omega)) ls (lv_sub hl [0, 1, 4, 5, 6] rfl)
            refine lv_iload hx hb d_M_verify_66 (lv_at hl 0 rfl) ?_
            refine lv_if_eq (tgt := 117) hx hb d_M_verify_68 (by decide) (fun c6 => ?_) (fun c6 => ?_)
            · exact T (fun q => hwr.no c6 q.2.1)
            · refine lv_iload_n hx hb d_M_verify_71 rfl (lv_at hl 3 rfl) ?_
              refine lv_iload_n hx hb d_M_verify_72 rfl (lv_at hl 5 rfl) ?_
              refine lv_icmp_ne (tgt := 117) hx hb d_M_verify_73 (by decide) (fun c7 => ?_) (fun c7 => ?_)
              · exact T (fun q => c7 q.2.2.symm)
              · have hh : gt_hit S d ol x k := ⟨hk, hwr.yes c6, c7.symm⟩
                refine lv_iload_n hx hb d_M_verify_76 rfl (lv_at hl 6 rfl) ?_
                refine lv_if_ne (tgt := 85) hx hb d_M_verify_77 (by decide) (fun c8 => ?_) (fun c8 => ?_)
                · refine lv_iload_n hx hb d_M_verify_85 rfl (lv_at hl 6 rfl) ?_
                  refine lv_iconst (v := 1) hx hb d_M_verify_86 (by decide) ?_
                  refine lv_icmp_ne (tgt := 100) hx hb d_M_verify_87 (by decide) (fun c9 => ?_) (fun c9 => ?_)
                  · refine lv_iload_n hx hb d_M_verify_100 rfl (lv_at hl 6 rfl) ?_
                    refine lv_iconst (v := 2) hx hb d_M_verify_101 (by decide) ?_
                    refine lv_icmp_ne (tgt := 115) hx hb d_M_verify_102 (by decide) (fun c10 => ?_) (fun c10 => ?_)
                    · refine lv_iconst (v := (-1)) hx hb d_M_verify_115 (by decide) ?_
                      exact hret _ _ _ _ _ () d_M_verify_116 (Or.inl ⟨k, hh, gt_sel_no ⟨c8, c9, c10⟩⟩) hP hD hS
                    · refine lv_aload_n hx hb d_M_verify_105 rfl (lv_at hl 4 rfl) ?_
                      refine va_get (D := D) (ci := 3) (v := .ref (ma 5)) (C := R_M) (T := F_M) (N := 21) hx hb hts i_M hown hK hP 0 rfl rfl 7 (by decide) (hts _ kw_245) (fun _ h9 => h9) rfl d_M_verify_106 ?_
                      refine lv_iload hx hb d_M_verify_109 (lv_at hl 1 rfl) ?_
                      refine gt_iald (k := ol.getD k 0) hx hb hK hP 5 4 rfl rfl (by omega) (by decide) d_M_verify_111 ?_
                      refine lv_goto (tgt := 116) hx hb d_M_verify_112 (by decide) ?_
                      exact hret _ _ _ _ _ () d_M_verify_116 (Or.inl ⟨k, hh, Or.inr (Or.inr (Or.inl ⟨c10, rfl⟩))⟩) hP hD hS
                  · refine lv_aload_n hx hb d_M_verify_90 rfl (lv_at hl 4 rfl) ?_
                    refine va_get (D := D) (ci := 3) (v := .ref (ma 3)) (C := R_M) (T := F_M) (N := 21) hx hb hts i_M hown hK hP 0 rfl rfl 5 (by decide) (hts _ kw_243) (fun _ h9 => h9) rfl d_M_verify_91 ?_
                    refine lv_iload hx hb d_M_verify_94 (lv_at hl 1 rfl) ?_
                    refine gt_iald (k := ol.getD k 0) hx hb hK hP 3 2 rfl rfl (by omega) (by decide) d_M_verify_96 ?_
                    refine lv_goto (tgt := 116) hx hb d_M_verify_97 (by decide) ?_
                    exact hret _ _ _ _ _ () d_M_verify_116 (Or.inl ⟨k, hh, Or.inr (Or.inl ⟨c9, rfl⟩)⟩) hP hD hS
                · refine lv_iload hx hb d_M_verify_80 (lv_at hl 1 rfl) ?_
                  refine lv_goto (tgt := 116) hx hb d_M_verify_82 (by decide) ?_
                  exact hret _ _ _ _ _ () d_M_verify_116 (Or.inl ⟨k, hh, Or.inl ⟨c8, rfl⟩⟩) hP hD hS
          refine lv_if_lt (tgt := 63) hx hb d_M_verify_39 (by decide) (fun c3 => ?_) (fun c3 => ?_)
          · refine lv_iconst (v := 0) hx hb d_M_verify_63 (by decide) ?_
            exact J 0 (gt_Bit.f (fun q => q.1 (hod.resolve_right (fun z => absurd c3 (Int32.not_lt.mpr z)))))
          · refine lv_aload_n hx hb d_M_verify_42 rfl (lv_at hl 3 rfl) ?_
            refine va_get (D := D) (ci := 3) (v := .ref (ma 3)) (C := R_M) (T := F_M) (N := 21) hx hb hts i_M hown hK hP 0 rfl rfl 5 (by decide) (hts _ kw_243) (fun _ h9 => h9) rfl d_M_verify_43 ?_
            refine lv_iload hx hb d_M_verify_46 (lv_at hl 0 rfl) ?_
            refine gt_iald (k := ol.getD k 0) hx hb hK hP 3 2 rfl rfl (by omega) (by decide) d_M_verify_48 ?_
            refine lv_aload_n hx hb d_M_verify_49 rfl (lv_at hl 3 rfl) ?_
            refine va_get (D := D) (ci := 3) (v := .ref (ma 5)) (C := R_M) (T := F_M) (N := 21) hx hb hts i_M hown hK hP 0 rfl rfl 7 (by decide) (hts _ kw_245) (fun _ h9 => h9) rfl d_M_verify_50 ?_
            refine lv_iload hx hb d_M_verify_53 (lv_at hl 0 rfl) ?_
            refine gt_iald (k := ol.getD k 0) hx hb hK hP 5 4 rfl rfl (by omega) (by decide) d_M_verify_55 ?_
            refine lv_icmp_eq (tgt := 63) hx hb d_M_verify_56 (by decide) (fun c4 => ?_) (fun c4 => ?_)
            · refine lv_iconst (v := 0) hx hb d_M_verify_63 (by decide) ?_
              exact J 0 (gt_Bit.f (fun q => q.2 c4))
            · refine lv_iconst (v := 1) hx hb d_M_verify_59 (by decide) ?_
              refine lv_goto (tgt := 64) hx hb d_M_verify_60 (by decide) ?_
              exact J 1 (gt_Bit.t ⟨fun e => c3 (by rw [e]; decide), c4⟩)
  exact loop (ol.length + 1) 0 (Nat.zero_le _) (by omega) (fun i hi => by omega) ls (lv_sub hl [0, 1, 2, 3, 4] rfl)
end
section
/-! THE REFERENCE: item; the constructor. -/
theorem gt_near {a b c : Nat} (ha : a ≤ 1000000000) (hb : b ≤ 1000000000) (hc : c ≤ 1000) : (lN a - lN b - lN c < lN 50) ↔ ¬ b + c + 50 ≤ a := by
  rw [Int64.sub_sub, lN_add]
  by_cases h : b + c ≤ a
  · rw [lN_sub h, pk_lLT (by omega) (by omega)]
    omega
  · have e : lN a - lN (b + c) < lN 50 := by
      rw [Int64.lt_iff_toInt_lt, Int64.toInt_sub, pk_lT (by omega), pk_lT (by omega), pk_lT (by omega), Int.bmod_def]
      split <;> omega
    exact ⟨fun _ => by omega, fun _ => e⟩
theorem gt_MS_add {ma : Nat → Nat} {mc : Nat → ClassId} {thr : Int32} {S : gt_SS} {lt : Nat → Int32} {d : gt_Dy} {n now : Nat} {ol : List Nat} {told : Int32} {a b : Nat} :
    gt_MW ma mc thr S.1 (n + 1) now ol.length told (vp_updL (fun i => lN (S.2.1 i)) (n + 1) (lN a)) (vp_updL (fun i => lN (S.2.2.1 i)) (n + 1) (lN b)) (upd S.2.2.2.1 (n + 1) (-1)) (upd (fun i => nI (d.1 i).1) (n + 1) 0) (upd (fun i => (d.1 i).2.1) (n + 1) (-1)) lt (fun i => lN (d.1 i).2.2) (fun g => (d.2 g).1) S.2.2.2.2.1 (fun g => (d.2 g).2.1) (fun g => lN (d.2 g).2.2.1) S.2.2.2.2.2 (fun g => (d.2 g).2.2.2.1) (fun g => (d.2 g).2.2.2.2) (gt_lf ol) = gt_MS ma mc thr (gt_Sadd S n a b) lt (gt_dadd d n) (n + 1) now ol told := by
  unfold gt_MS gt_Sadd gt_dadd
  generalize hx : ((0 : Nat), (-1 : Int32), (d.1 (n + 1)).2.2) = x
  rw [gt_upL lN S.2.1 (n + 1) a _ rfl, gt_upL lN S.2.2.1 (n + 1) b _ rfl, gt_upM (fun q : gt_IS => nI q.1) d.1 (n + 1) x _ (by rw [← hx]; exact nI_0), gt_upM (fun q : gt_IS => q.2.1) d.1 (n + 1) x _ (by rw [← hx]), gt_upK (fun q : gt_IS => lN q.2.2) d.1 (n + 1) x (by rw [← hx])]
  rfl
abbrev rm_M_item : Room := { frames := 1, cells := 0, slots := 0, locals := 25 }
set_option maxHeartbeats 4000000 in
set_option maxRecDepth 100000 in
/-- item(at, length) -/
theorem c_M_item (l : Launch) (D : va_G) (sz : Nat) (ma : Nat → Nat) (mc : Nat → ClassId) (thr : Int32) (S : gt_SS) (lt : Nat → Int32) (d : gt_Dy) (n now : Nat) (ol : List Nat) (told : Int32) (a b : Int64) (hinv : gt_Inv n S lt d now ol) : Met l y_M_item w_M_item rm_M_item (gt_Pre D (va_K D gt_cl (gt_Mt mc)) [.ref (ma 0), .long a, .long b] (gt_MS ma mc thr S lt d n now ol told) sz) (gt_Qi D (gt_MS ma mc thr S lt d n now ol told) sz (fun (r : Int32) (u : Nat × gt_SS × gt_Dy) => gt_RItem n now S d a b r u.1 u.2.1 u.2.2) (fun u : Nat × gt_SS × gt_Dy => gt_MS ma mc 0 u.2.1 lt u.2.2 u.1 now ol told)) 0 0 (va_A (gt_MS ma mc thr S lt d n now ol told) sz) := by
  refine gt_mut_i (own := R_M) (by decide) rfl (Nat.le_of_ble_eq_true rfl) ?_
  intro p e s m below meth c args A hx hb hml hown hts hP hK0 hD hA Q hret ls hl
  have hS : va_S A s.heap s.heap [] := va_S.rf
  have hl : lv_has ls 6 [(0, .ref (ma 0)), (1, .long a), (3, .long b)] := hl
  have hK : va_K D gt_cl (gt_Mt mc) s := hK0
  have hn : n ≤ 400 := hinv.1.2.2.1
  have hG1 : 1 ≤ S.1 := hinv.1.1
  have hG : S.1 ≤ 12 := hinv.1.2.1
  have hlen := gt_Inv_len hinv
  have hnow : now ≤ 1000000000 := hinv.2.2.2.1
  refine lv_aload_n hx hb d_M_item_0 rfl (lv_at hl 0 rfl) ?_
  refine lv_iconst (v := 0) hx hb d_M_item_1 (by decide) ?_
  refine va_put (D := D) (ci := 3) (v := .int 0) (ty := .int) (C := R_M) (T := F_M) (N := 21) hx hb hts i_M t_M t_M_ok n_M hown hK hP hD hS 0 rfl rfl 0 (by decide) (hts _ kw_238) (fun _ h9 => h9) rfl (by decide +kernel) rfl rfl (Nat.le_of_ble_eq_true rfl) d_M_item_2 (fun H locs hP hD hS => ?_)
  have hP : va_P D gt_cl (gt_MW ma mc 0 S.1 n now ol.length told (fun j9 => lN (S.2.1 j9)) (fun j9 => lN (S.2.2.1 j9)) S.2.2.2.1 (fun j9 => nI (d.1 j9).1) (fun j9 => (d.1 j9).2.1) lt (fun j9 => lN (d.1 j9).2.2) (fun g9 => (d.2 g9).1) S.2.2.2.2.1 (fun g9 => (d.2 g9).2.1) (fun g9 => lN (d.2 g9).2.2.1) S.2.2.2.2.2 (fun g9 => (d.2 g9).2.2.2.1) (fun g9 => (d.2 g9).2.2.2.2) (gt_lf ol)) H := hP
  have hD : va_D A (gt_MW ma mc 0 S.1 n now ol.length told (fun j9 => lN (S.2.1 j9)) (fun j9 => lN (S.2.2.1 j9)) S.2.2.2.1 (fun j9 => nI (d.1 j9).1) (fun j9 => (d.1 j9).2.1) lt (fun j9 => lN (d.1 j9).2.2) (fun g9 => (d.2 g9).1) S.2.2.2.2.1 (fun g9 => (d.2 g9).2.1) (fun g9 => lN (d.2 g9).2.2.1) S.2.2.2.2.2 (fun g9 => (d.2 g9).2.2.2.1) (fun g9 => (d.2 g9).2.2.2.2) (gt_lf ol)) := hD
  refine lv_aload_n hx hb d_M_item_5 rfl (lv_at hl 0 rfl) ?_
  refine va_get (D := D) (ci := 3) (v := .int (nI n)) (C := R_M) (T := F_M) (N := 21) hx hb hts i_M hown hK hP 0 rfl rfl 2 (by decide) (hts _ kw_240) (fun _ h9 => h9) rfl d_M_item_6 ?_
  have J : ∀ nr : Int32, gt_Bit nr (¬ n = 0 ∧ a - lN (S.2.1 n) - lN (S.2.2.1 n) < lN 50) → W p l e rm_M_item s m args below meth c H locs 0 0 Q (F0 m 45 ls [.int nr]) := by
    intro nr hnr
    refine lv_istore (lv' := [(5, .int nr), (0, .ref (ma 0)), (1, .long a), (3, .long b)]) hx hb d_M_item_45 hl (by decide) rfl (fun ls hl => ?_)
    refine lv_lload_n hx hb d_M_item_47 rfl (lv_at hl 3 rfl) ?_
    refine lv_lconst (v := lN 1) hx hb d_M_item_48 rfl ?_
    refine lv_ldc2 (v := lN 900) hx hb hown (hts _ kw_308) d_M_item_49 ?_
    refine vp_callSi (va_runS (As := [.long b, .long (lN 1), .long (lN 900)]) (rest := []) ⟨hx, hb, hml, hown, hts⟩ (c_M_isIn l D b (lN 1) (lN 900)) (cwS 3 hts (tb_inS kw_309 kw_310 kw_4 kw_311) rfl rfl rfl (by decide +kernel) ⟨Nat.le_of_ble_eq_true rfl, Nat.le_of_ble_eq_true rfl⟩) (gt_PreP_S gt_T_mv gt_P0 trivial) rfl rfl hl.1 rfl (lv_room (Nat.le_of_ble_eq_true rfl)) d_M_item_52 ⟨Nat.zero_le _, Nat.zero_le _⟩).run (fun r1 h1 => ?_)
    refine lv_if_eq (tgt := 77) hx hb d_M_item_55 (by decide) (fun c3 => ?_) (fun c3 => ?_)
    · refine lv_bipush (v := (-102)) hx hb d_M_item_77 (by decide) ?_
      exact hret _ _ _ _ _ (n, S, d) d_M_item_79 (Or.inr (Or.inr ⟨fun ⟨a9, b9, o9⟩ => h1.no c3 ((gt_num_time (by omega) (by omega)).mpr ⟨b9, o9.2.2.2.2.1, o9.2.2.2.2.2.1, o9.2.1⟩), rfl, rfl, rfl, rfl⟩)) hP hD hS
    · refine lv_lload_n hx hb d_M_item_58 rfl (lv_at hl 2 rfl) ?_
      refine lv_aload_n hx hb d_M_item_59 rfl (lv_at hl 1 rfl) ?_
      refine va_get (D := D) (ci := 3) (v := .long (lN now)) (C := R_M) (T := F_M) (N := 21) hx hb hts i_M hown hK hP 0 rfl rfl 17 (by decide) (hts _ kw_255) (fun _ h9 => h9) rfl d_M_item_60 ?_
      refine lv_ldc2 (v := lN 1000000000) hx hb hown (hts _ kw_312) d_M_item_63 ?_
      refine vp_callSi (va_runS (As := [.long a, .long (lN now), .long (lN 1000000000)]) (rest := []) ⟨hx, hb, hml, hown, hts⟩ (c_M_isIn l D a (lN now) (lN 1000000000)) (cwS 3 hts (tb_inS kw_309 kw_310 kw_4 kw_311) rfl rfl rfl (by decide +kernel) ⟨Nat.le_of_ble_eq_true rfl, Nat.le_of_ble_eq_true rfl⟩) (gt_PreP_S gt_T_mv gt_P0 trivial) rfl rfl hl.1 rfl (lv_room (Nat.le_of_ble_eq_true rfl)) d_M_item_66 ⟨Nat.zero_le _, Nat.zero_le _⟩).run (fun r2 h2 => ?_)
      refine lv_if_eq (tgt := 77) hx hb d_M_item_69 (by decide) (fun c4 => ?_) (fun c4 => ?_)
      · refine lv_bipush (v := (-102)) hx hb d_M_item_77 (by decide) ?_
        exact hret _ _ _ _ _ (n, S, d) d_M_item_79 (Or.inr (Or.inr ⟨fun ⟨a9, b9, o9⟩ => h2.no c4 ((gt_num_time (by omega) (by omega)).mpr ⟨a9, o9.2.2.1, o9.2.2.2.1, o9.1⟩), rfl, rfl, rfl, rfl⟩)) hP hD hS
      · obtain ⟨b1, b2, b3, rfl⟩ := (gt_num_time (by omega) (by omega)).mp (h1.yes c3)
        obtain ⟨a1, a2, a3, rfl⟩ := (gt_num_time (by omega) (by omega)).mp (h2.yes c4)
        have hnear : (¬ n = 0 ∧ lN a1 - lN (S.2.1 n) - lN (S.2.2.1 n) < lN 50) ↔ ¬ (n = 0 ∨ S.2.1 n + S.2.2.1 n + 50 ≤ a1) := by
          by_cases e : n = 0
          · exact ⟨fun q => absurd e q.1, fun q => absurd (Or.inl e) q⟩
          · have hab := hinv.1.2.2.2.1 n (by omega) (Nat.le_refl n)
            rw [gt_near a3 hab.1 (by omega)]
            exact ⟨fun q z => z.elim q.1 q.2, fun q => ⟨e, fun z => q (Or.inr z)⟩⟩
        refine lv_iload hx hb d_M_item_72 (lv_at hl 0 rfl) ?_
        refine lv_if_eq (tgt := 80) hx hb d_M_item_74 (by decide) (fun c5 => ?_) (fun c5 => ?_)
        · have hok : gt_okI n now S (lN a1) (lN b1) a1 b1 := ⟨rfl, rfl, a2, a3, b2, b3, Decidable.not_not.mp (fun q => hnr.no c5 (hnear.mpr q))⟩
          refine lv_aload_n hx hb d_M_item_80 rfl (lv_at hl 1 rfl) ?_
          refine va_get (D := D) (ci := 3) (v := .int (nI n)) (C := R_M) (T := F_M) (N := 21) hx hb hts i_M hown hK hP 0 rfl rfl 2 (by decide) (hts _ kw_240) (fun _ h9 => h9) rfl d_M_item_81 ?_
          refine lv_sipush (v := 400) hx hb d_M_item_84 (by decide) ?_
          refine lv_icmp_ne (tgt := 93) hx hb d_M_item_87 (by decide) (fun c6 => ?_) (fun c6 => ?_)
          · have hn4 : n < 400 := by
              rcases Nat.lt_or_ge n 400 with e | e
              · exact e
              · exact absurd (show nI n = 400 by rw [show n = 400 by omega]; decide) c6
            refine lv_aload_n hx hb d_M_item_93 rfl (lv_at hl 1 rfl) ?_
            refine lv_dup hx hb d_M_item_94 rfl ?_
            refine va_get (D := D) (ci := 3) (v := .int (nI n)) (C := R_M) (T := F_M) (N := 21) hx hb hts i_M hown hK hP 0 rfl rfl 2 (by decide) (hts _ kw_240) (fun _ h9 => h9) rfl d_M_item_95 ?_
            refine lv_iconst (v := 1) hx hb d_M_item_98 (by decide) ?_
            refine lv_iadd hx hb d_M_item_99 ?_
            rw [nI_1]
            refine va_put (D := D) (ci := 3) (v := .int (nI (n + 1))) (ty := .int) (C := R_M) (T := F_M) (N := 21) hx hb hts i_M t_M t_M_ok n_M hown hK hP hD hS 0 rfl rfl 2 (by decide) (hts _ kw_240) (fun _ h9 => h9) rfl (by decide +kernel) rfl rfl (Nat.le_of_ble_eq_true rfl) d_M_item_100 (fun H locs hP hD hS => ?_)
            have hP : va_P D gt_cl (gt_MW ma mc 0 S.1 (n + 1) now ol.length told (fun j9 => lN (S.2.1 j9)) (fun j9 => lN (S.2.2.1 j9)) S.2.2.2.1 (fun j9 => nI (d.1 j9).1) (fun j9 => (d.1 j9).2.1) lt (fun j9 => lN (d.1 j9).2.2) (fun g9 => (d.2 g9).1) S.2.2.2.2.1 (fun g9 => (d.2 g9).2.1) (fun g9 => lN (d.2 g9).2.2.1) S.2.2.2.2.2 (fun g9 => (d.2 g9).2.2.2.1) (fun g9 => (d.2 g9).2.2.2.2) (gt_lf ol)) H := hP
            have hD : va_D A (gt_MW ma mc 0 S.1 (n + 1) now ol.length told (fun j9 => lN (S.2.1 j9)) (fun j9 => lN (S.2.2.1 j9)) S.2.2.2.1 (fun j9 => nI (d.1 j9).1) (fun j9 => (d.1 j9).2.1) lt (fun j9 => lN (d.1 j9).2.2) (fun g9 => (d.2 g9).1) S.2.2.2.2.1 (fun g9 => (d.2 g9).2.1) (fun g9 => lN (d.2 g9).2.2.1) S.2.2.2.2.2 (fun g9 => (d.2 g9).2.2.2.1) (fun g9 => (d.2 g9).2.2.2.2) (gt_lf ol)) := hD
            refine lv_aload_n hx hb d_M_item_103 rfl (lv_at hl 1 rfl) ?_
            refine va_get (D := D) (ci := 3) (v := .ref (ma 1)) (C := R_M) (T := F_M) (N := 21) hx hb hts i_M hown hK hP 0 rfl rfl 3 (by decide) (hts _ kw_241) (fun _ h9 => h9) rfl d_M_item_104 ?_
            refine lv_aload_n hx hb d_M_item_107 rfl (lv_at hl 1 rfl) ?_
            refine va_get (D := D) (ci := 3) (v := .int (nI (n + 1))) (C := R_M) (T := F_M) (N := 21) hx hb hts i_M hown hK hP 0 rfl rfl 2 (by decide) (hts _ kw_240) (fun _ h9 => h9) rfl d_M_item_108 ?_
            refine lv_lload_n hx hb d_M_item_111 rfl (lv_at hl 2 rfl) ?_
            refine gt_last (k := n + 1) hx hb hK hP hD hS 1 0 rfl rfl (by omega) (by decide) d_M_item_112 (fun H locs hP hD hS => ?_)
            have hP : va_P D gt_cl (gt_MW ma mc 0 S.1 (n + 1) now ol.length told (vp_updL (fun j9 => lN (S.2.1 j9)) (n + 1) (lN a1)) (fun j9 => lN (S.2.2.1 j9)) S.2.2.2.1 (fun j9 => nI (d.1 j9).1) (fun j9 => (d.1 j9).2.1) lt (fun j9 => lN (d.1 j9).2.2) (fun g9 => (d.2 g9).1) S.2.2.2.2.1 (fun g9 => (d.2 g9).2.1) (fun g9 => lN (d.2 g9).2.2.1) S.2.2.2.2.2 (fun g9 => (d.2 g9).2.2.2.1) (fun g9 => (d.2 g9).2.2.2.2) (gt_lf ol)) H := hP
            have hD : va_D A (gt_MW ma mc 0 S.1 (n + 1) now ol.length told (vp_updL (fun j9 => lN (S.2.1 j9)) (n + 1) (lN a1)) (fun j9 => lN (S.2.2.1 j9)) S.2.2.2.1 (fun j9 => nI (d.1 j9).1) (fun j9 => (d.1 j9).2.1) lt (fun j9 => lN (d.1 j9).2.2) (fun g9 => (d.2 g9).1) S.2.2.2.2.1 (fun g9 => (d.2 g9).2.1) (fun g9 => lN (d.2 g9).2.2.1) S.2.2.2.2.2 (fun g9 => (d.2 g9).2.2.2.1) (fun g9 => (d.2 g9).2.2.2.2) (gt_lf ol)) := hD
            refine lv_aload_n hx hb d_M_item_113 rfl (lv_at hl 1 rfl) ?_
            refine va_get (D := D) (ci := 3) (v := .ref (ma 2)) (C := R_M) (T := F_M) (N := 21) hx hb hts i_M hown hK hP 0 rfl rfl 4 (by decide) (hts _ kw_242) (fun _ h9 => h9) rfl d_M_item_114 ?_
            refine lv_aload_n hx hb d_M_item_117 rfl (lv_at hl 1 rfl) ?_
            refine va_get (D := D) (ci := 3) (v := .int (nI (n + 1))) (C := R_M) (T := F_M) (N := 21) hx hb hts i_M hown hK hP 0 rfl rfl 2 (by decide) (hts _ kw_240) (fun _ h9 => h9) rfl d_M_item_118 ?_
            refine lv_lload_n hx hb d_M_item_121 rfl (lv_at hl 3 rfl) ?_
            refine gt_last (k := n + 1) hx hb hK hP hD hS 2 1 rfl rfl (by omega) (by decide) d_M_item_122 (fun H locs hP hD hS => ?_)
            have hP : va_P D gt_cl (gt_MW ma mc 0 S.1 (n + 1) now ol.length told (vp_updL (fun j9 => lN (S.2.1 j9)) (n + 1) (lN a1)) (vp_updL (fun j9 => lN (S.2.2.1 j9)) (n + 1) (lN b1)) S.2.2.2.1 (fun j9 => nI (d.1 j9).1) (fun j9 => (d.1 j9).2.1) lt (fun j9 => lN (d.1 j9).2.2) (fun g9 => (d.2 g9).1) S.2.2.2.2.1 (fun g9 => (d.2 g9).2.1) (fun g9 => lN (d.2 g9).2.2.1) S.2.2.2.2.2 (fun g9 => (d.2 g9).2.2.2.1) (fun g9 => (d.2 g9).2.2.2.2) (gt_lf ol)) H := hP
            have hD : va_D A (gt_MW ma mc 0 S.1 (n + 1) now ol.length told (vp_updL (fun j9 => lN (S.2.1 j9)) (n + 1) (lN a1)) (vp_updL (fun j9 => lN (S.2.2.1 j9)) (n + 1) (lN b1)) S.2.2.2.1 (fun j9 => nI (d.1 j9).1) (fun j9 => (d.1 j9).2.1) lt (fun j9 => lN (d.1 j9).2.2) (fun g9 => (d.2 g9).1) S.2.2.2.2.1 (fun g9 => (d.2 g9).2.1) (fun g9 => lN (d.2 g9).2.2.1) S.2.2.2.2.2 (fun g9 => (d.2 g9).2.2.2.1) (fun g9 => (d.2 g9).2.2.2.2) (gt_lf ol)) := hD
            refine lv_aload_n hx hb d_M_item_123 rfl (lv_at hl 1 rfl) ?_
            refine va_get (D := D) (ci := 3) (v := .ref (ma 3)) (C := R_M) (T := F_M) (N := 21) hx hb hts i_M hown hK hP 0 rfl rfl 5 (by decide) (hts _ kw_243) (fun _ h9 => h9) rfl d_M_item_124 ?_
            refine lv_aload_n hx hb d_M_item_127 rfl (lv_at hl 1 rfl) ?_
            refine va_get (D := D) (ci := 3) (v := .int (nI (n + 1))) (C := R_M) (T := F_M) (N := 21) hx hb hts i_M hown hK hP 0 rfl rfl 2 (by decide) (hts _ kw_240) (fun _ h9 => h9) rfl d_M_item_128 ?_
            refine lv_iconst (v := (-1)) hx hb d_M_item_131 (by decide) ?_
            refine gt_iast (k := n + 1) hx hb hK hP hD hS 3 2 rfl rfl (by omega) (by decide) d_M_item_132 (fun H locs hP hD hS => ?_)
            have hP : va_P D gt_cl (gt_MW ma mc 0 S.1 (n + 1) now ol.length told (vp_updL (fun j9 => lN (S.2.1 j9)) (n + 1) (lN a1)) (vp_updL (fun j9 => lN (S.2.2.1 j9)) (n + 1) (lN b1)) (upd S.2.2.2.1 (n + 1) (-1)) (fun j9 => nI (d.1 j9).1) (fun j9 => (d.1 j9).2.1) lt (fun j9 => lN (d.1 j9).2.2) (fun g9 => (d.2 g9).1) S.2.2.2.2.1 (fun g9 => (d.2 g9).2.1) (fun g9 => lN (d.2 g9).2.2.1) S.2.2.2.2.2 (fun g9 => (d.2 g9).2.2.2.1) (fun g9 => (d.2 g9).2.2.2.2) (gt_lf ol)) H := hP
            have hD : va_D A (gt_MW ma mc 0 S.1 (n + 1) now ol.length told (vp_updL (fun j9 => lN (S.2.1 j9)) (n + 1) (lN a1)) (vp_updL (fun j9 => lN (S.2.2.1 j9)) (n + 1) (lN b1)) (upd S.2.2.2.1 (n + 1) (-1)) (fun j9 => nI (d.1 j9).1) (fun j9 => (d.1 j9).2.1) lt (fun j9 => lN (d.1 j9).2.2) (fun g9 => (d.2 g9).1) S.2.2.2.2.1 (fun g9 => (d.2 g9).2.1) (fun g9 => lN (d.2 g9).2.2.1) S.2.2.2.2.2 (fun g9 => (d.2 g9).2.2.2.1) (fun g9 => (d.2 g9).2.2.2.2) (gt_lf ol)) := hD
            refine lv_aload_n hx hb d_M_item_133 rfl (lv_at hl 1 rfl) ?_
            refine va_get (D := D) (ci := 3) (v := .ref (ma 4)) (C := R_M) (T := F_M) (N := 21) hx hb hts i_M hown hK hP 0 rfl rfl 6 (by decide) (hts _ kw_244) (fun _ h9 => h9) rfl d_M_item_134 ?_
            refine lv_aload_n hx hb d_M_item_137 rfl (lv_at hl 1 rfl) ?_
            refine va_get (D := D) (ci := 3) (v := .int (nI (n + 1))) (C := R_M) (T := F_M) (N := 21) hx hb hts i_M hown hK hP 0 rfl rfl 2 (by decide) (hts _ kw_240) (fun _ h9 => h9) rfl d_M_item_138 ?_
            refine lv_iconst (v := 0) hx hb d_M_item_141 (by decide) ?_
            refine gt_iast (k := n + 1) hx hb hK hP hD hS 4 3 rfl rfl (by omega) (by decide) d_M_item_142 (fun H locs hP hD hS => ?_)
            have hP : va_P D gt_cl (gt_MW ma mc 0 S.1 (n + 1) now ol.length told (vp_updL (fun j9 => lN (S.2.1 j9)) (n + 1) (lN a1)) (vp_updL (fun j9 => lN (S.2.2.1 j9)) (n + 1) (lN b1)) (upd S.2.2.2.1 (n + 1) (-1)) (upd (fun j9 => nI (d.1 j9).1) (n + 1) 0) (fun j9 => (d.1 j9).2.1) lt (fun j9 => lN (d.1 j9).2.2) (fun g9 => (d.2 g9).1) S.2.2.2.2.1 (fun g9 => (d.2 g9).2.1) (fun g9 => lN (d.2 g9).2.2.1) S.2.2.2.2.2 (fun g9 => (d.2 g9).2.2.2.1) (fun g9 => (d.2 g9).2.2.2.2) (gt_lf ol)) H := hP
            have hD : va_D A (gt_MW ma mc 0 S.1 (n + 1) now ol.length told (vp_updL (fun j9 => lN (S.2.1 j9)) (n + 1) (lN a1)) (vp_updL (fun j9 => lN (S.2.2.1 j9)) (n + 1) (lN b1)) (upd S.2.2.2.1 (n + 1) (-1)) (upd (fun j9 => nI (d.1 j9).1) (n + 1) 0) (fun j9 => (d.1 j9).2.1) lt (fun j9 => lN (d.1 j9).2.2) (fun g9 => (d.2 g9).1) S.2.2.2.2.1 (fun g9 => (d.2 g9).2.1) (fun g9 => lN (d.2 g9).2.2.1) S.2.2.2.2.2 (fun g9 => (d.2 g9).2.2.2.1) (fun g9 => (d.2 g9).2.2.2.2) (gt_lf ol)) := hD
            refine lv_aload_n hx hb d_M_item_143 rfl (lv_at hl 1 rfl) ?_
            refine va_get (D := D) (ci := 3) (v := .ref (ma 5)) (C := R_M) (T := F_M) (N := 21) hx hb hts i_M hown hK hP 0 rfl rfl 7 (by decide) (hts _ kw_245) (fun _ h9 => h9) rfl d_M_item_144 ?_
            refine lv_aload_n hx hb d_M_item_147 rfl (lv_at hl 1 rfl) ?_
            refine va_get (D := D) (ci := 3) (v := .int (nI (n + 1))) (C := R_M) (T := F_M) (N := 21) hx hb hts i_M hown hK hP 0 rfl rfl 2 (by decide) (hts _ kw_240) (fun _ h9 => h9) rfl d_M_item_148 ?_
            refine lv_iconst (v := (-1)) hx hb d_M_item_151 (by decide) ?_
            refine gt_iast (k := n + 1) hx hb hK hP hD hS 5 4 rfl rfl (by omega) (by decide) d_M_item_152 (fun H locs hP hD hS => ?_)
            have hP : va_P D gt_cl (gt_MW ma mc 0 S.1 (n + 1) now ol.length told (vp_updL (fun j9 => lN (S.2.1 j9)) (n + 1) (lN a1)) (vp_updL (fun j9 => lN (S.2.2.1 j9)) (n + 1) (lN b1)) (upd S.2.2.2.1 (n + 1) (-1)) (upd (fun j9 => nI (d.1 j9).1) (n + 1) 0) (upd (fun j9 => (d.1 j9).2.1) (n + 1) (-1)) lt (fun j9 => lN (d.1 j9).2.2) (fun g9 => (d.2 g9).1) S.2.2.2.2.1 (fun g9 => (d.2 g9).2.1) (fun g9 => lN (d.2 g9).2.2.1) S.2.2.2.2.2 (fun g9 => (d.2 g9).2.2.2.1) (fun g9 => (d.2 g9).2.2.2.2) (gt_lf ol)) H := hP
            have hD : va_D A (gt_MW ma mc 0 S.1 (n + 1) now ol.length told (vp_updL (fun j9 => lN (S.2.1 j9)) (n + 1) (lN a1)) (vp_updL (fun j9 => lN (S.2.2.1 j9)) (n + 1) (lN b1)) (upd S.2.2.2.1 (n + 1) (-1)) (upd (fun j9 => nI (d.1 j9).1) (n + 1) 0) (upd (fun j9 => (d.1 j9).2.1) (n + 1) (-1)) lt (fun j9 => lN (d.1 j9).2.2) (fun g9 => (d.2 g9).1) S.2.2.2.2.1 (fun g9 => (d.2 g9).2.1) (fun g9 => lN (d.2 g9).2.2.1) S.2.2.2.2.2 (fun g9 => (d.2 g9).2.2.2.1) (fun g9 => (d.2 g9).2.2.2.2) (gt_lf ol)) := hD
            refine lv_aload_n hx hb d_M_item_153 rfl (lv_at hl 1 rfl) ?_
            refine va_get (D := D) (ci := 3) (v := .int (nI (n + 1))) (C := R_M) (T := F_M) (N := 21) hx hb hts i_M hown hK hP 0 rfl rfl 2 (by decide) (hts _ kw_240) (fun _ h9 => h9) rfl d_M_item_154 ?_
            rw [gt_MS_add] at hP hD
            exact hret _ _ _ _ _ (n + 1, gt_Sadd S n a1 b1, gt_dadd d n) d_M_item_157 (Or.inl ⟨a1, b1, hok, hn4, rfl, rfl, rfl, rfl⟩) hP hD hS
          · refine lv_bipush (v := (-104)) hx hb d_M_item_90 (by decide) ?_
            have hn4 : n = 400 := gt_nI_inj2 (b := 400) (by omega) (by omega) c6
            exact hret _ _ _ _ _ (n, S, d) d_M_item_92 (Or.inr (Or.inl ⟨a1, b1, hok, hn4, rfl, rfl, rfl, rfl⟩)) hP hD hS
        · refine lv_bipush (v := (-102)) hx hb d_M_item_77 (by decide) ?_
          exact hret _ _ _ _ _ (n, S, d) d_M_item_79 (Or.inr (Or.inr ⟨fun ⟨a9, b9, o9⟩ => by
            have e9 := gt_lN_inj o9.2.2.2.1 a3 o9.1.symm
            subst e9
            exact hnear.mp (hnr.yes c5) o9.2.2.2.2.2.2, rfl, rfl, rfl, rfl⟩)) hP hD hS
  refine lv_if_le (tgt := 44) hx hb d_M_item_9 (by decide) (fun c1 => ?_) (fun c1 => ?_)
  · refine lv_iconst (v := 0) hx hb d_M_item_44 (by decide) ?_
    exact J 0 (gt_Bit.f (fun q => by
      have e : 0 < n := by omega
      exact absurd c1 (nI_nle e (by omega))))
  · have hn1 : ¬ n = 0 := fun e => c1 (by rw [e]; decide)
    refine lv_lload_n hx hb d_M_item_12 rfl (lv_at hl 1 rfl) ?_
    refine lv_aload_n hx hb d_M_item_13 rfl (lv_at hl 0 rfl) ?_
    refine va_get (D := D) (ci := 3) (v := .ref (ma 1)) (C := R_M) (T := F_M) (N := 21) hx hb hts i_M hown hK hP 0 rfl rfl 3 (by decide) (hts _ kw_241) (fun _ h9 => h9) rfl d_M_item_14 ?_
    refine lv_aload_n hx hb d_M_item_17 rfl (lv_at hl 0 rfl) ?_
    refine va_get (D := D) (ci := 3) (v := .int (nI n)) (C := R_M) (T := F_M) (N := 21) hx hb hts i_M hown hK hP 0 rfl rfl 2 (by decide) (hts _ kw_240) (fun _ h9 => h9) rfl d_M_item_18 ?_
    refine gt_lald (k := n) hx hb hK hP 1 0 rfl rfl (by omega) (by decide) d_M_item_21 ?_
    refine lv_lsub hx hb d_M_item_22 ?_
    refine lv_aload_n hx hb d_M_item_23 rfl (lv_at hl 0 rfl) ?_
    refine va_get (D := D) (ci := 3) (v := .ref (ma 2)) (C := R_M) (T := F_M) (N := 21) hx hb hts i_M hown hK hP 0 rfl rfl 4 (by decide) (hts _ kw_242) (fun _ h9 => h9) rfl d_M_item_24 ?_
    refine lv_aload_n hx hb d_M_item_27 rfl (lv_at hl 0 rfl) ?_
    refine va_get (D := D) (ci := 3) (v := .int (nI n)) (C := R_M) (T := F_M) (N := 21) hx hb hts i_M hown hK hP 0 rfl rfl 2 (by decide) (hts _ kw_240) (fun _ h9 => h9) rfl d_M_item_28 ?_
    refine gt_lald (k := n) hx hb hK hP 2 1 rfl rfl (by omega) (by decide) d_M_item_31 ?_
    refine lv_lsub hx hb d_M_item_32 ?_
    refine lv_ldc2 (v := lN 50) hx hb hown (hts _ kw_307) d_M_item_33 ?_
    refine W.lcmp hx hb d_M_item_36 ?_
    refine lv_if_ge (tgt := 44) hx hb d_M_item_37 (by decide) (fun c2 => ?_) (fun c2 => ?_)
    · have c2 := (lg_cmp_ge _ _).mp c2
      refine lv_iconst (v := 0) hx hb d_M_item_44 (by decide) ?_
      exact J 0 (gt_Bit.f (fun q => absurd c2 (Int64.not_le.mpr q.2)))
    · have c2 : ¬ _ := fun q => c2 ((lg_cmp_ge _ _).mpr q)
      refine lv_iconst (v := 1) hx hb d_M_item_40 (by decide) ?_
      refine lv_goto (tgt := 45) hx hb d_M_item_41 (by decide) ?_
      exact J 1 (gt_Bit.t ⟨hn1, Int64.not_le.mp c2⟩)
def gt_f16 {α : Type} (a0 a1 a2 a3 a4 a5 a6 a7 a8 a9 a10 a11 a12 a13 a14 a15 : α) : Nat → α := fun k => match k with
  | 0 => a0
  | 1 => a1
  | 2 => a2
  | 3 => a3
  | 4 => a4
  | 5 => a5
  | 6 => a6
  | 7 => a7
  | 8 => a8
  | 9 => a9
  | 10 => a10
  | 11 => a11
  | 12 => a12
  | 13 => a13
  | 14 => a14
  | _ => a15
abbrev rm_M_init : Room := { frames := 1, cells := 15, slots := 3298, locals := 12 }
set_option maxHeartbeats 4000000 in
set_option maxRecDepth 100000 in
/-- GateTimesModel(gates) -/
theorem c_M_init (l : Launch) (D : va_G) (sz h0 : Nat) (x : Int32) : Met l y_M_init w_M_init rm_M_init (gt_Pre D (va_K D gt_cl []) [.ref h0, .int x] ([(h0, .inr (3, [.int 0, .int 0, .int 0, .null, .null, .null, .null, .null, .null, .null, .null, .null, .null, .null, .null, .null, .null, .long 0, .int 0, .null, .int 0]))]) sz) (gt_Qk D ([(h0, .inr (3, [.int 0, .int 0, .int 0, .null, .null, .null, .null, .null, .null, .null, .null, .null, .null, .null, .null, .null, .null, .long 0, .int 0, .null, .int 0]))]) sz (fun u : (Nat → Nat) × (Nat → ClassId) => u.1 0 = h0) (fun u : (Nat → Nat) × (Nat → ClassId) => gt_MS u.1 u.2 0 (gt_S0 (gt_G x)) (fun _ => 0) gt_d0 0 0 [] 0) (fun u : (Nat → Nat) × (Nat → ClassId) => gt_Mt u.2)) 15 3298 (va_A ([(h0, .inr (3, [.int 0, .int 0, .int 0, .null, .null, .null, .null, .null, .null, .null, .null, .null, .null, .null, .null, .null, .null, .long 0, .int 0, .null, .int 0]))]) sz) := by
  refine gt_ctor (own := R_M) (by decide) rfl (Nat.le_of_ble_eq_true rfl) ?_
  intro p e s m below meth c args A hx hb hml hown hnm hts hP hK0 hD hA Q hret ls hl
  have hS : va_S A s.heap s.heap [] := va_S.rf
  have hl : lv_has ls 3 [(0, .ref h0), (1, .int x)] := hl
  have hin : meth.name = "<init>" := hnm
  have hK := hK0
  refine lv_aload_n hx hb d_M_init_0 rfl (lv_at hl 0 rfl) ?_
  refine W.objInit hx hb hown (hts _ kw_237) (hts _ kw_12) (hts _ kw_13) rfl (by rw [hml]; exact hl.1) rfl d_M_init_1 (Nat.le_of_ble_eq_true rfl) (Nat.le_of_ble_eq_true rfl) ?_
  refine W.eq (g2 := F0 m 4 ls []) rfl ?_
  refine lv_aload_n hx hb d_M_init_4 rfl (lv_at hl 0 rfl) ?_
  refine lv_sipush (v := 401) hx hb d_M_init_5 (by decide) ?_
  refine va_newa (atype := .long) hx hb (hts _ kw_56) (ty := .long) rfl hK hP hD hS hA (n := 401) (N' := 401) (a0 := (401, .inr (.inl (fun _ => 0)))) (fun _ => rfl) (by decide) (by decide) (by decide) (by decide) (by decide) d_M_init_8 (fun q1 k1 H hK hP hD hS => ?_)
  have hK : va_K D gt_cl [(k1, .long)] s := hK
  have hP : va_P D gt_cl ([(h0, .inr (3, [.int 0, .int 0, .int 0, .null, .null, .null, .null, .null, .null, .null, .null, .null, .null, .null, .null, .null, .null, .long 0, .int 0, .null, .int 0])), (q1, .inl (k1, 401, .inr (.inl (fun _ => 0))))]) H := hP
  have hD : va_D A ([(h0, .inr (3, [.int 0, .int 0, .int 0, .null, .null, .null, .null, .null, .null, .null, .null, .null, .null, .null, .null, .null, .null, .long 0, .int 0, .null, .int 0])), (q1, .inl (k1, 401, .inr (.inl (fun _ => 0))))]) := hD
  refine va_putF (D := D) (ci := 3) (v := .ref q1) (ty := .array .long) (C := R_M) (T := F_M) (N := 21) hx hb hts i_M t_M t_M_ok n_M hown hK hP hD hS 0 rfl rfl 3 (by decide) (hts _ kw_241) (fun _ h9 => h9) rfl hin rfl (by decide +kernel) rfl rfl (Nat.le_of_ble_eq_true rfl) d_M_init_10 (fun H locs hP hD hS => ?_)
  have hP : va_P D gt_cl ([(h0, .inr (3, [.int 0, .int 0, .int 0, .ref q1, .null, .null, .null, .null, .null, .null, .null, .null, .null, .null, .null, .null, .null, .long 0, .int 0, .null, .int 0])), (q1, .inl (k1, 401, .inr (.inl (fun _ => 0))))]) H := hP
  have hD : va_D A ([(h0, .inr (3, [.int 0, .int 0, .int 0, .ref q1, .null, .null, .null, .null, .null, .null, .null, .null, .null, .null, .null, .null, .null, .long 0, .int 0, .null, .int 0])), (q1, .inl (k1, 401, .inr (.inl (fun _ => 0))))]) := hD
  refine lv_aload_n hx hb d_M_init_13 rfl (lv_at hl 0 rfl) ?_
  refine lv_sipush (v := 401) hx hb d_M_init_14 (by decide) ?_
  refine va_newa (atype := .long) hx hb (hts _ kw_56) (ty := .long) rfl hK hP hD hS hA (n := 401) (N' := 401) (a0 := (401, .inr (.inl (fun _ => 0)))) (fun _ => rfl) (by decide) (by decide) (by decide) (by decide) (by decide) d_M_init_17 (fun q2 k2 H hK hP hD hS => ?_)
  have hK : va_K D gt_cl [(k1, .long), (k2, .long)] s := hK
  have hP : va_P D gt_cl ([(h0, .inr (3, [.int 0, .int 0, .int 0, .ref q1, .null, .null, .null, .null, .null, .null, .null, .null, .null, .null, .null, .null, .null, .long 0, .int 0, .null, .int 0])), (q1, .inl (k1, 401, .inr (.inl (fun _ => 0)))), (q2, .inl (k2, 401, .inr (.inl (fun _ => 0))))]) H := hP
  have hD : va_D A ([(h0, .inr (3, [.int 0, .int 0, .int 0, .ref q1, .null, .null, .null, .null, .null, .null, .null, .null, .null, .null, .null, .null, .null, .long 0, .int 0, .null, .int 0])), (q1, .inl (k1, 401, .inr (.inl (fun _ => 0)))), (q2, .inl (k2, 401, .inr (.inl (fun _ => 0))))]) := hD
  refine va_putF (D := D) (ci := 3) (v := .ref q2) (ty := .array .long) (C := R_M) (T := F_M) (N := 21) hx hb hts i_M t_M t_M_ok n_M hown hK hP hD hS 0 rfl rfl 4 (by decide) (hts _ kw_242) (fun _ h9 => h9) rfl hin rfl (by decide +kernel) rfl rfl (Nat.le_of_ble_eq_true rfl) d_M_init_19 (fun H locs hP hD hS => ?_)
  have hP : va_P D gt_cl ([(h0, .inr (3, [.int 0, .int 0, .int 0, .ref q1, .ref q2, .null, .null, .null, .null, .null, .null, .null, .null, .null, .null, .null, .null, .long 0, .int 0, .null, .int 0])), (q1, .inl (k1, 401, .inr (.inl (fun _ => 0)))), (q2, .inl (k2, 401, .inr (.inl (fun _ => 0))))]) H := hP
  have hD : va_D A ([(h0, .inr (3, [.int 0, .int 0, .int 0, .ref q1, .ref q2, .null, .null, .null, .null, .null, .null, .null, .null, .null, .null, .null, .null, .long 0, .int 0, .null, .int 0])), (q1, .inl (k1, 401, .inr (.inl (fun _ => 0)))), (q2, .inl (k2, 401, .inr (.inl (fun _ => 0))))]) := hD
  refine lv_aload_n hx hb d_M_init_22 rfl (lv_at hl 0 rfl) ?_
  refine lv_sipush (v := 401) hx hb d_M_init_23 (by decide) ?_
  refine va_newa (atype := .int) hx hb (hts _ kw_55) (ty := .int) rfl hK hP hD hS hA (n := 401) (N' := 401) (a0 := (401, .inl (fun _ => 0))) (fun _ => rfl) (by decide) (by decide) (by decide) (by decide) (by decide) d_M_init_26 (fun q3 k3 H hK hP hD hS => ?_)
  have hK : va_K D gt_cl [(k1, .long), (k2, .long), (k3, .int)] s := hK
  have hP : va_P D gt_cl ([(h0, .inr (3, [.int 0, .int 0, .int 0, .ref q1, .ref q2, .null, .null, .null, .null, .null, .null, .null, .null, .null, .null, .null, .null, .long 0, .int 0, .null, .int 0])), (q1, .inl (k1, 401, .inr (.inl (fun _ => 0)))), (q2, .inl (k2, 401, .inr (.inl (fun _ => 0)))), (q3, .inl (k3, 401, .inl (fun _ => 0)))]) H := hP
  have hD : va_D A ([(h0, .inr (3, [.int 0, .int 0, .int 0, .ref q1, .ref q2, .null, .null, .null, .null, .null, .null, .null, .null, .null, .null, .null, .null, .long 0, .int 0, .null, .int 0])), (q1, .inl (k1, 401, .inr (.inl (fun _ => 0)))), (q2, .inl (k2, 401, .inr (.inl (fun _ => 0)))), (q3, .inl (k3, 401, .inl (fun _ => 0)))]) := hD
  refine va_putF (D := D) (ci := 3) (v := .ref q3) (ty := .array .int) (C := R_M) (T := F_M) (N := 21) hx hb hts i_M t_M t_M_ok n_M hown hK hP hD hS 0 rfl rfl 5 (by decide) (hts _ kw_243) (fun _ h9 => h9) rfl hin rfl (by decide +kernel) rfl rfl (Nat.le_of_ble_eq_true rfl) d_M_init_28 (fun H locs hP hD hS => ?_)
  have hP : va_P D gt_cl ([(h0, .inr (3, [.int 0, .int 0, .int 0, .ref q1, .ref q2, .ref q3, .null, .null, .null, .null, .null, .null, .null, .null, .null, .null, .null, .long 0, .int 0, .null, .int 0])), (q1, .inl (k1, 401, .inr (.inl (fun _ => 0)))), (q2, .inl (k2, 401, .inr (.inl (fun _ => 0)))), (q3, .inl (k3, 401, .inl (fun _ => 0)))]) H := hP
  have hD : va_D A ([(h0, .inr (3, [.int 0, .int 0, .int 0, .ref q1, .ref q2, .ref q3, .null, .null, .null, .null, .null, .null, .null, .null, .null, .null, .null, .long 0, .int 0, .null, .int 0])), (q1, .inl (k1, 401, .inr (.inl (fun _ => 0)))), (q2, .inl (k2, 401, .inr (.inl (fun _ => 0)))), (q3, .inl (k3, 401, .inl (fun _ => 0)))]) := hD
  refine lv_aload_n hx hb d_M_init_31 rfl (lv_at hl 0 rfl) ?_
  refine lv_sipush (v := 401) hx hb d_M_init_32 (by decide) ?_
  refine va_newa (atype := .int) hx hb (hts _ kw_55) (ty := .int) rfl hK hP hD hS hA (n := 401) (N' := 401) (a0 := (401, .inl (fun _ => 0))) (fun _ => rfl) (by decide) (by decide) (by decide) (by decide) (by decide) d_M_init_35 (fun q4 k4 H hK hP hD hS => ?_)
  have hK : va_K D gt_cl [(k1, .long), (k2, .long), (k3, .int), (k4, .int)] s := hK
  have hP : va_P D gt_cl ([(h0, .inr (3, [.int 0, .int 0, .int 0, .ref q1, .ref q2, .ref q3, .null, .null, .null, .null, .null, .null, .null, .null, .null, .null, .null, .long 0, .int 0, .null, .int 0])), (q1, .inl (k1, 401, .inr (.inl (fun _ => 0)))), (q2, .inl (k2, 401, .inr (.inl (fun _ => 0)))), (q3, .inl (k3, 401, .inl (fun _ => 0))), (q4, .inl (k4, 401, .inl (fun _ => 0)))]) H := hP
  have hD : va_D A ([(h0, .inr (3, [.int 0, .int 0, .int 0, .ref q1, .ref q2, .ref q3, .null, .null, .null, .null, .null, .null, .null, .null, .null, .null, .null, .long 0, .int 0, .null, .int 0])), (q1, .inl (k1, 401, .inr (.inl (fun _ => 0)))), (q2, .inl (k2, 401, .inr (.inl (fun _ => 0)))), (q3, .inl (k3, 401, .inl (fun _ => 0))), (q4, .inl (k4, 401, .inl (fun _ => 0)))]) := hD
  refine va_putF (D := D) (ci := 3) (v := .ref q4) (ty := .array .int) (C := R_M) (T := F_M) (N := 21) hx hb hts i_M t_M t_M_ok n_M hown hK hP hD hS 0 rfl rfl 6 (by decide) (hts _ kw_244) (fun _ h9 => h9) rfl hin rfl (by decide +kernel) rfl rfl (Nat.le_of_ble_eq_true rfl) d_M_init_37 (fun H locs hP hD hS => ?_)
  have hP : va_P D gt_cl ([(h0, .inr (3, [.int 0, .int 0, .int 0, .ref q1, .ref q2, .ref q3, .ref q4, .null, .null, .null, .null, .null, .null, .null, .null, .null, .null, .long 0, .int 0, .null, .int 0])), (q1, .inl (k1, 401, .inr (.inl (fun _ => 0)))), (q2, .inl (k2, 401, .inr (.inl (fun _ => 0)))), (q3, .inl (k3, 401, .inl (fun _ => 0))), (q4, .inl (k4, 401, .inl (fun _ => 0)))]) H := hP
  have hD : va_D A ([(h0, .inr (3, [.int 0, .int 0, .int 0, .ref q1, .ref q2, .ref q3, .ref q4, .null, .null, .null, .null, .null, .null, .null, .null, .null, .null, .long 0, .int 0, .null, .int 0])), (q1, .inl (k1, 401, .inr (.inl (fun _ => 0)))), (q2, .inl (k2, 401, .inr (.inl (fun _ => 0)))), (q3, .inl (k3, 401, .inl (fun _ => 0))), (q4, .inl (k4, 401, .inl (fun _ => 0)))]) := hD
  refine lv_aload_n hx hb d_M_init_40 rfl (lv_at hl 0 rfl) ?_
  refine lv_sipush (v := 401) hx hb d_M_init_41 (by decide) ?_
  refine va_newa (atype := .int) hx hb (hts _ kw_55) (ty := .int) rfl hK hP hD hS hA (n := 401) (N' := 401) (a0 := (401, .inl (fun _ => 0))) (fun _ => rfl) (by decide) (by decide) (by decide) (by decide) (by decide) d_M_init_44 (fun q5 k5 H hK hP hD hS => ?_)
  have hK : va_K D gt_cl [(k1, .long), (k2, .long), (k3, .int), (k4, .int), (k5, .int)] s := hK
  have hP : va_P D gt_cl ([(h0, .inr (3, [.int 0, .int 0, .int 0, .ref q1, .ref q2, .ref q3, .ref q4, .null, .null, .null, .null, .null, .null, .null, .null, .null, .null, .long 0, .int 0, .null, .int 0])), (q1, .inl (k1, 401, .inr (.inl (fun _ => 0)))), (q2, .inl (k2, 401, .inr (.inl (fun _ => 0)))), (q3, .inl (k3, 401, .inl (fun _ => 0))), (q4, .inl (k4, 401, .inl (fun _ => 0))), (q5, .inl (k5, 401, .inl (fun _ => 0)))]) H := hP
  have hD : va_D A ([(h0, .inr (3, [.int 0, .int 0, .int 0, .ref q1, .ref q2, .ref q3, .ref q4, .null, .null, .null, .null, .null, .null, .null, .null, .null, .null, .long 0, .int 0, .null, .int 0])), (q1, .inl (k1, 401, .inr (.inl (fun _ => 0)))), (q2, .inl (k2, 401, .inr (.inl (fun _ => 0)))), (q3, .inl (k3, 401, .inl (fun _ => 0))), (q4, .inl (k4, 401, .inl (fun _ => 0))), (q5, .inl (k5, 401, .inl (fun _ => 0)))]) := hD
  refine va_putF (D := D) (ci := 3) (v := .ref q5) (ty := .array .int) (C := R_M) (T := F_M) (N := 21) hx hb hts i_M t_M t_M_ok n_M hown hK hP hD hS 0 rfl rfl 7 (by decide) (hts _ kw_245) (fun _ h9 => h9) rfl hin rfl (by decide +kernel) rfl rfl (Nat.le_of_ble_eq_true rfl) d_M_init_46 (fun H locs hP hD hS => ?_)
  have hP : va_P D gt_cl ([(h0, .inr (3, [.int 0, .int 0, .int 0, .ref q1, .ref q2, .ref q3, .ref q4, .ref q5, .null, .null, .null, .null, .null, .null, .null, .null, .null, .long 0, .int 0, .null, .int 0])), (q1, .inl (k1, 401, .inr (.inl (fun _ => 0)))), (q2, .inl (k2, 401, .inr (.inl (fun _ => 0)))), (q3, .inl (k3, 401, .inl (fun _ => 0))), (q4, .inl (k4, 401, .inl (fun _ => 0))), (q5, .inl (k5, 401, .inl (fun _ => 0)))]) H := hP
  have hD : va_D A ([(h0, .inr (3, [.int 0, .int 0, .int 0, .ref q1, .ref q2, .ref q3, .ref q4, .ref q5, .null, .null, .null, .null, .null, .null, .null, .null, .null, .long 0, .int 0, .null, .int 0])), (q1, .inl (k1, 401, .inr (.inl (fun _ => 0)))), (q2, .inl (k2, 401, .inr (.inl (fun _ => 0)))), (q3, .inl (k3, 401, .inl (fun _ => 0))), (q4, .inl (k4, 401, .inl (fun _ => 0))), (q5, .inl (k5, 401, .inl (fun _ => 0)))]) := hD
  refine lv_aload_n hx hb d_M_init_49 rfl (lv_at hl 0 rfl) ?_
  refine lv_sipush (v := 401) hx hb d_M_init_50 (by decide) ?_
  refine va_newa (atype := .int) hx hb (hts _ kw_55) (ty := .int) rfl hK hP hD hS hA (n := 401) (N' := 401) (a0 := (401, .inl (fun _ => 0))) (fun _ => rfl) (by decide) (by decide) (by decide) (by decide) (by decide) d_M_init_53 (fun q6 k6 H hK hP hD hS => ?_)
  have hK : va_K D gt_cl [(k1, .long), (k2, .long), (k3, .int), (k4, .int), (k5, .int), (k6, .int)] s := hK
  have hP : va_P D gt_cl ([(h0, .inr (3, [.int 0, .int 0, .int 0, .ref q1, .ref q2, .ref q3, .ref q4, .ref q5, .null, .null, .null, .null, .null, .null, .null, .null, .null, .long 0, .int 0, .null, .int 0])), (q1, .inl (k1, 401, .inr (.inl (fun _ => 0)))), (q2, .inl (k2, 401, .inr (.inl (fun _ => 0)))), (q3, .inl (k3, 401, .inl (fun _ => 0))), (q4, .inl (k4, 401, .inl (fun _ => 0))), (q5, .inl (k5, 401, .inl (fun _ => 0))), (q6, .inl (k6, 401, .inl (fun _ => 0)))]) H := hP
  have hD : va_D A ([(h0, .inr (3, [.int 0, .int 0, .int 0, .ref q1, .ref q2, .ref q3, .ref q4, .ref q5, .null, .null, .null, .null, .null, .null, .null, .null, .null, .long 0, .int 0, .null, .int 0])), (q1, .inl (k1, 401, .inr (.inl (fun _ => 0)))), (q2, .inl (k2, 401, .inr (.inl (fun _ => 0)))), (q3, .inl (k3, 401, .inl (fun _ => 0))), (q4, .inl (k4, 401, .inl (fun _ => 0))), (q5, .inl (k5, 401, .inl (fun _ => 0))), (q6, .inl (k6, 401, .inl (fun _ => 0)))]) := hD
  refine va_putF (D := D) (ci := 3) (v := .ref q6) (ty := .array .int) (C := R_M) (T := F_M) (N := 21) hx hb hts i_M t_M t_M_ok n_M hown hK hP hD hS 0 rfl rfl 8 (by decide) (hts _ kw_246) (fun _ h9 => h9) rfl hin rfl (by decide +kernel) rfl rfl (Nat.le_of_ble_eq_true rfl) d_M_init_55 (fun H locs hP hD hS => ?_)
  have hP : va_P D gt_cl ([(h0, .inr (3, [.int 0, .int 0, .int 0, .ref q1, .ref q2, .ref q3, .ref q4, .ref q5, .ref q6, .null, .null, .null, .null, .null, .null, .null, .null, .long 0, .int 0, .null, .int 0])), (q1, .inl (k1, 401, .inr (.inl (fun _ => 0)))), (q2, .inl (k2, 401, .inr (.inl (fun _ => 0)))), (q3, .inl (k3, 401, .inl (fun _ => 0))), (q4, .inl (k4, 401, .inl (fun _ => 0))), (q5, .inl (k5, 401, .inl (fun _ => 0))), (q6, .inl (k6, 401, .inl (fun _ => 0)))]) H := hP
  have hD : va_D A ([(h0, .inr (3, [.int 0, .int 0, .int 0, .ref q1, .ref q2, .ref q3, .ref q4, .ref q5, .ref q6, .null, .null, .null, .null, .null, .null, .null, .null, .long 0, .int 0, .null, .int 0])), (q1, .inl (k1, 401, .inr (.inl (fun _ => 0)))), (q2, .inl (k2, 401, .inr (.inl (fun _ => 0)))), (q3, .inl (k3, 401, .inl (fun _ => 0))), (q4, .inl (k4, 401, .inl (fun _ => 0))), (q5, .inl (k5, 401, .inl (fun _ => 0))), (q6, .inl (k6, 401, .inl (fun _ => 0)))]) := hD
  refine lv_aload_n hx hb d_M_init_58 rfl (lv_at hl 0 rfl) ?_
  refine lv_sipush (v := 401) hx hb d_M_init_59 (by decide) ?_
  refine va_newa (atype := .long) hx hb (hts _ kw_56) (ty := .long) rfl hK hP hD hS hA (n := 401) (N' := 401) (a0 := (401, .inr (.inl (fun _ => 0)))) (fun _ => rfl) (by decide) (by decide) (by decide) (by decide) (by decide) d_M_init_62 (fun q7 k7 H hK hP hD hS => ?_)
  have hK : va_K D gt_cl [(k1, .long), (k2, .long), (k3, .int), (k4, .int), (k5, .int), (k6, .int), (k7, .long)] s := hK
  have hP : va_P D gt_cl ([(h0, .inr (3, [.int 0, .int 0, .int 0, .ref q1, .ref q2, .ref q3, .ref q4, .ref q5, .ref q6, .null, .null, .null, .null, .null, .null, .null, .null, .long 0, .int 0, .null, .int 0])), (q1, .inl (k1, 401, .inr (.inl (fun _ => 0)))), (q2, .inl (k2, 401, .inr (.inl (fun _ => 0)))), (q3, .inl (k3, 401, .inl (fun _ => 0))), (q4, .inl (k4, 401, .inl (fun _ => 0))), (q5, .inl (k5, 401, .inl (fun _ => 0))), (q6, .inl (k6, 401, .inl (fun _ => 0))), (q7, .inl (k7, 401, .inr (.inl (fun _ => 0))))]) H := hP
  have hD : va_D A ([(h0, .inr (3, [.int 0, .int 0, .int 0, .ref q1, .ref q2, .ref q3, .ref q4, .ref q5, .ref q6, .null, .null, .null, .null, .null, .null, .null, .null, .long 0, .int 0, .null, .int 0])), (q1, .inl (k1, 401, .inr (.inl (fun _ => 0)))), (q2, .inl (k2, 401, .inr (.inl (fun _ => 0)))), (q3, .inl (k3, 401, .inl (fun _ => 0))), (q4, .inl (k4, 401, .inl (fun _ => 0))), (q5, .inl (k5, 401, .inl (fun _ => 0))), (q6, .inl (k6, 401, .inl (fun _ => 0))), (q7, .inl (k7, 401, .inr (.inl (fun _ => 0))))]) := hD
  refine va_putF (D := D) (ci := 3) (v := .ref q7) (ty := .array .long) (C := R_M) (T := F_M) (N := 21) hx hb hts i_M t_M t_M_ok n_M hown hK hP hD hS 0 rfl rfl 9 (by decide) (hts _ kw_247) (fun _ h9 => h9) rfl hin rfl (by decide +kernel) rfl rfl (Nat.le_of_ble_eq_true rfl) d_M_init_64 (fun H locs hP hD hS => ?_)
  have hP : va_P D gt_cl ([(h0, .inr (3, [.int 0, .int 0, .int 0, .ref q1, .ref q2, .ref q3, .ref q4, .ref q5, .ref q6, .ref q7, .null, .null, .null, .null, .null, .null, .null, .long 0, .int 0, .null, .int 0])), (q1, .inl (k1, 401, .inr (.inl (fun _ => 0)))), (q2, .inl (k2, 401, .inr (.inl (fun _ => 0)))), (q3, .inl (k3, 401, .inl (fun _ => 0))), (q4, .inl (k4, 401, .inl (fun _ => 0))), (q5, .inl (k5, 401, .inl (fun _ => 0))), (q6, .inl (k6, 401, .inl (fun _ => 0))), (q7, .inl (k7, 401, .inr (.inl (fun _ => 0))))]) H := hP
  have hD : va_D A ([(h0, .inr (3, [.int 0, .int 0, .int 0, .ref q1, .ref q2, .ref q3, .ref q4, .ref q5, .ref q6, .ref q7, .null, .null, .null, .null, .null, .null, .null, .long 0, .int 0, .null, .int 0])), (q1, .inl (k1, 401, .inr (.inl (fun _ => 0)))), (q2, .inl (k2, 401, .inr (.inl (fun _ => 0)))), (q3, .inl (k3, 401, .inl (fun _ => 0))), (q4, .inl (k4, 401, .inl (fun _ => 0))), (q5, .inl (k5, 401, .inl (fun _ => 0))), (q6, .inl (k6, 401, .inl (fun _ => 0))), (q7, .inl (k7, 401, .inr (.inl (fun _ => 0))))]) := hD
  refine lv_aload_n hx hb d_M_init_67 rfl (lv_at hl 0 rfl) ?_
  refine lv_bipush (v := 13) hx hb d_M_init_68 (by decide) ?_
  refine va_newa (atype := .boolean) hx hb (hts _ kw_302) (ty := .boolean) rfl hK hP hD hS hA (n := 13) (N' := 13) (a0 := (13, .inl (fun _ => 0))) (fun _ => rfl) (by decide) (by decide) (by decide) (by decide) (by decide) d_M_init_70 (fun q8 k8 H hK hP hD hS => ?_)
  have hK : va_K D gt_cl [(k1, .long), (k2, .long), (k3, .int), (k4, .int), (k5, .int), (k6, .int), (k7, .long), (k8, .boolean)] s := hK
  have hP : va_P D gt_cl ([(h0, .inr (3, [.int 0, .int 0, .int 0, .ref q1, .ref q2, .ref q3, .ref q4, .ref q5, .ref q6, .ref q7, .null, .null, .null, .null, .null, .null, .null, .long 0, .int 0, .null, .int 0])), (q1, .inl (k1, 401, .inr (.inl (fun _ => 0)))), (q2, .inl (k2, 401, .inr (.inl (fun _ => 0)))), (q3, .inl (k3, 401, .inl (fun _ => 0))), (q4, .inl (k4, 401, .inl (fun _ => 0))), (q5, .inl (k5, 401, .inl (fun _ => 0))), (q6, .inl (k6, 401, .inl (fun _ => 0))), (q7, .inl (k7, 401, .inr (.inl (fun _ => 0)))), (q8, .inl (k8, 13, .inl (fun _ => 0)))]) H := hP
  have hD : va_D A ([(h0, .inr (3, [.int 0, .int 0, .int 0, .ref q1, .ref q2, .ref q3, .ref q4, .ref q5, .ref q6, .ref q7, .null, .null, .null, .null, .null, .null, .null, .long 0, .int 0, .null, .int 0])), (q1, .inl (k1, 401, .inr (.inl (fun _ => 0)))), (q2, .inl (k2, 401, .inr (.inl (fun _ => 0)))), (q3, .inl (k3, 401, .inl (fun _ => 0))), (q4, .inl (k4, 401, .inl (fun _ => 0))), (q5, .inl (k5, 401, .inl (fun _ => 0))), (q6, .inl (k6, 401, .inl (fun _ => 0))), (q7, .inl (k7, 401, .inr (.inl (fun _ => 0)))), (q8, .inl (k8, 13, .inl (fun _ => 0)))]) := hD
  refine va_putF (D := D) (ci := 3) (v := .ref q8) (ty := .array .boolean) (C := R_M) (T := F_M) (N := 21) hx hb hts i_M t_M t_M_ok n_M hown hK hP hD hS 0 rfl rfl 10 (by decide) (hts _ kw_248) (fun _ h9 => h9) rfl hin rfl (by decide +kernel) rfl rfl (Nat.le_of_ble_eq_true rfl) d_M_init_72 (fun H locs hP hD hS => ?_)
  have hP : va_P D gt_cl ([(h0, .inr (3, [.int 0, .int 0, .int 0, .ref q1, .ref q2, .ref q3, .ref q4, .ref q5, .ref q6, .ref q7, .ref q8, .null, .null, .null, .null, .null, .null, .long 0, .int 0, .null, .int 0])), (q1, .inl (k1, 401, .inr (.inl (fun _ => 0)))), (q2, .inl (k2, 401, .inr (.inl (fun _ => 0)))), (q3, .inl (k3, 401, .inl (fun _ => 0))), (q4, .inl (k4, 401, .inl (fun _ => 0))), (q5, .inl (k5, 401, .inl (fun _ => 0))), (q6, .inl (k6, 401, .inl (fun _ => 0))), (q7, .inl (k7, 401, .inr (.inl (fun _ => 0)))), (q8, .inl (k8, 13, .inl (fun _ => 0)))]) H := hP
  have hD : va_D A ([(h0, .inr (3, [.int 0, .int 0, .int 0, .ref q1, .ref q2, .ref q3, .ref q4, .ref q5, .ref q6, .ref q7, .ref q8, .null, .null, .null, .null, .null, .null, .long 0, .int 0, .null, .int 0])), (q1, .inl (k1, 401, .inr (.inl (fun _ => 0)))), (q2, .inl (k2, 401, .inr (.inl (fun _ => 0)))), (q3, .inl (k3, 401, .inl (fun _ => 0))), (q4, .inl (k4, 401, .inl (fun _ => 0))), (q5, .inl (k5, 401, .inl (fun _ => 0))), (q6, .inl (k6, 401, .inl (fun _ => 0))), (q7, .inl (k7, 401, .inr (.inl (fun _ => 0)))), (q8, .inl (k8, 13, .inl (fun _ => 0)))]) := hD
  refine lv_aload_n hx hb d_M_init_75 rfl (lv_at hl 0 rfl) ?_
  refine lv_bipush (v := 13) hx hb d_M_init_76 (by decide) ?_
  refine va_newa (atype := .boolean) hx hb (hts _ kw_302) (ty := .boolean) rfl hK hP hD hS hA (n := 13) (N' := 13) (a0 := (13, .inl (fun _ => 0))) (fun _ => rfl) (by decide) (by decide) (by decide) (by decide) (by decide) d_M_init_78 (fun q9 k9 H hK hP hD hS => ?_)
  have hK : va_K D gt_cl [(k1, .long), (k2, .long), (k3, .int), (k4, .int), (k5, .int), (k6, .int), (k7, .long), (k8, .boolean), (k9, .boolean)] s := hK
  have hP : va_P D gt_cl ([(h0, .inr (3, [.int 0, .int 0, .int 0, .ref q1, .ref q2, .ref q3, .ref q4, .ref q5, .ref q6, .ref q7, .ref q8, .null, .null, .null, .null, .null, .null, .long 0, .int 0, .null, .int 0])), (q1, .inl (k1, 401, .inr (.inl (fun _ => 0)))), (q2, .inl (k2, 401, .inr (.inl (fun _ => 0)))), (q3, .inl (k3, 401, .inl (fun _ => 0))), (q4, .inl (k4, 401, .inl (fun _ => 0))), (q5, .inl (k5, 401, .inl (fun _ => 0))), (q6, .inl (k6, 401, .inl (fun _ => 0))), (q7, .inl (k7, 401, .inr (.inl (fun _ => 0)))), (q8, .inl (k8, 13, .inl (fun _ => 0))), (q9, .inl (k9, 13, .inl (fun _ => 0)))]) H := hP
  have hD : va_D A ([(h0, .inr (3, [.int 0, .int 0, .int 0, .ref q1, .ref q2, .ref q3, .ref q4, .ref q5, .ref q6, .ref q7, .ref q8, .null, .null, .null, .null, .null, .null, .long 0, .int 0, .null, .int 0])), (q1, .inl (k1, 401, .inr (.inl (fun _ => 0)))), (q2, .inl (k2, 401, .inr (.inl (fun _ => 0)))), (q3, .inl (k3, 401, .inl (fun _ => 0))), (q4, .inl (k4, 401, .inl (fun _ => 0))), (q5, .inl (k5, 401, .inl (fun _ => 0))), (q6, .inl (k6, 401, .inl (fun _ => 0))), (q7, .inl (k7, 401, .inr (.inl (fun _ => 0)))), (q8, .inl (k8, 13, .inl (fun _ => 0))), (q9, .inl (k9, 13, .inl (fun _ => 0)))]) := hD
  refine va_putF (D := D) (ci := 3) (v := .ref q9) (ty := .array .boolean) (C := R_M) (T := F_M) (N := 21) hx hb hts i_M t_M t_M_ok n_M hown hK hP hD hS 0 rfl rfl 11 (by decide) (hts _ kw_249) (fun _ h9 => h9) rfl hin rfl (by decide +kernel) rfl rfl (Nat.le_of_ble_eq_true rfl) d_M_init_80 (fun H locs hP hD hS => ?_)
  have hP : va_P D gt_cl ([(h0, .inr (3, [.int 0, .int 0, .int 0, .ref q1, .ref q2, .ref q3, .ref q4, .ref q5, .ref q6, .ref q7, .ref q8, .ref q9, .null, .null, .null, .null, .null, .long 0, .int 0, .null, .int 0])), (q1, .inl (k1, 401, .inr (.inl (fun _ => 0)))), (q2, .inl (k2, 401, .inr (.inl (fun _ => 0)))), (q3, .inl (k3, 401, .inl (fun _ => 0))), (q4, .inl (k4, 401, .inl (fun _ => 0))), (q5, .inl (k5, 401, .inl (fun _ => 0))), (q6, .inl (k6, 401, .inl (fun _ => 0))), (q7, .inl (k7, 401, .inr (.inl (fun _ => 0)))), (q8, .inl (k8, 13, .inl (fun _ => 0))), (q9, .inl (k9, 13, .inl (fun _ => 0)))]) H := hP
  have hD : va_D A ([(h0, .inr (3, [.int 0, .int 0, .int 0, .ref q1, .ref q2, .ref q3, .ref q4, .ref q5, .ref q6, .ref q7, .ref q8, .ref q9, .null, .null, .null, .null, .null, .long 0, .int 0, .null, .int 0])), (q1, .inl (k1, 401, .inr (.inl (fun _ => 0)))), (q2, .inl (k2, 401, .inr (.inl (fun _ => 0)))), (q3, .inl (k3, 401, .inl (fun _ => 0))), (q4, .inl (k4, 401, .inl (fun _ => 0))), (q5, .inl (k5, 401, .inl (fun _ => 0))), (q6, .inl (k6, 401, .inl (fun _ => 0))), (q7, .inl (k7, 401, .inr (.inl (fun _ => 0)))), (q8, .inl (k8, 13, .inl (fun _ => 0))), (q9, .inl (k9, 13, .inl (fun _ => 0)))]) := hD
  refine lv_aload_n hx hb d_M_init_83 rfl (lv_at hl 0 rfl) ?_
  refine lv_bipush (v := 13) hx hb d_M_init_84 (by decide) ?_
  refine va_newa (atype := .boolean) hx hb (hts _ kw_302) (ty := .boolean) rfl hK hP hD hS hA (n := 13) (N' := 13) (a0 := (13, .inl (fun _ => 0))) (fun _ => rfl) (by decide) (by decide) (by decide) (by decide) (by decide) d_M_init_86 (fun q10 k10 H hK hP hD hS => ?_)
  have hK : va_K D gt_cl [(k1, .long), (k2, .long), (k3, .int), (k4, .int), (k5, .int), (k6, .int), (k7, .long), (k8, .boolean), (k9, .boolean), (k10, .boolean)] s := hK
  have hP : va_P D gt_cl ([(h0, .inr (3, [.int 0, .int 0, .int 0, .ref q1, .ref q2, .ref q3, .ref q4, .ref q5, .ref q6, .ref q7, .ref q8, .ref q9, .null, .null, .null, .null, .null, .long 0, .int 0, .null, .int 0])), (q1, .inl (k1, 401, .inr (.inl (fun _ => 0)))), (q2, .inl (k2, 401, .inr (.inl (fun _ => 0)))), (q3, .inl (k3, 401, .inl (fun _ => 0))), (q4, .inl (k4, 401, .inl (fun _ => 0))), (q5, .inl (k5, 401, .inl (fun _ => 0))), (q6, .inl (k6, 401, .inl (fun _ => 0))), (q7, .inl (k7, 401, .inr (.inl (fun _ => 0)))), (q8, .inl (k8, 13, .inl (fun _ => 0))), (q9, .inl (k9, 13, .inl (fun _ => 0))), (q10, .inl (k10, 13, .inl (fun _ => 0)))]) H := hP
  have hD : va_D A ([(h0, .inr (3, [.int 0, .int 0, .int 0, .ref q1, .ref q2, .ref q3, .ref q4, .ref q5, .ref q6, .ref q7, .ref q8, .ref q9, .null, .null, .null, .null, .null, .long 0, .int 0, .null, .int 0])), (q1, .inl (k1, 401, .inr (.inl (fun _ => 0)))), (q2, .inl (k2, 401, .inr (.inl (fun _ => 0)))), (q3, .inl (k3, 401, .inl (fun _ => 0))), (q4, .inl (k4, 401, .inl (fun _ => 0))), (q5, .inl (k5, 401, .inl (fun _ => 0))), (q6, .inl (k6, 401, .inl (fun _ => 0))), (q7, .inl (k7, 401, .inr (.inl (fun _ => 0)))), (q8, .inl (k8, 13, .inl (fun _ => 0))), (q9, .inl (k9, 13, .inl (fun _ => 0))), (q10, .inl (k10, 13, .inl (fun _ => 0)))]) := hD
  refine va_putF (D := D) (ci := 3) (v := .ref q10) (ty := .array .boolean) (C := R_M) (T := F_M) (N := 21) hx hb hts i_M t_M t_M_ok n_M hown hK hP hD hS 0 rfl rfl 12 (by decide) (hts _ kw_250) (fun _ h9 => h9) rfl hin rfl (by decide +kernel) rfl rfl (Nat.le_of_ble_eq_true rfl) d_M_init_88 (fun H locs hP hD hS => ?_)
  have hP : va_P D gt_cl ([(h0, .inr (3, [.int 0, .int 0, .int 0, .ref q1, .ref q2, .ref q3, .ref q4, .ref q5, .ref q6, .ref q7, .ref q8, .ref q9, .ref q10, .null, .null, .null, .null, .long 0, .int 0, .null, .int 0])), (q1, .inl (k1, 401, .inr (.inl (fun _ => 0)))), (q2, .inl (k2, 401, .inr (.inl (fun _ => 0)))), (q3, .inl (k3, 401, .inl (fun _ => 0))), (q4, .inl (k4, 401, .inl (fun _ => 0))), (q5, .inl (k5, 401, .inl (fun _ => 0))), (q6, .inl (k6, 401, .inl (fun _ => 0))), (q7, .inl (k7, 401, .inr (.inl (fun _ => 0)))), (q8, .inl (k8, 13, .inl (fun _ => 0))), (q9, .inl (k9, 13, .inl (fun _ => 0))), (q10, .inl (k10, 13, .inl (fun _ => 0)))]) H := hP
  have hD : va_D A ([(h0, .inr (3, [.int 0, .int 0, .int 0, .ref q1, .ref q2, .ref q3, .ref q4, .ref q5, .ref q6, .ref q7, .ref q8, .ref q9, .ref q10, .null, .null, .null, .null, .long 0, .int 0, .null, .int 0])), (q1, .inl (k1, 401, .inr (.inl (fun _ => 0)))), (q2, .inl (k2, 401, .inr (.inl (fun _ => 0)))), (q3, .inl (k3, 401, .inl (fun _ => 0))), (q4, .inl (k4, 401, .inl (fun _ => 0))), (q5, .inl (k5, 401, .inl (fun _ => 0))), (q6, .inl (k6, 401, .inl (fun _ => 0))), (q7, .inl (k7, 401, .inr (.inl (fun _ => 0)))), (q8, .inl (k8, 13, .inl (fun _ => 0))), (q9, .inl (k9, 13, .inl (fun _ => 0))), (q10, .inl (k10, 13, .inl (fun _ => 0)))]) := hD
  refine lv_aload_n hx hb d_M_init_91 rfl (lv_at hl 0 rfl) ?_
  refine lv_bipush (v := 13) hx hb d_M_init_92 (by decide) ?_
  refine va_newa (atype := .long) hx hb (hts _ kw_56) (ty := .long) rfl hK hP hD hS hA (n := 13) (N' := 13) (a0 := (13, .inr (.inl (fun _ => 0)))) (fun _ => rfl) (by decide) (by decide) (by decide) (by decide) (by decide) d_M_init_94 (fun q11 k11 H hK hP hD hS => ?_)
  have hK : va_K D gt_cl [(k1, .long), (k2, .long), (k3, .int), (k4, .int), (k5, .int), (k6, .int), (k7, .long), (k8, .boolean), (k9, .boolean), (k10, .boolean), (k11, .long)] s := hK
  have hP : va_P D gt_cl ([(h0, .inr (3, [.int 0, .int 0, .int 0, .ref q1, .ref q2, .ref q3, .ref q4, .ref q5, .ref q6, .ref q7, .ref q8, .ref q9, .ref q10, .null, .null, .null, .null, .long 0, .int 0, .null, .int 0])), (q1, .inl (k1, 401, .inr (.inl (fun _ => 0)))), (q2, .inl (k2, 401, .inr (.inl (fun _ => 0)))), (q3, .inl (k3, 401, .inl (fun _ => 0))), (q4, .inl (k4, 401, .inl (fun _ => 0))), (q5, .inl (k5, 401, .inl (fun _ => 0))), (q6, .inl (k6, 401, .inl (fun _ => 0))), (q7, .inl (k7, 401, .inr (.inl (fun _ => 0)))), (q8, .inl (k8, 13, .inl (fun _ => 0))), (q9, .inl (k9, 13, .inl (fun _ => 0))), (q10, .inl (k10, 13, .inl (fun _ => 0))), (q11, .inl (k11, 13, .inr (.inl (fun _ => 0))))]) H := hP
  have hD : va_D A ([(h0, .inr (3, [.int 0, .int 0, .int 0, .ref q1, .ref q2, .ref q3, .ref q4, .ref q5, .ref q6, .ref q7, .ref q8, .ref q9, .ref q10, .null, .null, .null, .null, .long 0, .int 0, .null, .int 0])), (q1, .inl (k1, 401, .inr (.inl (fun _ => 0)))), (q2, .inl (k2, 401, .inr (.inl (fun _ => 0)))), (q3, .inl (k3, 401, .inl (fun _ => 0))), (q4, .inl (k4, 401, .inl (fun _ => 0))), (q5, .inl (k5, 401, .inl (fun _ => 0))), (q6, .inl (k6, 401, .inl (fun _ => 0))), (q7, .inl (k7, 401, .inr (.inl (fun _ => 0)))), (q8, .inl (k8, 13, .inl (fun _ => 0))), (q9, .inl (k9, 13, .inl (fun _ => 0))), (q10, .inl (k10, 13, .inl (fun _ => 0))), (q11, .inl (k11, 13, .inr (.inl (fun _ => 0))))]) := hD
  refine va_putF (D := D) (ci := 3) (v := .ref q11) (ty := .array .long) (C := R_M) (T := F_M) (N := 21) hx hb hts i_M t_M t_M_ok n_M hown hK hP hD hS 0 rfl rfl 13 (by decide) (hts _ kw_251) (fun _ h9 => h9) rfl hin rfl (by decide +kernel) rfl rfl (Nat.le_of_ble_eq_true rfl) d_M_init_96 (fun H locs hP hD hS => ?_)
  have hP : va_P D gt_cl ([(h0, .inr (3, [.int 0, .int 0, .int 0, .ref q1, .ref q2, .ref q3, .ref q4, .ref q5, .ref q6, .ref q7, .ref q8, .ref q9, .ref q10, .ref q11, .null, .null, .null, .long 0, .int 0, .null, .int 0])), (q1, .inl (k1, 401, .inr (.inl (fun _ => 0)))), (q2, .inl (k2, 401, .inr (.inl (fun _ => 0)))), (q3, .inl (k3, 401, .inl (fun _ => 0))), (q4, .inl (k4, 401, .inl (fun _ => 0))), (q5, .inl (k5, 401, .inl (fun _ => 0))), (q6, .inl (k6, 401, .inl (fun _ => 0))), (q7, .inl (k7, 401, .inr (.inl (fun _ => 0)))), (q8, .inl (k8, 13, .inl (fun _ => 0))), (q9, .inl (k9, 13, .inl (fun _ => 0))), (q10, .inl (k10, 13, .inl (fun _ => 0))), (q11, .inl (k11, 13, .inr (.inl (fun _ => 0))))]) H := hP
  have hD : va_D A ([(h0, .inr (3, [.int 0, .int 0, .int 0, .ref q1, .ref q2, .ref q3, .ref q4, .ref q5, .ref q6, .ref q7, .ref q8, .ref q9, .ref q10, .ref q11, .null, .null, .null, .long 0, .int 0, .null, .int 0])), (q1, .inl (k1, 401, .inr (.inl (fun _ => 0)))), (q2, .inl (k2, 401, .inr (.inl (fun _ => 0)))), (q3, .inl (k3, 401, .inl (fun _ => 0))), (q4, .inl (k4, 401, .inl (fun _ => 0))), (q5, .inl (k5, 401, .inl (fun _ => 0))), (q6, .inl (k6, 401, .inl (fun _ => 0))), (q7, .inl (k7, 401, .inr (.inl (fun _ => 0)))), (q8, .inl (k8, 13, .inl (fun _ => 0))), (q9, .inl (k9, 13, .inl (fun _ => 0))), (q10, .inl (k10, 13, .inl (fun _ => 0))), (q11, .inl (k11, 13, .inr (.inl (fun _ => 0))))]) := hD
  refine lv_aload_n hx hb d_M_init_99 rfl (lv_at hl 0 rfl) ?_
  refine lv_bipush (v := 13) hx hb d_M_init_100 (by decide) ?_
  refine va_newa (atype := .int) hx hb (hts _ kw_55) (ty := .int) rfl hK hP hD hS hA (n := 13) (N' := 13) (a0 := (13, .inl (fun _ => 0))) (fun _ => rfl) (by decide) (by decide) (by decide) (by decide) (by decide) d_M_init_102 (fun q12 k12 H hK hP hD hS => ?_)
  have hK : va_K D gt_cl [(k1, .long), (k2, .long), (k3, .int), (k4, .int), (k5, .int), (k6, .int), (k7, .long), (k8, .boolean), (k9, .boolean), (k10, .boolean), (k11, .long), (k12, .int)] s := hK
  have hP : va_P D gt_cl ([(h0, .inr (3, [.int 0, .int 0, .int 0, .ref q1, .ref q2, .ref q3, .ref q4, .ref q5, .ref q6, .ref q7, .ref q8, .ref q9, .ref q10, .ref q11, .null, .null, .null, .long 0, .int 0, .null, .int 0])), (q1, .inl (k1, 401, .inr (.inl (fun _ => 0)))), (q2, .inl (k2, 401, .inr (.inl (fun _ => 0)))), (q3, .inl (k3, 401, .inl (fun _ => 0))), (q4, .inl (k4, 401, .inl (fun _ => 0))), (q5, .inl (k5, 401, .inl (fun _ => 0))), (q6, .inl (k6, 401, .inl (fun _ => 0))), (q7, .inl (k7, 401, .inr (.inl (fun _ => 0)))), (q8, .inl (k8, 13, .inl (fun _ => 0))), (q9, .inl (k9, 13, .inl (fun _ => 0))), (q10, .inl (k10, 13, .inl (fun _ => 0))), (q11, .inl (k11, 13, .inr (.inl (fun _ => 0)))), (q12, .inl (k12, 13, .inl (fun _ => 0)))]) H := hP
  have hD : va_D A ([(h0, .inr (3, [.int 0, .int 0, .int 0, .ref q1, .ref q2, .ref q3, .ref q4, .ref q5, .ref q6, .ref q7, .ref q8, .ref q9, .ref q10, .ref q11, .null, .null, .null, .long 0, .int 0, .null, .int 0])), (q1, .inl (k1, 401, .inr (.inl (fun _ => 0)))), (q2, .inl (k2, 401, .inr (.inl (fun _ => 0)))), (q3, .inl (k3, 401, .inl (fun _ => 0))), (q4, .inl (k4, 401, .inl (fun _ => 0))), (q5, .inl (k5, 401, .inl (fun _ => 0))), (q6, .inl (k6, 401, .inl (fun _ => 0))), (q7, .inl (k7, 401, .inr (.inl (fun _ => 0)))), (q8, .inl (k8, 13, .inl (fun _ => 0))), (q9, .inl (k9, 13, .inl (fun _ => 0))), (q10, .inl (k10, 13, .inl (fun _ => 0))), (q11, .inl (k11, 13, .inr (.inl (fun _ => 0)))), (q12, .inl (k12, 13, .inl (fun _ => 0)))]) := hD
  refine va_putF (D := D) (ci := 3) (v := .ref q12) (ty := .array .int) (C := R_M) (T := F_M) (N := 21) hx hb hts i_M t_M t_M_ok n_M hown hK hP hD hS 0 rfl rfl 14 (by decide) (hts _ kw_252) (fun _ h9 => h9) rfl hin rfl (by decide +kernel) rfl rfl (Nat.le_of_ble_eq_true rfl) d_M_init_104 (fun H locs hP hD hS => ?_)
  have hP : va_P D gt_cl ([(h0, .inr (3, [.int 0, .int 0, .int 0, .ref q1, .ref q2, .ref q3, .ref q4, .ref q5, .ref q6, .ref q7, .ref q8, .ref q9, .ref q10, .ref q11, .ref q12, .null, .null, .long 0, .int 0, .null, .int 0])), (q1, .inl (k1, 401, .inr (.inl (fun _ => 0)))), (q2, .inl (k2, 401, .inr (.inl (fun _ => 0)))), (q3, .inl (k3, 401, .inl (fun _ => 0))), (q4, .inl (k4, 401, .inl (fun _ => 0))), (q5, .inl (k5, 401, .inl (fun _ => 0))), (q6, .inl (k6, 401, .inl (fun _ => 0))), (q7, .inl (k7, 401, .inr (.inl (fun _ => 0)))), (q8, .inl (k8, 13, .inl (fun _ => 0))), (q9, .inl (k9, 13, .inl (fun _ => 0))), (q10, .inl (k10, 13, .inl (fun _ => 0))), (q11, .inl (k11, 13, .inr (.inl (fun _ => 0)))), (q12, .inl (k12, 13, .inl (fun _ => 0)))]) H := hP
  have hD : va_D A ([(h0, .inr (3, [.int 0, .int 0, .int 0, .ref q1, .ref q2, .ref q3, .ref q4, .ref q5, .ref q6, .ref q7, .ref q8, .ref q9, .ref q10, .ref q11, .ref q12, .null, .null, .long 0, .int 0, .null, .int 0])), (q1, .inl (k1, 401, .inr (.inl (fun _ => 0)))), (q2, .inl (k2, 401, .inr (.inl (fun _ => 0)))), (q3, .inl (k3, 401, .inl (fun _ => 0))), (q4, .inl (k4, 401, .inl (fun _ => 0))), (q5, .inl (k5, 401, .inl (fun _ => 0))), (q6, .inl (k6, 401, .inl (fun _ => 0))), (q7, .inl (k7, 401, .inr (.inl (fun _ => 0)))), (q8, .inl (k8, 13, .inl (fun _ => 0))), (q9, .inl (k9, 13, .inl (fun _ => 0))), (q10, .inl (k10, 13, .inl (fun _ => 0))), (q11, .inl (k11, 13, .inr (.inl (fun _ => 0)))), (q12, .inl (k12, 13, .inl (fun _ => 0)))]) := hD
  refine lv_aload_n hx hb d_M_init_107 rfl (lv_at hl 0 rfl) ?_
  refine lv_bipush (v := 13) hx hb d_M_init_108 (by decide) ?_
  refine va_newa (atype := .int) hx hb (hts _ kw_55) (ty := .int) rfl hK hP hD hS hA (n := 13) (N' := 13) (a0 := (13, .inl (fun _ => 0))) (fun _ => rfl) (by decide) (by decide) (by decide) (by decide) (by decide) d_M_init_110 (fun q13 k13 H hK hP hD hS => ?_)
  have hK : va_K D gt_cl [(k1, .long), (k2, .long), (k3, .int), (k4, .int), (k5, .int), (k6, .int), (k7, .long), (k8, .boolean), (k9, .boolean), (k10, .boolean), (k11, .long), (k12, .int), (k13, .int)] s := hK
  have hP : va_P D gt_cl ([(h0, .inr (3, [.int 0, .int 0, .int 0, .ref q1, .ref q2, .ref q3, .ref q4, .ref q5, .ref q6, .ref q7, .ref q8, .ref q9, .ref q10, .ref q11, .ref q12, .null, .null, .long 0, .int 0, .null, .int 0])), (q1, .inl (k1, 401, .inr (.inl (fun _ => 0)))), (q2, .inl (k2, 401, .inr (.inl (fun _ => 0)))), (q3, .inl (k3, 401, .inl (fun _ => 0))), (q4, .inl (k4, 401, .inl (fun _ => 0))), (q5, .inl (k5, 401, .inl (fun _ => 0))), (q6, .inl (k6, 401, .inl (fun _ => 0))), (q7, .inl (k7, 401, .inr (.inl (fun _ => 0)))), (q8, .inl (k8, 13, .inl (fun _ => 0))), (q9, .inl (k9, 13, .inl (fun _ => 0))), (q10, .inl (k10, 13, .inl (fun _ => 0))), (q11, .inl (k11, 13, .inr (.inl (fun _ => 0)))), (q12, .inl (k12, 13, .inl (fun _ => 0))), (q13, .inl (k13, 13, .inl (fun _ => 0)))]) H := hP
  have hD : va_D A ([(h0, .inr (3, [.int 0, .int 0, .int 0, .ref q1, .ref q2, .ref q3, .ref q4, .ref q5, .ref q6, .ref q7, .ref q8, .ref q9, .ref q10, .ref q11, .ref q12, .null, .null, .long 0, .int 0, .null, .int 0])), (q1, .inl (k1, 401, .inr (.inl (fun _ => 0)))), (q2, .inl (k2, 401, .inr (.inl (fun _ => 0)))), (q3, .inl (k3, 401, .inl (fun _ => 0))), (q4, .inl (k4, 401, .inl (fun _ => 0))), (q5, .inl (k5, 401, .inl (fun _ => 0))), (q6, .inl (k6, 401, .inl (fun _ => 0))), (q7, .inl (k7, 401, .inr (.inl (fun _ => 0)))), (q8, .inl (k8, 13, .inl (fun _ => 0))), (q9, .inl (k9, 13, .inl (fun _ => 0))), (q10, .inl (k10, 13, .inl (fun _ => 0))), (q11, .inl (k11, 13, .inr (.inl (fun _ => 0)))), (q12, .inl (k12, 13, .inl (fun _ => 0))), (q13, .inl (k13, 13, .inl (fun _ => 0)))]) := hD
  refine va_putF (D := D) (ci := 3) (v := .ref q13) (ty := .array .int) (C := R_M) (T := F_M) (N := 21) hx hb hts i_M t_M t_M_ok n_M hown hK hP hD hS 0 rfl rfl 15 (by decide) (hts _ kw_253) (fun _ h9 => h9) rfl hin rfl (by decide +kernel) rfl rfl (Nat.le_of_ble_eq_true rfl) d_M_init_112 (fun H locs hP hD hS => ?_)
  have hP : va_P D gt_cl ([(h0, .inr (3, [.int 0, .int 0, .int 0, .ref q1, .ref q2, .ref q3, .ref q4, .ref q5, .ref q6, .ref q7, .ref q8, .ref q9, .ref q10, .ref q11, .ref q12, .ref q13, .null, .long 0, .int 0, .null, .int 0])), (q1, .inl (k1, 401, .inr (.inl (fun _ => 0)))), (q2, .inl (k2, 401, .inr (.inl (fun _ => 0)))), (q3, .inl (k3, 401, .inl (fun _ => 0))), (q4, .inl (k4, 401, .inl (fun _ => 0))), (q5, .inl (k5, 401, .inl (fun _ => 0))), (q6, .inl (k6, 401, .inl (fun _ => 0))), (q7, .inl (k7, 401, .inr (.inl (fun _ => 0)))), (q8, .inl (k8, 13, .inl (fun _ => 0))), (q9, .inl (k9, 13, .inl (fun _ => 0))), (q10, .inl (k10, 13, .inl (fun _ => 0))), (q11, .inl (k11, 13, .inr (.inl (fun _ => 0)))), (q12, .inl (k12, 13, .inl (fun _ => 0))), (q13, .inl (k13, 13, .inl (fun _ => 0)))]) H := hP
  have hD : va_D A ([(h0, .inr (3, [.int 0, .int 0, .int 0, .ref q1, .ref q2, .ref q3, .ref q4, .ref q5, .ref q6, .ref q7, .ref q8, .ref q9, .ref q10, .ref q11, .ref q12, .ref q13, .null, .long 0, .int 0, .null, .int 0])), (q1, .inl (k1, 401, .inr (.inl (fun _ => 0)))), (q2, .inl (k2, 401, .inr (.inl (fun _ => 0)))), (q3, .inl (k3, 401, .inl (fun _ => 0))), (q4, .inl (k4, 401, .inl (fun _ => 0))), (q5, .inl (k5, 401, .inl (fun _ => 0))), (q6, .inl (k6, 401, .inl (fun _ => 0))), (q7, .inl (k7, 401, .inr (.inl (fun _ => 0)))), (q8, .inl (k8, 13, .inl (fun _ => 0))), (q9, .inl (k9, 13, .inl (fun _ => 0))), (q10, .inl (k10, 13, .inl (fun _ => 0))), (q11, .inl (k11, 13, .inr (.inl (fun _ => 0)))), (q12, .inl (k12, 13, .inl (fun _ => 0))), (q13, .inl (k13, 13, .inl (fun _ => 0)))]) := hD
  refine lv_aload_n hx hb d_M_init_115 rfl (lv_at hl 0 rfl) ?_
  refine lv_bipush (v := 13) hx hb d_M_init_116 (by decide) ?_
  refine va_newa (atype := .int) hx hb (hts _ kw_55) (ty := .int) rfl hK hP hD hS hA (n := 13) (N' := 13) (a0 := (13, .inl (fun _ => 0))) (fun _ => rfl) (by decide) (by decide) (by decide) (by decide) (by decide) d_M_init_118 (fun q14 k14 H hK hP hD hS => ?_)
  have hK : va_K D gt_cl [(k1, .long), (k2, .long), (k3, .int), (k4, .int), (k5, .int), (k6, .int), (k7, .long), (k8, .boolean), (k9, .boolean), (k10, .boolean), (k11, .long), (k12, .int), (k13, .int), (k14, .int)] s := hK
  have hP : va_P D gt_cl ([(h0, .inr (3, [.int 0, .int 0, .int 0, .ref q1, .ref q2, .ref q3, .ref q4, .ref q5, .ref q6, .ref q7, .ref q8, .ref q9, .ref q10, .ref q11, .ref q12, .ref q13, .null, .long 0, .int 0, .null, .int 0])), (q1, .inl (k1, 401, .inr (.inl (fun _ => 0)))), (q2, .inl (k2, 401, .inr (.inl (fun _ => 0)))), (q3, .inl (k3, 401, .inl (fun _ => 0))), (q4, .inl (k4, 401, .inl (fun _ => 0))), (q5, .inl (k5, 401, .inl (fun _ => 0))), (q6, .inl (k6, 401, .inl (fun _ => 0))), (q7, .inl (k7, 401, .inr (.inl (fun _ => 0)))), (q8, .inl (k8, 13, .inl (fun _ => 0))), (q9, .inl (k9, 13, .inl (fun _ => 0))), (q10, .inl (k10, 13, .inl (fun _ => 0))), (q11, .inl (k11, 13, .inr (.inl (fun _ => 0)))), (q12, .inl (k12, 13, .inl (fun _ => 0))), (q13, .inl (k13, 13, .inl (fun _ => 0))), (q14, .inl (k14, 13, .inl (fun _ => 0)))]) H := hP
  have hD : va_D A ([(h0, .inr (3, [.int 0, .int 0, .int 0, .ref q1, .ref q2, .ref q3, .ref q4, .ref q5, .ref q6, .ref q7, .ref q8, .ref q9, .ref q10, .ref q11, .ref q12, .ref q13, .null, .long 0, .int 0, .null, .int 0])), (q1, .inl (k1, 401, .inr (.inl (fun _ => 0)))), (q2, .inl (k2, 401, .inr (.inl (fun _ => 0)))), (q3, .inl (k3, 401, .inl (fun _ => 0))), (q4, .inl (k4, 401, .inl (fun _ => 0))), (q5, .inl (k5, 401, .inl (fun _ => 0))), (q6, .inl (k6, 401, .inl (fun _ => 0))), (q7, .inl (k7, 401, .inr (.inl (fun _ => 0)))), (q8, .inl (k8, 13, .inl (fun _ => 0))), (q9, .inl (k9, 13, .inl (fun _ => 0))), (q10, .inl (k10, 13, .inl (fun _ => 0))), (q11, .inl (k11, 13, .inr (.inl (fun _ => 0)))), (q12, .inl (k12, 13, .inl (fun _ => 0))), (q13, .inl (k13, 13, .inl (fun _ => 0))), (q14, .inl (k14, 13, .inl (fun _ => 0)))]) := hD
  refine va_putF (D := D) (ci := 3) (v := .ref q14) (ty := .array .int) (C := R_M) (T := F_M) (N := 21) hx hb hts i_M t_M t_M_ok n_M hown hK hP hD hS 0 rfl rfl 16 (by decide) (hts _ kw_254) (fun _ h9 => h9) rfl hin rfl (by decide +kernel) rfl rfl (Nat.le_of_ble_eq_true rfl) d_M_init_120 (fun H locs hP hD hS => ?_)
  have hP : va_P D gt_cl ([(h0, .inr (3, [.int 0, .int 0, .int 0, .ref q1, .ref q2, .ref q3, .ref q4, .ref q5, .ref q6, .ref q7, .ref q8, .ref q9, .ref q10, .ref q11, .ref q12, .ref q13, .ref q14, .long 0, .int 0, .null, .int 0])), (q1, .inl (k1, 401, .inr (.inl (fun _ => 0)))), (q2, .inl (k2, 401, .inr (.inl (fun _ => 0)))), (q3, .inl (k3, 401, .inl (fun _ => 0))), (q4, .inl (k4, 401, .inl (fun _ => 0))), (q5, .inl (k5, 401, .inl (fun _ => 0))), (q6, .inl (k6, 401, .inl (fun _ => 0))), (q7, .inl (k7, 401, .inr (.inl (fun _ => 0)))), (q8, .inl (k8, 13, .inl (fun _ => 0))), (q9, .inl (k9, 13, .inl (fun _ => 0))), (q10, .inl (k10, 13, .inl (fun _ => 0))), (q11, .inl (k11, 13, .inr (.inl (fun _ => 0)))), (q12, .inl (k12, 13, .inl (fun _ => 0))), (q13, .inl (k13, 13, .inl (fun _ => 0))), (q14, .inl (k14, 13, .inl (fun _ => 0)))]) H := hP
  have hD : va_D A ([(h0, .inr (3, [.int 0, .int 0, .int 0, .ref q1, .ref q2, .ref q3, .ref q4, .ref q5, .ref q6, .ref q7, .ref q8, .ref q9, .ref q10, .ref q11, .ref q12, .ref q13, .ref q14, .long 0, .int 0, .null, .int 0])), (q1, .inl (k1, 401, .inr (.inl (fun _ => 0)))), (q2, .inl (k2, 401, .inr (.inl (fun _ => 0)))), (q3, .inl (k3, 401, .inl (fun _ => 0))), (q4, .inl (k4, 401, .inl (fun _ => 0))), (q5, .inl (k5, 401, .inl (fun _ => 0))), (q6, .inl (k6, 401, .inl (fun _ => 0))), (q7, .inl (k7, 401, .inr (.inl (fun _ => 0)))), (q8, .inl (k8, 13, .inl (fun _ => 0))), (q9, .inl (k9, 13, .inl (fun _ => 0))), (q10, .inl (k10, 13, .inl (fun _ => 0))), (q11, .inl (k11, 13, .inr (.inl (fun _ => 0)))), (q12, .inl (k12, 13, .inl (fun _ => 0))), (q13, .inl (k13, 13, .inl (fun _ => 0))), (q14, .inl (k14, 13, .inl (fun _ => 0)))]) := hD
  refine lv_aload_n hx hb d_M_init_123 rfl (lv_at hl 0 rfl) ?_
  refine lv_sipush (v := 400) hx hb d_M_init_124 (by decide) ?_
  refine va_newa (atype := .int) hx hb (hts _ kw_55) (ty := .int) rfl hK hP hD hS hA (n := 400) (N' := 400) (a0 := (400, .inl (fun _ => 0))) (fun _ => rfl) (by decide) (by decide) (by decide) (by decide) (by decide) d_M_init_127 (fun q15 k15 H hK hP hD hS => ?_)
  have hK : va_K D gt_cl [(k1, .long), (k2, .long), (k3, .int), (k4, .int), (k5, .int), (k6, .int), (k7, .long), (k8, .boolean), (k9, .boolean), (k10, .boolean), (k11, .long), (k12, .int), (k13, .int), (k14, .int), (k15, .int)] s := hK
  have hP : va_P D gt_cl ([(h0, .inr (3, [.int 0, .int 0, .int 0, .ref q1, .ref q2, .ref q3, .ref q4, .ref q5, .ref q6, .ref q7, .ref q8, .ref q9, .ref q10, .ref q11, .ref q12, .ref q13, .ref q14, .long 0, .int 0, .null, .int 0])), (q1, .inl (k1, 401, .inr (.inl (fun _ => 0)))), (q2, .inl (k2, 401, .inr (.inl (fun _ => 0)))), (q3, .inl (k3, 401, .inl (fun _ => 0))), (q4, .inl (k4, 401, .inl (fun _ => 0))), (q5, .inl (k5, 401, .inl (fun _ => 0))), (q6, .inl (k6, 401, .inl (fun _ => 0))), (q7, .inl (k7, 401, .inr (.inl (fun _ => 0)))), (q8, .inl (k8, 13, .inl (fun _ => 0))), (q9, .inl (k9, 13, .inl (fun _ => 0))), (q10, .inl (k10, 13, .inl (fun _ => 0))), (q11, .inl (k11, 13, .inr (.inl (fun _ => 0)))), (q12, .inl (k12, 13, .inl (fun _ => 0))), (q13, .inl (k13, 13, .inl (fun _ => 0))), (q14, .inl (k14, 13, .inl (fun _ => 0))), (q15, .inl (k15, 400, .inl (fun _ => 0)))]) H := hP
  have hD : va_D A ([(h0, .inr (3, [.int 0, .int 0, .int 0, .ref q1, .ref q2, .ref q3, .ref q4, .ref q5, .ref q6, .ref q7, .ref q8, .ref q9, .ref q10, .ref q11, .ref q12, .ref q13, .ref q14, .long 0, .int 0, .null, .int 0])), (q1, .inl (k1, 401, .inr (.inl (fun _ => 0)))), (q2, .inl (k2, 401, .inr (.inl (fun _ => 0)))), (q3, .inl (k3, 401, .inl (fun _ => 0))), (q4, .inl (k4, 401, .inl (fun _ => 0))), (q5, .inl (k5, 401, .inl (fun _ => 0))), (q6, .inl (k6, 401, .inl (fun _ => 0))), (q7, .inl (k7, 401, .inr (.inl (fun _ => 0)))), (q8, .inl (k8, 13, .inl (fun _ => 0))), (q9, .inl (k9, 13, .inl (fun _ => 0))), (q10, .inl (k10, 13, .inl (fun _ => 0))), (q11, .inl (k11, 13, .inr (.inl (fun _ => 0)))), (q12, .inl (k12, 13, .inl (fun _ => 0))), (q13, .inl (k13, 13, .inl (fun _ => 0))), (q14, .inl (k14, 13, .inl (fun _ => 0))), (q15, .inl (k15, 400, .inl (fun _ => 0)))]) := hD
  refine W.widen (k := 15) (n := 3298) (by decide) (by decide) ?_
  refine va_putF (D := D) (ci := 3) (v := .ref q15) (ty := .array .int) (C := R_M) (T := F_M) (N := 21) hx hb hts i_M t_M t_M_ok n_M hown hK hP hD hS 0 rfl rfl 19 (by decide) (hts _ kw_257) (fun _ h9 => h9) rfl hin rfl (by decide +kernel) rfl rfl (Nat.le_of_ble_eq_true rfl) d_M_init_129 (fun H locs hP hD hS => ?_)
  have hP : va_P D gt_cl ([(h0, .inr (3, [.int 0, .int 0, .int 0, .ref q1, .ref q2, .ref q3, .ref q4, .ref q5, .ref q6, .ref q7, .ref q8, .ref q9, .ref q10, .ref q11, .ref q12, .ref q13, .ref q14, .long 0, .int 0, .ref q15, .int 0])), (q1, .inl (k1, 401, .inr (.inl (fun _ => 0)))), (q2, .inl (k2, 401, .inr (.inl (fun _ => 0)))), (q3, .inl (k3, 401, .inl (fun _ => 0))), (q4, .inl (k4, 401, .inl (fun _ => 0))), (q5, .inl (k5, 401, .inl (fun _ => 0))), (q6, .inl (k6, 401, .inl (fun _ => 0))), (q7, .inl (k7, 401, .inr (.inl (fun _ => 0)))), (q8, .inl (k8, 13, .inl (fun _ => 0))), (q9, .inl (k9, 13, .inl (fun _ => 0))), (q10, .inl (k10, 13, .inl (fun _ => 0))), (q11, .inl (k11, 13, .inr (.inl (fun _ => 0)))), (q12, .inl (k12, 13, .inl (fun _ => 0))), (q13, .inl (k13, 13, .inl (fun _ => 0))), (q14, .inl (k14, 13, .inl (fun _ => 0))), (q15, .inl (k15, 400, .inl (fun _ => 0)))]) H := hP
  have hD : va_D A ([(h0, .inr (3, [.int 0, .int 0, .int 0, .ref q1, .ref q2, .ref q3, .ref q4, .ref q5, .ref q6, .ref q7, .ref q8, .ref q9, .ref q10, .ref q11, .ref q12, .ref q13, .ref q14, .long 0, .int 0, .ref q15, .int 0])), (q1, .inl (k1, 401, .inr (.inl (fun _ => 0)))), (q2, .inl (k2, 401, .inr (.inl (fun _ => 0)))), (q3, .inl (k3, 401, .inl (fun _ => 0))), (q4, .inl (k4, 401, .inl (fun _ => 0))), (q5, .inl (k5, 401, .inl (fun _ => 0))), (q6, .inl (k6, 401, .inl (fun _ => 0))), (q7, .inl (k7, 401, .inr (.inl (fun _ => 0)))), (q8, .inl (k8, 13, .inl (fun _ => 0))), (q9, .inl (k9, 13, .inl (fun _ => 0))), (q10, .inl (k10, 13, .inl (fun _ => 0))), (q11, .inl (k11, 13, .inr (.inl (fun _ => 0)))), (q12, .inl (k12, 13, .inl (fun _ => 0))), (q13, .inl (k13, 13, .inl (fun _ => 0))), (q14, .inl (k14, 13, .inl (fun _ => 0))), (q15, .inl (k15, 400, .inl (fun _ => 0)))]) := hD
  refine lv_aload_n hx hb d_M_init_132 rfl (lv_at hl 0 rfl) ?_
  refine lv_iload_n hx hb d_M_init_133 rfl (lv_at hl 1 rfl) ?_
  refine lv_iconst (v := 1) hx hb d_M_init_134 (by decide) ?_
  have J : W p l e rm_M_init s m args below meth c H locs 15 3298 Q (F0 m 154 ls [.int (nI (gt_G x)), .ref h0]) := by
    have hGi := gt_G_in x
    generalize gt_G x = G at hGi hret ⊢
    refine va_putF (D := D) (ci := 3) (v := .int (nI G)) (ty := .int) (C := R_M) (T := F_M) (N := 21) hx hb hts i_M t_M t_M_ok n_M hown hK hP hD hS 0 rfl rfl 1 (by decide) (hts _ kw_239) (fun _ h9 => h9) rfl hin rfl (by decide +kernel) rfl rfl (Nat.le_of_ble_eq_true rfl) d_M_init_154 (fun H locs hP hD hS => ?_)
    have hP : va_P D gt_cl ([(h0, .inr (3, [.int 0, .int (nI G), .int 0, .ref q1, .ref q2, .ref q3, .ref q4, .ref q5, .ref q6, .ref q7, .ref q8, .ref q9, .ref q10, .ref q11, .ref q12, .ref q13, .ref q14, .long 0, .int 0, .ref q15, .int 0])), (q1, .inl (k1, 401, .inr (.inl (fun _ => 0)))), (q2, .inl (k2, 401, .inr (.inl (fun _ => 0)))), (q3, .inl (k3, 401, .inl (fun _ => 0))), (q4, .inl (k4, 401, .inl (fun _ => 0))), (q5, .inl (k5, 401, .inl (fun _ => 0))), (q6, .inl (k6, 401, .inl (fun _ => 0))), (q7, .inl (k7, 401, .inr (.inl (fun _ => 0)))), (q8, .inl (k8, 13, .inl (fun _ => 0))), (q9, .inl (k9, 13, .inl (fun _ => 0))), (q10, .inl (k10, 13, .inl (fun _ => 0))), (q11, .inl (k11, 13, .inr (.inl (fun _ => 0)))), (q12, .inl (k12, 13, .inl (fun _ => 0))), (q13, .inl (k13, 13, .inl (fun _ => 0))), (q14, .inl (k14, 13, .inl (fun _ => 0))), (q15, .inl (k15, 400, .inl (fun _ => 0)))]) H := hP
    have hD : va_D A ([(h0, .inr (3, [.int 0, .int (nI G), .int 0, .ref q1, .ref q2, .ref q3, .ref q4, .ref q5, .ref q6, .ref q7, .ref q8, .ref q9, .ref q10, .ref q11, .ref q12, .ref q13, .ref q14, .long 0, .int 0, .ref q15, .int 0])), (q1, .inl (k1, 401, .inr (.inl (fun _ => 0)))), (q2, .inl (k2, 401, .inr (.inl (fun _ => 0)))), (q3, .inl (k3, 401, .inl (fun _ => 0))), (q4, .inl (k4, 401, .inl (fun _ => 0))), (q5, .inl (k5, 401, .inl (fun _ => 0))), (q6, .inl (k6, 401, .inl (fun _ => 0))), (q7, .inl (k7, 401, .inr (.inl (fun _ => 0)))), (q8, .inl (k8, 13, .inl (fun _ => 0))), (q9, .inl (k9, 13, .inl (fun _ => 0))), (q10, .inl (k10, 13, .inl (fun _ => 0))), (q11, .inl (k11, 13, .inr (.inl (fun _ => 0)))), (q12, .inl (k12, 13, .inl (fun _ => 0))), (q13, .inl (k13, 13, .inl (fun _ => 0))), (q14, .inl (k14, 13, .inl (fun _ => 0))), (q15, .inl (k15, 400, .inl (fun _ => 0)))]) := hD
    refine lv_iconst (v := 0) hx hb d_M_init_157 (by decide) ?_
    refine lv_istore_n (lv' := [(2, .int 0), (0, .ref h0), (1, .int x)]) hx hb d_M_init_158 rfl hl (by decide) rfl (fun ls hl => ?_)
    obtain ⟨ma, x0, x1, x2, x3, x4, x5, x6, x7, x8, x9, x10, x11, x12, x13, x14, x15⟩ : ∃ ma : Nat → Nat, ma 0 = h0 ∧ ma 1 = q1 ∧ ma 2 = q2 ∧ ma 3 = q3 ∧ ma 4 = q4 ∧ ma 5 = q5 ∧ ma 6 = q6 ∧ ma 7 = q7 ∧ ma 8 = q8 ∧ ma 9 = q9 ∧ ma 10 = q10 ∧ ma 11 = q11 ∧ ma 12 = q12 ∧ ma 13 = q13 ∧ ma 14 = q14 ∧ ma 15 = q15 := ⟨gt_f16 h0 q1 q2 q3 q4 q5 q6 q7 q8 q9 q10 q11 q12 q13 q14 q15, rfl, rfl, rfl, rfl, rfl, rfl, rfl, rfl, rfl, rfl, rfl, rfl, rfl, rfl, rfl, rfl⟩
    obtain ⟨mc, y1, y2, y3, y4, y5, y6, y7, y8, y9, y10, y11, y12, y13, y14, y15⟩ : ∃ mc : Nat → ClassId, mc 1 = k1 ∧ mc 2 = k2 ∧ mc 3 = k3 ∧ mc 4 = k4 ∧ mc 5 = k5 ∧ mc 6 = k6 ∧ mc 7 = k7 ∧ mc 8 = k8 ∧ mc 9 = k9 ∧ mc 10 = k10 ∧ mc 11 = k11 ∧ mc 12 = k12 ∧ mc 13 = k13 ∧ mc 14 = k14 ∧ mc 15 = k15 := ⟨gt_f16 k1 k1 k2 k3 k4 k5 k6 k7 k8 k9 k10 k11 k12 k13 k14 k15, rfl, rfl, rfl, rfl, rfl, rfl, rfl, rfl, rfl, rfl, rfl, rfl, rfl, rfl, rfl⟩
    rw [← x0, ← x1, ← x2, ← x3, ← x4, ← x5, ← x6, ← x7, ← x8, ← x9, ← x10, ← x11, ← x12, ← x13, ← x14, ← x15, ← y1, ← y2, ← y3, ← y4, ← y5, ← y6, ← y7, ← y8, ← y9, ← y10, ← y11, ← y12, ← y13, ← y14, ← y15] at hP hD
    rw [← y1, ← y2, ← y3, ← y4, ← y5, ← y6, ← y7, ← y8, ← y9, ← y10, ← y11, ← y12, ← y13, ← y14, ← y15] at hK
    rw [← x0] at hl
    have hKm : va_K D gt_cl (gt_Mt mc) s := hK
    have hK := hKm
    have hP : va_P D gt_cl (gt_MW ma mc 0 G 0 0 0 0 (fun _ => 0) (fun _ => 0) (fun _ => 0) (fun _ => 0) (fun _ => 0) (fun _ => 0) (fun _ => 0) (fun _ => 0) (fun _ => 0) (fun _ => 0) (fun _ => 0) (fun _ => 0) (fun _ => 0) (fun _ => 0) (fun _ => 0)) H := hP
    have hD : va_D A (gt_MW ma mc 0 G 0 0 0 0 (fun _ => 0) (fun _ => 0) (fun _ => 0) (fun _ => 0) (fun _ => 0) (fun _ => 0) (fun _ => 0) (fun _ => 0) (fun _ => 0) (fun _ => 0) (fun _ => 0) (fun _ => 0) (fun _ => 0) (fun _ => 0) (fun _ => 0)) := hD
    have loop : ∀ (q g : Nat), g ≤ 13 → 13 < g + q → ∀ (H : Heap) (locs : List Loc), va_P D gt_cl (gt_MW ma mc 0 G 0 0 0 0 (fun _ => 0) (fun _ => 0) (fun _ => 0) (fun _ => 0) (fun _ => 0) (fun _ => 0) (fun _ => 0) (fun _ => 0) (fun _ => 0) (fun _ => 0) (fun _ => 0) (gt_h13 g) (fun _ => 0) (fun _ => 0) (fun _ => 0)) H → va_D A (gt_MW ma mc 0 G 0 0 0 0 (fun _ => 0) (fun _ => 0) (fun _ => 0) (fun _ => 0) (fun _ => 0) (fun _ => 0) (fun _ => 0) (fun _ => 0) (fun _ => 0) (fun _ => 0) (fun _ => 0) (gt_h13 g) (fun _ => 0) (fun _ => 0) (fun _ => 0)) → va_S A s.heap H locs → ∀ ls, lv_has ls 3 [(2, .int (nI g)), (0, .ref (ma 0))] → W p l e rm_M_init s m args below meth c H locs 15 3298 Q (F0 m 159 ls []) := by
      intro q
      induction q with
      | zero => intro g h1 h2; omega
      | succ q ih =>
        intro g g1 g2 H locs hP hD hS ls hl
        refine lv_iload_n hx hb d_M_init_159 rfl (lv_at hl 0 rfl) ?_
        refine lv_bipush (v := 13) hx hb d_M_init_160 (by decide) ?_
        refine lv_icmp_ge (tgt := 180) hx hb d_M_init_162 (by decide) (fun c1 => ?_) (fun c1 => ?_)
        · rw [show (13 : Int32) = nI 13 from rfl, nI_leI (by omega) (by omega)] at c1
          obtain rfl : g = 13 := by omega
          exact hret _ _ _ _ (ma, mc) d_M_init_180 x0 hP hKm hD hS
        · rw [show (13 : Int32) = nI 13 from rfl, nI_leI (by omega) (by omega)] at c1
          refine lv_aload_n hx hb d_M_init_165 rfl (lv_at hl 1 rfl) ?_
          refine va_get (D := D) (ci := 3) (v := .ref (ma 12)) (C := R_M) (T := F_M) (N := 21) hx hb hts i_M hown hK hP 0 rfl rfl 14 (by decide) (hts _ kw_252) (fun _ h9 => h9) rfl d_M_init_166 ?_
          refine lv_iload_n hx hb d_M_init_169 rfl (lv_at hl 0 rfl) ?_
          refine lv_sipush (v := 1000) hx hb d_M_init_170 (by decide) ?_
          refine gt_iast (k := g) hx hb hK hP hD hS 12 11 rfl rfl (by omega) (by decide) d_M_init_173 (fun H locs hP hD hS => ?_)
          have hP : va_P D gt_cl (gt_MW ma mc 0 G 0 0 0 0 (fun _ => 0) (fun _ => 0) (fun _ => 0) (fun _ => 0) (fun _ => 0) (fun _ => 0) (fun _ => 0) (fun _ => 0) (fun _ => 0) (fun _ => 0) (fun _ => 0) (upd (gt_h13 g) g 1000) (fun _ => 0) (fun _ => 0) (fun _ => 0)) H := hP
          have hD : va_D A (gt_MW ma mc 0 G 0 0 0 0 (fun _ => 0) (fun _ => 0) (fun _ => 0) (fun _ => 0) (fun _ => 0) (fun _ => 0) (fun _ => 0) (fun _ => 0) (fun _ => 0) (fun _ => 0) (fun _ => 0) (upd (gt_h13 g) g 1000) (fun _ => 0) (fun _ => 0) (fun _ => 0)) := hD
          have e1 : upd (gt_h13 g) g 1000 = gt_h13 (g + 1) := by
            funext j
            unfold upd gt_h13
            by_cases e : j = g
            · rw [if_pos e, if_pos (by omega)]
            · rw [if_neg e]
              by_cases e2 : j < g
              · rw [if_pos e2, if_pos (by omega)]
              · rw [if_neg e2, if_neg (by omega)]
          rw [e1] at hP hD
          refine lv_iinc (v := nI (g + 1)) (lv' := [(2, .int (nI (g + 1))), (0, .ref (ma 0))]) hx hb d_M_init_174 hl (k := 0) rfl (nI_1 _) (by decide) rfl (fun ls hl => ?_)
          refine lv_goto (tgt := 159) hx hb d_M_init_177 (by decide) ?_
          exact ih (g + 1) (by omega) (by omega) _ _ hP hD hS ls (lv_sub hl [0, 1] rfl)
    have e0 : (fun _ => 0 : Nat → Int32) = gt_h13 0 := by
      funext j
      unfold gt_h13
      rw [if_neg (by omega)]
    have hw0 : gt_MW ma mc 0 G 0 0 0 0 (fun _ => 0) (fun _ => 0) (fun _ => 0) (fun _ => 0) (fun _ => 0) (fun _ => 0) (fun _ => 0) (fun _ => 0) (fun _ => 0) (fun _ => 0) (fun _ => 0) (fun _ => 0) (fun _ => 0) (fun _ => 0) (fun _ => 0) = gt_MW ma mc 0 G 0 0 0 0 (fun _ => 0) (fun _ => 0) (fun _ => 0) (fun _ => 0) (fun _ => 0) (fun _ => 0) (fun _ => 0) (fun _ => 0) (fun _ => 0) (fun _ => 0) (fun _ => 0) (gt_h13 0) (fun _ => 0) (fun _ => 0) (fun _ => 0) := by rw [← e0]
    rw [hw0] at hP hD
    exact loop 14 0 (Nat.zero_le _) (by omega) _ _ hP hD hS ls (lv_sub hl [0, 1] rfl)
  refine lv_icmp_ge (tgt := 142) hx hb d_M_init_135 (by decide) (fun c1 => ?_) (fun c1 => ?_)
  · refine lv_iload_n hx hb d_M_init_142 rfl (lv_at hl 1 rfl) ?_
    refine lv_bipush (v := 12) hx hb d_M_init_143 (by decide) ?_
    refine lv_icmp_le (tgt := 153) hx hb d_M_init_145 (by decide) (fun c2 => ?_) (fun c2 => ?_)
    · refine lv_iload_n hx hb d_M_init_153 rfl (lv_at hl 1 rfl) ?_
      have c3 : ¬ 12 < x := Int32.not_lt.mpr c2
      have c4 : ¬ x < 1 := Int32.not_lt.mpr c1
      rw [show (Value.int x) = .int (nI (gt_G x)) by rw [← gt_G_self c4 c3]]
      exact J
    · refine lv_bipush (v := 12) hx hb d_M_init_148 (by decide) ?_
      refine lv_goto (tgt := 154) hx hb d_M_init_150 (by decide) ?_
      rw [gt_G_hi (Int32.not_le.mp c2)]
      exact J
  · refine lv_iconst (v := 1) hx hb d_M_init_138 (by decide) ?_
    refine lv_goto (tgt := 154) hx hb d_M_init_139 (by decide) ?_
    rw [gt_G_lo (Int32.not_le.mp c1)]
    exact J
end
section
/-! THE LAW: its loop. -/
def gt_c0 (L : Nat) (xs : Nat → Int32) : Int32 := if 0 < L then xs 0 else 0
def gt_pk2 (u v : Int32) : Int64 := u.toInt64 <<< ((32 : Int32).toInt64 &&& 63) ||| (v.toInt64 &&& lN 4294967295)
section GL
variable {p : Program} {l : Launch} {e : Env} {R : Room} {s : State} {m : MethodId} {args : Array Value} {below : List Frame} {meth : Method} {c : Code} {H : Heap} {locs : List Loc} {cells slots : Nat} {Q : State → Prop}
variable {cc : ByteArray} {pc : Nat} {ls : Array Slot} {rest : List Value} {A : Nat → Prop} {H0 : Heap}
theorem gt_sld (hexec : p.tables.exec = Jvm.exec) (hb : c.code = cc) {b L : Nat} {xs : Nat → Int32} (hX : va_X b L xs s H0) (hbl : b < H0.size) (hbA : ¬ A b) (hS : va_S A H0 H locs) {k : Nat} (hk : k < L) (hL : L ≤ 2561) (hdg : decode cc pc = .ok (.iaload, 1))
    (kk : W p l e R s m args below meth c H locs cells slots Q (F0 m (pc + 1) ls (.int (xs k) :: rest))) : W p l e R s m args below meth c H locs cells slots Q (F0 m pc ls (.int (nI k) :: .ref b :: rest)) :=
  va_sld hexec hb hX hbl hbA hS (vp_in_nI hk (by omega)) hdg (by rw [nI_clamp (by omega)]; exact kk)
end GL
theorem gt_l5 {L i : Nat} (hL : L ≤ 2561) (hi : i ≤ 5000) (h : ¬ nI L - 5 < nI i) : i + 5 ≤ L := by
  rw [show (5 : Int32) = nI 5 from rfl, Int32.lt_iff_toInt_lt, pk_sub_toInt (by omega) (by omega), nI_toInt (by omega)] at h
  omega
theorem gt_pairE {α β : Type} {a a' : α} {b b' : β} (h : (a, b) = (a', b')) : a = a' ∧ b = b' := ⟨congrArg Prod.fst h, congrArg Prod.snd h⟩
theorem gt_RBin1_one {S : gt_SS} {d : gt_Dy} (hG : S.1 ≤ 100) {y r1 r2 : Int32} (h1 : gt_RCount S d y r1) (h2 : gt_RCount S d y r2) : r1 = r2 := by
  rcases h1 with ⟨k, k1, k2, k3⟩ | ⟨a1, a2, -⟩ <;> rcases h2 with ⟨j, j1, j2, j3⟩ | ⟨b1, b2, -⟩
  · have e : k = j := gt_nI_inj (by omega) (by omega) (k2.symm.trans j2)
    subst e
    exact k3.trans j3.symm
  · exact absurd ⟨k, k1, k2⟩ b1
  · exact absurd ⟨j, j1, j2⟩ a1
  · exact a2.trans b2.symm
theorem gt_swap_rej {S : gt_SS} {d : gt_Dy} {y r : Int32} {u : Nat → gt_GS} (h : gt_RSwap S d y r u) : (u S.1).2.2.2.2 = (d.2 S.1).2.2.2.2 := by
  rcases h with ⟨g, g1, -, -, g3⟩ | ⟨-, -, g3⟩
  · rw [g3, va_up_ne _ _ (by omega)]
  · rw [g3]
theorem gt_Inv_swap {n : Nat} {S : gt_SS} {lt : Nat → Int32} {d : gt_Dy} {now : Nat} {ol : List Nat} (h : gt_Inv n S lt d now ol) {y r : Int32} {u : Nat → gt_GS} (hw : gt_RSwap S d y r u) : gt_Inv n S lt (d.1, u) now ol := by
  refine ⟨h.1, ⟨h.2.1.1, fun g hg => ?_⟩, h.2.2.1, h.2.2.2.1, h.2.2.2.2.1, h.2.2.2.2.2⟩
  show gt_HG (u g)
  rcases hw with ⟨k, g1, -, -, g3⟩ | ⟨-, -, g3⟩
  · rw [g3]
    by_cases e : g = k
    · subst e
      rw [va_up_self]
      exact h.2.1.2 g hg
    · rw [va_up_ne _ _ e]
      exact h.2.1.2 g hg
  · rw [g3]
    exact h.2.1.2 g hg
def lw_P (b : Addr) (xs : List Int32) (args : Array Value) (s : State) : Prop := args = #[.ref b] ∧ s.IntsAt b xs ∧ xs.length ≤ 2561 ∧ (Jvm.Cond.and given_1 narrow_1).before args s = true
def lw_Q (_ : Array Value) (s : State) (o : Outcome) (t : State) : Prop := o = .returned (some (.int 1)) ∧ Framed s o t [] 600000 7302250
def lw_Z (below : List Frame) (a : Array Value) (s : State) : State → Prop := fun t => ∃ o, t.status = .running ∧ Ended t below o ∧ lw_Q a s o t
/-- the law's own end, with 1 on the stack, nothing written that was there before, its room as the claim has it -/
theorem lw_ret {p : Program} {l : Launch} {e : Env} {s : State} {m : MethodId} {below : List Frame} {meth : Method} {c : Code} {b : Nat} (hx : p.tables.exec = Jvm.exec) (hb : c.code = code) (hr : meth.sig.returnType = ret) (hlocks : meth.locks = false) {pc : Nat} {H : Heap} {ls : Array Slot} (hdg : decode code pc = .ok (.ireturn, 1)) : W p l e room_1 s m #[Value.ref b] below meth c H [] 600000 7302250 (lw_Z below #[Value.ref b] s) (F0 m pc ls [.int 1]) := by
  intro T hT X
  obtain ⟨fs, hret, hrun, hended, hW, hframe⟩ := X.leave (v := some (.int 1)) (hlocks := hlocks) (fun h => by rw [hr] at h; cases h)
  have hmeth' : T.vm.method? m = some meth := X.method'
  refine ⟨T.setFrames fs, ?_, .returned (some (.int 1)), hrun, hended, rfl, ⟨_, rfl⟩, hW, hframe⟩
  jvm_step X.here [X.here.top, hx, hb, hdg, hmeth', hr, ret, narrow_b1]
  (try refine ⟨rfl, ?_⟩); (try refine ⟨rfl, ?_⟩)
  first | (intro acts; rw [hret _ acts rfl rfl rfl]) | rw [hret _ _ rfl rfl rfl]
  exact Steps.refl _
/-- what holds at the law's entry: the machine, the code, the tables' words (any of lw_tbl by 'hts w (by decide +kernel)'), the script of L ints xs at the cell b, what the Statement gives of the start (any of its parts by flat_of_before) -/
def lw_At (p : Program) (s : State) (m : MethodId) (meth : Method) (c : Code) (b L : Nat) (xs : Nat → Int32) : Prop :=
  p.tables.exec = Jvm.exec ∧ c.code = code ∧ meth.sig.returnType = ret ∧ c.maxLocals = 4 ∧ s.vm.findClass R_law = some m.cls ∧ (∀ w ∈ lw_tbl, w.before #[Value.ref b] s = true) ∧ va_X b L xs s s.heap ∧ b < s.heap.size ∧ meth.locks = false ∧ (Jvm.Cond.and given_1 narrow_1).before #[Value.ref b] s = true
abbrev rm_L_cell : Room := { frames := 0, cells := 0, slots := 0, locals := 0 }
set_option maxHeartbeats 4000000 in
set_option maxRecDepth 100000 in
/-- cell(script, 0) -/
theorem c_L_cell (l : Launch) (D : va_G) (b L : Nat) (xs : Nat → Int32) (hL : L ≤ 2561) : Met l y_L_cell w_L_cell rm_L_cell (gt_PreP D (fun U => va_X b L xs U U.heap) [.ref b, .int 0] []) (vp_Si (fun r => r = gt_c0 L xs)) 0 0 (fun _ => False) := by
  refine gt_pure_i (own := R_law) (by decide) rfl (Nat.le_of_ble_eq_true rfl) ?_
  intro p e s m below meth c args hx hb hml hown hts hP hX Q hret ls hl
  have hl : lv_has ls 2 [(0, .ref b), (1, .int 0)] := hl
  have hbl : b < s.heap.size := by obtain ⟨scr, h1, -⟩ := hX; exact (Array.getElem?_eq_some_iff.mp h1).1
  have hbA : ¬ (fun _ : Nat => False) b := fun h => h
  have hS : va_S (fun _ : Nat => False) s.heap s.heap [] := va_S.rf
  refine lv_iload_n hx hb d_L_cell_0 rfl (lv_at hl 1 rfl) ?_
  refine lv_aload_n hx hb d_L_cell_1 rfl (lv_at hl 0 rfl) ?_
  refine va_slen hx hb hX hbl hbA hS d_L_cell_2 ?_
  rw [show Int32.ofNat L = nI L from rfl]
  refine lv_icmp_ge (tgt := 12) hx hb d_L_cell_3 (by decide) (fun c1 => ?_) (fun c1 => ?_)
  · refine lv_iconst (v := 0) hx hb d_L_cell_12 (by decide) ?_
    exact hret _ _ _ d_L_cell_13 (by unfold gt_c0; rw [if_neg]; intro h; exact absurd c1 (nI_nle h (by omega)))
  · have h0 : 0 < L := by
      rcases Nat.eq_zero_or_pos L with e | e
      · exact absurd (show nI L ≤ 0 by rw [e]; decide) c1
      · exact e
    refine lv_aload_n hx hb d_L_cell_6 rfl (lv_at hl 0 rfl) ?_
    refine lv_iload_n hx hb d_L_cell_7 rfl (lv_at hl 1 rfl) ?_
    refine va_sld hx hb hX hbl hbA hS (vp_in_nI (n := 0) h0 (by omega)) d_L_cell_8 ?_
    refine lv_goto (tgt := 13) hx hb d_L_cell_9 (by decide) ?_
    exact hret _ _ _ d_L_cell_13 (by unfold gt_c0; rw [if_pos h0]; rfl)
set_option maxHeartbeats 4000000 in
set_option maxRecDepth 100000 in
/-- at the head of the loop: the class and the reference hold one and the same state -/
theorem law_loop {p : Program} {l : Launch} {e : Env} {s : State} {m : MethodId} {below : List Frame} {meth : Method} {c : Code} {D : va_G} {xa : Nat → Nat} {xc : Nat → ClassId} {ma : Nat → Nat} {mc : Nat → ClassId} {b L : Nat} {xs : Nat → Int32} (hL : L ≤ 2561) (C0 : lw_At p s m meth c b L xs) (hKX : gt_XK D xc s) (hKM : va_K D gt_cl (gt_Mt mc) s) : ∀ (q i : Nat) (ad : Nat → Nat) (S : gt_SS) (lt : Nat → Int32) (d : gt_Dy) (n F now : Nat) (ol : List Nat) (told thr : Int32) (oI oB : Nat → Int32) (oT : Nat → Int64), i ≤ L + 5 → L + 6 < i + q → gt_Inv n S lt d now ol → gt_XR n d ol F oI oB oT → ∀ (H : Heap) (locs : List Loc), va_P D gt_cl (gt_XW xa xc ad S lt d n F now ol.length told (d.2 S.1).2.2.2.2 oI oB oT ++ gt_MS ma mc thr S lt d n now ol told) H → va_D (fun q : Nat => s.heap.size ≤ q) (gt_XW xa xc ad S lt d n F now ol.length told (d.2 S.1).2.2.2.2 oI oB oT ++ gt_MS ma mc thr S lt d n now ol told) → va_S (fun q : Nat => s.heap.size ≤ q) s.heap H locs → ∀ ls, lv_has ls 4 [(3, .int (nI i)), (0, .ref b), (1, .ref (xa 0)), (2, .ref (ma 0))] → W p l e room_1 s m #[Value.ref b] below meth c H locs (100 + i) (6000 + 6 * i) (lw_Z below #[Value.ref b] s) (F0 m 28 ls []) := by
  obtain ⟨hx, hb, hr, hml, hown, hts0, hX, hbl, hlocks, hgv⟩ := C0
  have hts : ∀ w ∈ tb, w.before #[Value.ref b] s = true := fun w h => hts0 w (tb_lw w h).1
  have hA : ∀ q : Nat, s.heap.size ≤ q → (fun q : Nat => s.heap.size ≤ q) q := fun _ h => h
  have hbA : ¬ (fun q : Nat => s.heap.size ≤ q) b := Nat.not_le.mpr hbl
  intro q
  induction q with
  | zero => intro i ad S lt d n F now ol told thr oI oB oT h1 h2; omega
  | succ q ih =>
    intro i ad S lt d n F now ol told thr oI oB oT h1 h2 hinv hxr H locs hP hD hS ls hl
    have hn : n ≤ 400 := hinv.1.2.2.1
    have hG : S.1 ≤ 12 := hinv.1.2.1
    have hlen := gt_Inv_len hinv
    refine lv_iload_n hx hb d_L_law_28 rfl (lv_at hl 0 rfl) ?_
    refine lv_aload_n hx hb d_L_law_29 rfl (lv_at hl 1 rfl) ?_
    refine va_slen hx hb hX hbl hbA hS d_L_law_30 ?_
    rw [show Int32.ofNat L = nI L from rfl]
    refine lv_iconst (v := 5) hx hb d_L_law_31 (by decide) ?_
    refine lv_isub hx hb d_L_law_32 ?_
    refine lv_icmp_gt (tgt := 538) hx hb d_L_law_33 (by decide) (fun c1 => ?_) (fun c1 => ?_)
    · refine lv_iconst (v := 1) hx hb d_L_law_538 (by decide) ?_
      refine va_forget (fun q hq => hS.2.2 q hq) ?_
      refine W.widen (k := 600000) (n := 7302250) (by omega) (by omega) ?_
      exact lw_ret hx hb hr hlocks d_L_law_539
    · have hi5 := gt_l5 hL (by omega) c1
      refine lv_aload_n hx hb d_L_law_36 rfl (lv_at hl 1 rfl) ?_
      refine lv_iload_n hx hb d_L_law_37 rfl (lv_at hl 0 rfl) ?_
      refine gt_sld (k := i) hx hb hX hbl hbA hS (by omega) hL d_L_law_38 ?_
      refine lv_bipush (v := 15) hx hb d_L_law_39 (by decide) ?_
      refine lv_iand hx hb d_L_law_41 ?_
      obtain ⟨j, hj, ej⟩ := pk_andE (xs i) (m := 15) 4 (by decide)
      rw [ej]
      rcases (show j = 0 ∨ j = 1 ∨ j = 2 ∨ j = 3 ∨ j = 4 ∨ j = 5 ∨ j = 6 ∨ j = 7 ∨ j = 8 ∨ j = 9 ∨ j = 10 ∨ j = 11 ∨ j = 12 ∨ j = 13 ∨ j = 14 ∨ j = 15 by omega) with rfl | rfl | rfl | rfl | rfl | rfl | rfl | rfl | rfl | rfl | rfl | rfl | rfl | rfl | rfl | rfl
      · refine lv_tableIn (off := 54) (tgt := 96) hx hb d_L_law_42 (by decide) (by decide) (by decide) (by decide) ?_
        refine lv_aload_n hx hb d_L_law_96 rfl (lv_at hl 2 rfl) ?_
        refine lv_aload_n hx hb d_L_law_97 rfl (lv_at hl 1 rfl) ?_
        refine lv_iload_n hx hb d_L_law_98 rfl (lv_at hl 0 rfl) ?_
        refine lv_iconst (v := 1) hx hb d_L_law_99 (by decide) ?_
        refine lv_iadd hx hb d_L_law_100 ?_
        rw [nI_1]
        refine gt_sld (k := i + 1) hx hb hX hbl hbA hS (by omega) hL d_L_law_101 ?_
        refine lv_i2l (v := (xs (i + 1)).toInt64) hx hb d_L_law_102 rfl ?_
        refine lv_bipush (v := 32) hx hb d_L_law_103 (by decide) ?_
        refine lv_lshl (v := ((xs (i + 1)).toInt64) <<< ((32 : Int32).toInt64 &&& 63)) hx hb d_L_law_105 rfl ?_
        refine lv_aload_n hx hb d_L_law_106 rfl (lv_at hl 1 rfl) ?_
        refine lv_iload_n hx hb d_L_law_107 rfl (lv_at hl 0 rfl) ?_
        refine lv_iconst (v := 2) hx hb d_L_law_108 (by decide) ?_
        refine lv_iadd hx hb d_L_law_109 ?_
        rw [show nI i + 2 = nI (i + 2) from nI_add _ 2]
        refine gt_sld (k := i + 2) hx hb hX hbl hbA hS (by omega) hL d_L_law_110 ?_
        refine lv_i2l (v := (xs (i + 2)).toInt64) hx hb d_L_law_111 rfl ?_
        refine lv_ldc2 (v := lN 4294967295) hx hb hown (hts _ kw_371) d_L_law_112 ?_
        refine lv_land hx hb d_L_law_115 ?_
        refine lv_lor hx hb d_L_law_116 ?_
        rw [show (xs (i + 1)).toInt64 <<< ((32 : Int32).toInt64 &&& 63) ||| ((xs (i + 2)).toInt64 &&& lN 4294967295) = gt_pk2 (xs (i + 1)) (xs (i + 2)) from rfl]
        refine lv_aload_n hx hb d_L_law_117 rfl (lv_at hl 1 rfl) ?_
        refine lv_iload_n hx hb d_L_law_118 rfl (lv_at hl 0 rfl) ?_
        refine lv_iconst (v := 3) hx hb d_L_law_119 (by decide) ?_
        refine lv_iadd hx hb d_L_law_120 ?_
        rw [show nI i + 3 = nI (i + 3) from nI_add _ 3]
        refine gt_sld (k := i + 3) hx hb hX hbl hbA hS (by omega) hL d_L_law_121 ?_
        refine lv_i2l (v := (xs (i + 3)).toInt64) hx hb d_L_law_122 rfl ?_
        refine lv_bipush (v := 32) hx hb d_L_law_123 (by decide) ?_
        refine lv_lshl (v := ((xs (i + 3)).toInt64) <<< ((32 : Int32).toInt64 &&& 63)) hx hb d_L_law_125 rfl ?_
        refine lv_aload_n hx hb d_L_law_126 rfl (lv_at hl 1 rfl) ?_
        refine lv_iload_n hx hb d_L_law_127 rfl (lv_at hl 0 rfl) ?_
        refine lv_iconst (v := 4) hx hb d_L_law_128 (by decide) ?_
        refine lv_iadd hx hb d_L_law_129 ?_
        rw [show nI i + 4 = nI (i + 4) from nI_add _ 4]
        refine gt_sld (k := i + 4) hx hb hX hbl hbA hS (by omega) hL d_L_law_130 ?_
        refine lv_i2l (v := (xs (i + 4)).toInt64) hx hb d_L_law_131 rfl ?_
        refine lv_ldc2 (v := lN 4294967295) hx hb hown (hts _ kw_371) d_L_law_132 ?_
        refine lv_land hx hb d_L_law_135 ?_
        refine lv_lor hx hb d_L_law_136 ?_
        rw [show (xs (i + 3)).toInt64 <<< ((32 : Int32).toInt64 &&& 63) ||| ((xs (i + 4)).toInt64 &&& lN 4294967295) = gt_pk2 (xs (i + 3)) (xs (i + 4)) from rfl]
        have hFc := gt_freeL hD hS hA
        refine va_calli (va_runV (As := [.long (gt_pk2 (xs (i + 1)) (xs (i + 2))), .long (gt_pk2 (xs (i + 3)) (xs (i + 4)))]) (rest := []) ⟨hx, hb, hml, hown, hts⟩ (c_X_item l D H.size xa xc ad S lt d n F now ol told oI oB oT (gt_pk2 (xs (i + 1)) (xs (i + 2))) (gt_pk2 (xs (i + 3)) (xs (i + 4))) hinv hxr) (cwV 2 hts (tb_inV kw_94 kw_95 kw_96 kw_1 kw_97) rfl rfl rfl (by decide +kernel) ⟨Nat.le_of_ble_eq_true rfl, Nat.le_of_ble_eq_true rfl⟩) (gt_Pre_V gt_XK_mv (va_recv hKX.1 (gt_P_head hP) (ci := 0) (q0 := 0) rfl rfl) (gt_P_head hP) hKX (gt_D_head hD)) rfl rfl hl.1 rfl (lv_room (Nat.le_of_ble_eq_true rfl)) d_L_law_137 ⟨(by show 100 + i + 1 ≤ 600000; omega), (by show 6000 + 6 * i + 6 ≤ 7302250; omega)⟩) hS (fun q _ h => hFc q h) hFc (fun r1 u t9 H1 locs ht9 hvm9 hw1 hB hz1 hk1 hS => ?_)
        obtain ⟨hP1, hD1⟩ := hB
        rw [ht9] at hP1
        obtain ⟨n1, S1, d1, ad1⟩ := u
        obtain ⟨hP, hD⟩ := gt_joinL hP hD hk1 hFc hP1 hD1
        have hP : va_P D gt_cl (gt_XW xa xc ad1 S1 lt d1 n1 F now ol.length told (d1.2 S1.1).2.2.2.2 oI oB oT ++ gt_MS ma mc thr S lt d n now ol told) H1 := hP
        have hD : va_D (fun q : Nat => s.heap.size ≤ q) (gt_XW xa xc ad1 S1 lt d1 n1 F now ol.length told (d1.2 S1.1).2.2.2.2 oI oB oT ++ gt_MS ma mc thr S lt d n now ol told) := hD
        refine W.widen (k := 100 + i + 1) (n := 6000 + 6 * i + 6) (Nat.le_refl _) (Nat.le_refl _) ?_
        refine lv_aload_n hx hb d_L_law_140 rfl (lv_at hl 3 rfl) ?_
        refine lv_aload_n hx hb d_L_law_141 rfl (lv_at hl 1 rfl) ?_
        refine lv_iload_n hx hb d_L_law_142 rfl (lv_at hl 0 rfl) ?_
        refine lv_iconst (v := 1) hx hb d_L_law_143 (by decide) ?_
        refine lv_iadd hx hb d_L_law_144 ?_
        rw [nI_1]
        refine gt_sld (k := i + 1) hx hb hX hbl hbA hS (by omega) hL d_L_law_145 ?_
        refine lv_i2l (v := (xs (i + 1)).toInt64) hx hb d_L_law_146 rfl ?_
        refine lv_bipush (v := 32) hx hb d_L_law_147 (by decide) ?_
        refine lv_lshl (v := ((xs (i + 1)).toInt64) <<< ((32 : Int32).toInt64 &&& 63)) hx hb d_L_law_149 rfl ?_
        refine lv_aload_n hx hb d_L_law_150 rfl (lv_at hl 1 rfl) ?_
        refine lv_iload_n hx hb d_L_law_151 rfl (lv_at hl 0 rfl) ?_
        refine lv_iconst (v := 2) hx hb d_L_law_152 (by decide) ?_
        refine lv_iadd hx hb d_L_law_153 ?_
        rw [show nI i + 2 = nI (i + 2) from nI_add _ 2]
        refine gt_sld (k := i + 2) hx hb hX hbl hbA hS (by omega) hL d_L_law_154 ?_
        refine lv_i2l (v := (xs (i + 2)).toInt64) hx hb d_L_law_155 rfl ?_
        refine lv_ldc2 (v := lN 4294967295) hx hb hown (hts _ kw_371) d_L_law_156 ?_
        refine lv_land hx hb d_L_law_159 ?_
        refine lv_lor hx hb d_L_law_160 ?_
        rw [show (xs (i + 1)).toInt64 <<< ((32 : Int32).toInt64 &&& 63) ||| ((xs (i + 2)).toInt64 &&& lN 4294967295) = gt_pk2 (xs (i + 1)) (xs (i + 2)) from rfl]
        refine lv_aload_n hx hb d_L_law_161 rfl (lv_at hl 1 rfl) ?_
        refine lv_iload_n hx hb d_L_law_162 rfl (lv_at hl 0 rfl) ?_
        refine lv_iconst (v := 3) hx hb d_L_law_163 (by decide) ?_
        refine lv_iadd hx hb d_L_law_164 ?_
        rw [show nI i + 3 = nI (i + 3) from nI_add _ 3]
        refine gt_sld (k := i + 3) hx hb hX hbl hbA hS (by omega) hL d_L_law_165 ?_
        refine lv_i2l (v := (xs (i + 3)).toInt64) hx hb d_L_law_166 rfl ?_
        refine lv_bipush (v := 32) hx hb d_L_law_167 (by decide) ?_
        refine lv_lshl (v := ((xs (i + 3)).toInt64) <<< ((32 : Int32).toInt64 &&& 63)) hx hb d_L_law_169 rfl ?_
        refine lv_aload_n hx hb d_L_law_170 rfl (lv_at hl 1 rfl) ?_
        refine lv_iload_n hx hb d_L_law_171 rfl (lv_at hl 0 rfl) ?_
        refine lv_iconst (v := 4) hx hb d_L_law_172 (by decide) ?_
        refine lv_iadd hx hb d_L_law_173 ?_
        rw [show nI i + 4 = nI (i + 4) from nI_add _ 4]
        refine gt_sld (k := i + 4) hx hb hX hbl hbA hS (by omega) hL d_L_law_174 ?_
        refine lv_i2l (v := (xs (i + 4)).toInt64) hx hb d_L_law_175 rfl ?_
        refine lv_ldc2 (v := lN 4294967295) hx hb hown (hts _ kw_371) d_L_law_176 ?_
        refine lv_land hx hb d_L_law_179 ?_
        refine lv_lor hx hb d_L_law_180 ?_
        rw [show (xs (i + 3)).toInt64 <<< ((32 : Int32).toInt64 &&& 63) ||| ((xs (i + 4)).toInt64 &&& lN 4294967295) = gt_pk2 (xs (i + 3)) (xs (i + 4)) from rfl]
        have hFc := gt_freeR hD hS hA
        refine va_calli (va_runV (As := [.long (gt_pk2 (xs (i + 1)) (xs (i + 2))), .long (gt_pk2 (xs (i + 3)) (xs (i + 4)))]) (rest := [.int r1]) ⟨hx, hb, hml, hown, hts⟩ (c_M_item l D H1.size ma mc thr S lt d n now ol told (gt_pk2 (xs (i + 1)) (xs (i + 2))) (gt_pk2 (xs (i + 3)) (xs (i + 4))) hinv) (cwV 2 hts (tb_inV kw_303 kw_304 kw_305 kw_4 kw_306) rfl rfl rfl (by decide +kernel) ⟨Nat.le_of_ble_eq_true rfl, Nat.le_of_ble_eq_true rfl⟩) (gt_Pre_V gt_K_mv (va_recv hKM (gt_P_tail hP) (ci := 3) (q0 := 0) rfl rfl) (gt_P_tail hP) hKM (gt_D_tail hD)) rfl rfl hl.1 rfl (lv_room (Nat.le_of_ble_eq_true rfl)) d_L_law_181 ⟨(by show 100 + i + 1 + 0 ≤ 600000; omega), (by show 6000 + 6 * i + 6 + 0 ≤ 7302250; omega)⟩) hS (fun q _ h => hFc q h) hFc (fun r2 v t9 H2 locs ht9 hvm9 hw2 hB hz1 hk1 hS => ?_)
        obtain ⟨hP1, hD1⟩ := hB
        rw [ht9] at hP1
        obtain ⟨n2, S2, d2⟩ := v
        obtain ⟨hP, hD⟩ := gt_joinR hP hD hk1 hFc hP1 hD1
        have hP : va_P D gt_cl (gt_XW xa xc ad1 S1 lt d1 n1 F now ol.length told (d1.2 S1.1).2.2.2.2 oI oB oT ++ gt_MS ma mc 0 S2 lt d2 n2 now ol told) H2 := hP
        have hD : va_D (fun q : Nat => s.heap.size ≤ q) (gt_XW xa xc ad1 S1 lt d1 n1 F now ol.length told (d1.2 S1.1).2.2.2.2 oI oB oT ++ gt_MS ma mc 0 S2 lt d2 n2 now ol told) := hD
        obtain ⟨hw1, hi1, hx1⟩ := hw1
        obtain ⟨hr9, e1, e2, e3⟩ := gt_RItem_one hw1 hw2
        dsimp only at e1 e2 e3
        subst e1; subst e2; subst e3
        refine lv_icmp_eq (tgt := 532) hx hb d_L_law_184 (by decide) (fun c9 => ?_) (fun c9 => ?_)
        · refine lv_iinc (v := nI (i + 5)) (lv' := [(3, .int (nI (i + 5))), (0, .ref b), (1, .ref (xa 0)), (2, .ref (ma 0))]) hx hb d_L_law_532 hl (k := 0) rfl (nI_add _ 5) (by decide) rfl (fun ls hl => ?_)
          refine lv_goto (tgt := 28) hx hb d_L_law_535 (by decide) ?_
          refine W.widen (k := 100 + (i + 5)) (n := 6000 + 6 * (i + 5)) (by omega) (by omega) ?_
          exact ih (i + 5) ad1 S1 lt d1 n1 F now ol told 0 oI oB oT (by omega) (by omega) hi1 hx1 _ _ hP hD hS ls (lv_sub hl [0, 1, 2, 3] rfl)
        · exact absurd hr9 c9
      · refine lv_tableIn (off := 147) (tgt := 189) hx hb d_L_law_42 (by decide) (by decide) (by decide) (by decide) ?_
        refine lv_aload_n hx hb d_L_law_189 rfl (lv_at hl 2 rfl) ?_
        refine lv_aload_n hx hb d_L_law_190 rfl (lv_at hl 1 rfl) ?_
        refine lv_iload_n hx hb d_L_law_191 rfl (lv_at hl 0 rfl) ?_
        refine lv_iconst (v := 1) hx hb d_L_law_192 (by decide) ?_
        refine lv_iadd hx hb d_L_law_193 ?_
        rw [nI_1]
        refine gt_sld (k := i + 1) hx hb hX hbl hbA hS (by omega) hL d_L_law_194 ?_
        refine lv_aload_n hx hb d_L_law_195 rfl (lv_at hl 1 rfl) ?_
        refine lv_iload_n hx hb d_L_law_196 rfl (lv_at hl 0 rfl) ?_
        refine lv_iconst (v := 2) hx hb d_L_law_197 (by decide) ?_
        refine lv_iadd hx hb d_L_law_198 ?_
        rw [show nI i + 2 = nI (i + 2) from nI_add _ 2]
        refine gt_sld (k := i + 2) hx hb hX hbl hbA hS (by omega) hL d_L_law_199 ?_
        refine lv_aload_n hx hb d_L_law_200 rfl (lv_at hl 1 rfl) ?_
        refine lv_iload_n hx hb d_L_law_201 rfl (lv_at hl 0 rfl) ?_
        refine lv_iconst (v := 3) hx hb d_L_law_202 (by decide) ?_
        refine lv_iadd hx hb d_L_law_203 ?_
        rw [show nI i + 3 = nI (i + 3) from nI_add _ 3]
        refine gt_sld (k := i + 3) hx hb hX hbl hbA hS (by omega) hL d_L_law_204 ?_
        refine lv_i2l (v := (xs (i + 3)).toInt64) hx hb d_L_law_205 rfl ?_
        refine lv_bipush (v := 32) hx hb d_L_law_206 (by decide) ?_
        refine lv_lshl (v := ((xs (i + 3)).toInt64) <<< ((32 : Int32).toInt64 &&& 63)) hx hb d_L_law_208 rfl ?_
        refine lv_aload_n hx hb d_L_law_209 rfl (lv_at hl 1 rfl) ?_
        refine lv_iload_n hx hb d_L_law_210 rfl (lv_at hl 0 rfl) ?_
        refine lv_iconst (v := 4) hx hb d_L_law_211 (by decide) ?_
        refine lv_iadd hx hb d_L_law_212 ?_
        rw [show nI i + 4 = nI (i + 4) from nI_add _ 4]
        refine gt_sld (k := i + 4) hx hb hX hbl hbA hS (by omega) hL d_L_law_213 ?_
        refine lv_i2l (v := (xs (i + 4)).toInt64) hx hb d_L_law_214 rfl ?_
        refine lv_ldc2 (v := lN 4294967295) hx hb hown (hts _ kw_371) d_L_law_215 ?_
        refine lv_land hx hb d_L_law_218 ?_
        refine lv_lor hx hb d_L_law_219 ?_
        rw [show (xs (i + 3)).toInt64 <<< ((32 : Int32).toInt64 &&& 63) ||| ((xs (i + 4)).toInt64 &&& lN 4294967295) = gt_pk2 (xs (i + 3)) (xs (i + 4)) from rfl]
        have hFc := gt_freeL hD hS hA
        refine va_calli (va_runV (As := [.int (xs (i + 1)), .int (xs (i + 2)), .long (gt_pk2 (xs (i + 3)) (xs (i + 4)))]) (rest := []) ⟨hx, hb, hml, hown, hts⟩ (c_X_order l D H.size xa xc ad S lt d n F now ol told oI oB oT (xs (i + 1)) (xs (i + 2)) (gt_pk2 (xs (i + 3)) (xs (i + 4))) hinv hxr) (cwV 3 hts (tb_inV kw_132 kw_133 kw_134 kw_1 kw_135) rfl rfl rfl (by decide +kernel) ⟨Nat.le_of_ble_eq_true rfl, Nat.le_of_ble_eq_true rfl⟩) (gt_Pre_V gt_XK_mv (va_recv hKX.1 (gt_P_head hP) (ci := 0) (q0 := 0) rfl rfl) (gt_P_head hP) hKX (gt_D_head hD)) rfl rfl hl.1 rfl (lv_room (Nat.le_of_ble_eq_true rfl)) d_L_law_220 ⟨(by show 100 + i + 0 ≤ 600000; omega), (by show 6000 + 6 * i + 0 ≤ 7302250; omega)⟩) hS (fun q _ h => hFc q h) hFc (fun r1 u t9 H1 locs ht9 hvm9 hw1 hB hz1 hk1 hS => ?_)
        obtain ⟨hP1, hD1⟩ := hB
        rw [ht9] at hP1
        obtain ⟨⟨S1, lt1, d1, now1, ol1⟩, F1, oI1, oB1, oT1⟩ := u
        obtain ⟨hP, hD⟩ := gt_joinL hP hD hk1 hFc hP1 hD1
        have hP : va_P D gt_cl (gt_XW xa xc ad S1 lt1 d1 n F1 now1 ol1.length told (d1.2 S1.1).2.2.2.2 oI1 oB1 oT1 ++ gt_MS ma mc thr S lt d n now ol told) H1 := hP
        have hD : va_D (fun q : Nat => s.heap.size ≤ q) (gt_XW xa xc ad S1 lt1 d1 n F1 now1 ol1.length told (d1.2 S1.1).2.2.2.2 oI1 oB1 oT1 ++ gt_MS ma mc thr S lt d n now ol told) := hD
        refine lv_aload_n hx hb d_L_law_223 rfl (lv_at hl 3 rfl) ?_
        refine lv_aload_n hx hb d_L_law_224 rfl (lv_at hl 1 rfl) ?_
        refine lv_iload_n hx hb d_L_law_225 rfl (lv_at hl 0 rfl) ?_
        refine lv_iconst (v := 1) hx hb d_L_law_226 (by decide) ?_
        refine lv_iadd hx hb d_L_law_227 ?_
        rw [nI_1]
        refine gt_sld (k := i + 1) hx hb hX hbl hbA hS (by omega) hL d_L_law_228 ?_
        refine lv_aload_n hx hb d_L_law_229 rfl (lv_at hl 1 rfl) ?_
        refine lv_iload_n hx hb d_L_law_230 rfl (lv_at hl 0 rfl) ?_
        refine lv_iconst (v := 2) hx hb d_L_law_231 (by decide) ?_
        refine lv_iadd hx hb d_L_law_232 ?_
        rw [show nI i + 2 = nI (i + 2) from nI_add _ 2]
        refine gt_sld (k := i + 2) hx hb hX hbl hbA hS (by omega) hL d_L_law_233 ?_
        refine lv_aload_n hx hb d_L_law_234 rfl (lv_at hl 1 rfl) ?_
        refine lv_iload_n hx hb d_L_law_235 rfl (lv_at hl 0 rfl) ?_
        refine lv_iconst (v := 3) hx hb d_L_law_236 (by decide) ?_
        refine lv_iadd hx hb d_L_law_237 ?_
        rw [show nI i + 3 = nI (i + 3) from nI_add _ 3]
        refine gt_sld (k := i + 3) hx hb hX hbl hbA hS (by omega) hL d_L_law_238 ?_
        refine lv_i2l (v := (xs (i + 3)).toInt64) hx hb d_L_law_239 rfl ?_
        refine lv_bipush (v := 32) hx hb d_L_law_240 (by decide) ?_
        refine lv_lshl (v := ((xs (i + 3)).toInt64) <<< ((32 : Int32).toInt64 &&& 63)) hx hb d_L_law_242 rfl ?_
        refine lv_aload_n hx hb d_L_law_243 rfl (lv_at hl 1 rfl) ?_
        refine lv_iload_n hx hb d_L_law_244 rfl (lv_at hl 0 rfl) ?_
        refine lv_iconst (v := 4) hx hb d_L_law_245 (by decide) ?_
        refine lv_iadd hx hb d_L_law_246 ?_
        rw [show nI i + 4 = nI (i + 4) from nI_add _ 4]
        refine gt_sld (k := i + 4) hx hb hX hbl hbA hS (by omega) hL d_L_law_247 ?_
        refine lv_i2l (v := (xs (i + 4)).toInt64) hx hb d_L_law_248 rfl ?_
        refine lv_ldc2 (v := lN 4294967295) hx hb hown (hts _ kw_371) d_L_law_249 ?_
        refine lv_land hx hb d_L_law_252 ?_
        refine lv_lor hx hb d_L_law_253 ?_
        rw [show (xs (i + 3)).toInt64 <<< ((32 : Int32).toInt64 &&& 63) ||| ((xs (i + 4)).toInt64 &&& lN 4294967295) = gt_pk2 (xs (i + 3)) (xs (i + 4)) from rfl]
        have hFc := gt_freeR hD hS hA
        refine va_calli (va_runV (As := [.int (xs (i + 1)), .int (xs (i + 2)), .long (gt_pk2 (xs (i + 3)) (xs (i + 4)))]) (rest := [.int r1]) ⟨hx, hb, hml, hown, hts⟩ (c_M_order l D H1.size ma mc thr S lt d n now ol told (xs (i + 1)) (xs (i + 2)) (gt_pk2 (xs (i + 3)) (xs (i + 4))) hinv) (cwV 3 hts (tb_inV kw_313 kw_314 kw_315 kw_4 kw_316) rfl rfl rfl (by decide +kernel) ⟨Nat.le_of_ble_eq_true rfl, Nat.le_of_ble_eq_true rfl⟩) (gt_Pre_V gt_K_mv (va_recv hKM (gt_P_tail hP) (ci := 3) (q0 := 0) rfl rfl) (gt_P_tail hP) hKM (gt_D_tail hD)) rfl rfl hl.1 rfl (lv_room (Nat.le_of_ble_eq_true rfl)) d_L_law_254 ⟨(by show 100 + i + 0 ≤ 600000; omega), (by show 6000 + 6 * i + 0 ≤ 7302250; omega)⟩) hS (fun q _ h => hFc q h) hFc (fun r2 v t9 H2 locs ht9 hvm9 hw2 hB hz1 hk1 hS => ?_)
        obtain ⟨hP1, hD1⟩ := hB
        rw [ht9] at hP1
        obtain ⟨S2, lt2, d2, now2, ol2⟩ := v
        obtain ⟨hP, hD⟩ := gt_joinR hP hD hk1 hFc hP1 hD1
        have hP : va_P D gt_cl (gt_XW xa xc ad S1 lt1 d1 n F1 now1 ol1.length told (d1.2 S1.1).2.2.2.2 oI1 oB1 oT1 ++ gt_MS ma mc 0 S2 lt2 d2 n now2 ol2 told) H2 := hP
        have hD : va_D (fun q : Nat => s.heap.size ≤ q) (gt_XW xa xc ad S1 lt1 d1 n F1 now1 ol1.length told (d1.2 S1.1).2.2.2.2 oI1 oB1 oT1 ++ gt_MS ma mc 0 S2 lt2 d2 n now2 ol2 told) := hD
        obtain ⟨hw1, hi1, hx1⟩ := hw1
        obtain ⟨hr9, e1⟩ := gt_ROrder_one hn hG hw1 hw2
        cases e1
        refine lv_icmp_eq (tgt := 532) hx hb d_L_law_257 (by decide) (fun c9 => ?_) (fun c9 => ?_)
        · refine lv_iinc (v := nI (i + 5)) (lv' := [(3, .int (nI (i + 5))), (0, .ref b), (1, .ref (xa 0)), (2, .ref (ma 0))]) hx hb d_L_law_532 hl (k := 0) rfl (nI_add _ 5) (by decide) rfl (fun ls hl => ?_)
          refine lv_goto (tgt := 28) hx hb d_L_law_535 (by decide) ?_
          refine W.widen (k := 100 + (i + 5)) (n := 6000 + 6 * (i + 5)) (by omega) (by omega) ?_
          exact ih (i + 5) ad S1 lt1 d1 n F1 now1 ol1 told 0 oI1 oB1 oT1 (by omega) (by omega) hi1 hx1 _ _ hP hD hS ls (lv_sub hl [0, 1, 2, 3] rfl)
        · exact absurd hr9 c9
      · refine lv_tableIn (off := 220) (tgt := 262) hx hb d_L_law_42 (by decide) (by decide) (by decide) (by decide) ?_
        refine lv_aload_n hx hb d_L_law_262 rfl (lv_at hl 2 rfl) ?_
        refine lv_aload_n hx hb d_L_law_263 rfl (lv_at hl 1 rfl) ?_
        refine lv_iload_n hx hb d_L_law_264 rfl (lv_at hl 0 rfl) ?_
        refine lv_iconst (v := 1) hx hb d_L_law_265 (by decide) ?_
        refine lv_iadd hx hb d_L_law_266 ?_
        rw [nI_1]
        refine gt_sld (k := i + 1) hx hb hX hbl hbA hS (by omega) hL d_L_law_267 ?_
        refine lv_i2l (v := (xs (i + 1)).toInt64) hx hb d_L_law_268 rfl ?_
        refine lv_bipush (v := 32) hx hb d_L_law_269 (by decide) ?_
        refine lv_lshl (v := ((xs (i + 1)).toInt64) <<< ((32 : Int32).toInt64 &&& 63)) hx hb d_L_law_271 rfl ?_
        refine lv_aload_n hx hb d_L_law_272 rfl (lv_at hl 1 rfl) ?_
        refine lv_iload_n hx hb d_L_law_273 rfl (lv_at hl 0 rfl) ?_
        refine lv_iconst (v := 2) hx hb d_L_law_274 (by decide) ?_
        refine lv_iadd hx hb d_L_law_275 ?_
        rw [show nI i + 2 = nI (i + 2) from nI_add _ 2]
        refine gt_sld (k := i + 2) hx hb hX hbl hbA hS (by omega) hL d_L_law_276 ?_
        refine lv_i2l (v := (xs (i + 2)).toInt64) hx hb d_L_law_277 rfl ?_
        refine lv_ldc2 (v := lN 4294967295) hx hb hown (hts _ kw_371) d_L_law_278 ?_
        refine lv_land hx hb d_L_law_281 ?_
        refine lv_lor hx hb d_L_law_282 ?_
        rw [show (xs (i + 1)).toInt64 <<< ((32 : Int32).toInt64 &&& 63) ||| ((xs (i + 2)).toInt64 &&& lN 4294967295) = gt_pk2 (xs (i + 1)) (xs (i + 2)) from rfl]
        have hFc := gt_freeL hD hS hA
        refine va_calli (va_runV (As := [.long (gt_pk2 (xs (i + 1)) (xs (i + 2)))]) (rest := []) ⟨hx, hb, hml, hown, hts⟩ (c_X_step l D H.size xa xc ad S lt d n F now ol told oI oB oT (gt_pk2 (xs (i + 1)) (xs (i + 2))) hinv hxr) (cwV 1 hts (tb_inV kw_192 kw_193 kw_194 kw_1 kw_195) rfl rfl rfl (by decide +kernel) ⟨Nat.le_of_ble_eq_true rfl, Nat.le_of_ble_eq_true rfl⟩) (gt_Pre_V gt_XK_mv (va_recv hKX.1 (gt_P_head hP) (ci := 0) (q0 := 0) rfl rfl) (gt_P_head hP) hKX (gt_D_head hD)) rfl rfl hl.1 rfl (lv_room (Nat.le_of_ble_eq_true rfl)) d_L_law_283 ⟨(by show 100 + i + 0 ≤ 600000; omega), (by show 6000 + 6 * i + 0 ≤ 7302250; omega)⟩) hS (fun q _ h => hFc q h) hFc (fun r1 u t9 H1 locs ht9 hvm9 hw1 hB hz1 hk1 hS => ?_)
        obtain ⟨hP1, hD1⟩ := hB
        rw [ht9] at hP1
        obtain ⟨⟨⟨S1, lt1, d1, now1, ol1⟩, F1, oI1, oB1, oT1⟩, told1⟩ := u
        obtain ⟨hP, hD⟩ := gt_joinL hP hD hk1 hFc hP1 hD1
        have hP : va_P D gt_cl (gt_XW xa xc ad S1 lt1 d1 n F1 now1 ol1.length told1 (d1.2 S1.1).2.2.2.2 oI1 oB1 oT1 ++ gt_MS ma mc thr S lt d n now ol told) H1 := hP
        have hD : va_D (fun q : Nat => s.heap.size ≤ q) (gt_XW xa xc ad S1 lt1 d1 n F1 now1 ol1.length told1 (d1.2 S1.1).2.2.2.2 oI1 oB1 oT1 ++ gt_MS ma mc thr S lt d n now ol told) := hD
        refine lv_aload_n hx hb d_L_law_286 rfl (lv_at hl 3 rfl) ?_
        refine lv_aload_n hx hb d_L_law_287 rfl (lv_at hl 1 rfl) ?_
        refine lv_iload_n hx hb d_L_law_288 rfl (lv_at hl 0 rfl) ?_
        refine lv_iconst (v := 1) hx hb d_L_law_289 (by decide) ?_
        refine lv_iadd hx hb d_L_law_290 ?_
        rw [nI_1]
        refine gt_sld (k := i + 1) hx hb hX hbl hbA hS (by omega) hL d_L_law_291 ?_
        refine lv_i2l (v := (xs (i + 1)).toInt64) hx hb d_L_law_292 rfl ?_
        refine lv_bipush (v := 32) hx hb d_L_law_293 (by decide) ?_
        refine lv_lshl (v := ((xs (i + 1)).toInt64) <<< ((32 : Int32).toInt64 &&& 63)) hx hb d_L_law_295 rfl ?_
        refine lv_aload_n hx hb d_L_law_296 rfl (lv_at hl 1 rfl) ?_
        refine lv_iload_n hx hb d_L_law_297 rfl (lv_at hl 0 rfl) ?_
        refine lv_iconst (v := 2) hx hb d_L_law_298 (by decide) ?_
        refine lv_iadd hx hb d_L_law_299 ?_
        rw [show nI i + 2 = nI (i + 2) from nI_add _ 2]
        refine gt_sld (k := i + 2) hx hb hX hbl hbA hS (by omega) hL d_L_law_300 ?_
        refine lv_i2l (v := (xs (i + 2)).toInt64) hx hb d_L_law_301 rfl ?_
        refine lv_ldc2 (v := lN 4294967295) hx hb hown (hts _ kw_371) d_L_law_302 ?_
        refine lv_land hx hb d_L_law_305 ?_
        refine lv_lor hx hb d_L_law_306 ?_
        rw [show (xs (i + 1)).toInt64 <<< ((32 : Int32).toInt64 &&& 63) ||| ((xs (i + 2)).toInt64 &&& lN 4294967295) = gt_pk2 (xs (i + 1)) (xs (i + 2)) from rfl]
        have hFc := gt_freeR hD hS hA
        refine va_calli (va_runV (As := [.long (gt_pk2 (xs (i + 1)) (xs (i + 2)))]) (rest := [.int r1]) ⟨hx, hb, hml, hown, hts⟩ (c_M_step l D H1.size ma mc thr S lt d n now ol told (gt_pk2 (xs (i + 1)) (xs (i + 2))) hinv) (cwV 1 hts (tb_inV kw_339 kw_340 kw_341 kw_4 kw_342) rfl rfl rfl (by decide +kernel) ⟨Nat.le_of_ble_eq_true rfl, Nat.le_of_ble_eq_true rfl⟩) (gt_Pre_V gt_K_mv (va_recv hKM (gt_P_tail hP) (ci := 3) (q0 := 0) rfl rfl) (gt_P_tail hP) hKM (gt_D_tail hD)) rfl rfl hl.1 rfl (lv_room (Nat.le_of_ble_eq_true rfl)) d_L_law_307 ⟨(by show 100 + i + 0 ≤ 600000; omega), (by show 6000 + 6 * i + 0 ≤ 7302250; omega)⟩) hS (fun q _ h => hFc q h) hFc (fun r2 v t9 H2 locs ht9 hvm9 hw2 hB hz1 hk1 hS => ?_)
        obtain ⟨hP1, hD1⟩ := hB
        rw [ht9] at hP1
        obtain ⟨⟨S2, lt2, d2, now2, ol2⟩, told2⟩ := v
        obtain ⟨hP, hD⟩ := gt_joinR hP hD hk1 hFc hP1 hD1
        have hP : va_P D gt_cl (gt_XW xa xc ad S1 lt1 d1 n F1 now1 ol1.length told1 (d1.2 S1.1).2.2.2.2 oI1 oB1 oT1 ++ gt_MS ma mc 0 S2 lt2 d2 n now2 ol2 told2) H2 := hP
        have hD : va_D (fun q : Nat => s.heap.size ≤ q) (gt_XW xa xc ad S1 lt1 d1 n F1 now1 ol1.length told1 (d1.2 S1.1).2.2.2.2 oI1 oB1 oT1 ++ gt_MS ma mc 0 S2 lt2 d2 n now2 ol2 told2) := hD
        obtain ⟨hw1, hi1, hx1⟩ := hw1
        obtain ⟨hr9, e1, e2⟩ := gt_RStep_one hw1 hw2
        cases e1
        dsimp only at e2
        subst e2
        refine lv_icmp_eq (tgt := 532) hx hb d_L_law_310 (by decide) (fun c9 => ?_) (fun c9 => ?_)
        · refine lv_iinc (v := nI (i + 5)) (lv' := [(3, .int (nI (i + 5))), (0, .ref b), (1, .ref (xa 0)), (2, .ref (ma 0))]) hx hb d_L_law_532 hl (k := 0) rfl (nI_add _ 5) (by decide) rfl (fun ls hl => ?_)
          refine lv_goto (tgt := 28) hx hb d_L_law_535 (by decide) ?_
          refine W.widen (k := 100 + (i + 5)) (n := 6000 + 6 * (i + 5)) (by omega) (by omega) ?_
          exact ih (i + 5) ad S1 lt1 d1 n F1 now1 ol1 told1 0 oI1 oB1 oT1 (by omega) (by omega) hi1 hx1 _ _ hP hD hS ls (lv_sub hl [0, 1, 2, 3] rfl)
        · exact absurd hr9 c9
      · refine lv_tableIn (off := 273) (tgt := 315) hx hb d_L_law_42 (by decide) (by decide) (by decide) (by decide) ?_
        refine lv_aload_n hx hb d_L_law_315 rfl (lv_at hl 2 rfl) ?_
        refine lv_aload_n hx hb d_L_law_316 rfl (lv_at hl 1 rfl) ?_
        refine lv_iload_n hx hb d_L_law_317 rfl (lv_at hl 0 rfl) ?_
        refine lv_iconst (v := 1) hx hb d_L_law_318 (by decide) ?_
        refine lv_iadd hx hb d_L_law_319 ?_
        rw [nI_1]
        refine gt_sld (k := i + 1) hx hb hX hbl hbA hS (by omega) hL d_L_law_320 ?_
        refine lv_aload_n hx hb d_L_law_321 rfl (lv_at hl 1 rfl) ?_
        refine lv_iload_n hx hb d_L_law_322 rfl (lv_at hl 0 rfl) ?_
        refine lv_iconst (v := 2) hx hb d_L_law_323 (by decide) ?_
        refine lv_iadd hx hb d_L_law_324 ?_
        rw [show nI i + 2 = nI (i + 2) from nI_add _ 2]
        refine gt_sld (k := i + 2) hx hb hX hbl hbA hS (by omega) hL d_L_law_325 ?_
        refine vp_callSi (va_runV (As := [.int (xs (i + 1)), .int (xs (i + 2))]) (rest := []) ⟨hx, hb, hml, hown, hts⟩ (c_X_out l D xa xc ad S lt d n F now ol told oI oB oT (xs (i + 1)) (xs (i + 2)) hinv hxr) (cwV 2 hts (tb_inV kw_196 kw_197 kw_198 kw_1 kw_199) rfl rfl rfl (by decide +kernel) ⟨Nat.le_of_ble_eq_true rfl, Nat.le_of_ble_eq_true rfl⟩) (gt_PreP_V gt_XK_mv (va_recv hKX.1 (gt_P_head hP) (ci := 0) (q0 := 0) rfl rfl) (gt_P_head hP) hKX) rfl rfl hl.1 rfl (lv_room (Nat.le_of_ble_eq_true rfl)) d_L_law_326 ⟨(by show 100 + i + 0 ≤ 600000; omega), (by show 6000 + 6 * i + 0 ≤ 7302250; omega)⟩).run (fun r1 hw1 => ?_)
        refine lv_aload_n hx hb d_L_law_329 rfl (lv_at hl 3 rfl) ?_
        refine lv_aload_n hx hb d_L_law_330 rfl (lv_at hl 1 rfl) ?_
        refine lv_iload_n hx hb d_L_law_331 rfl (lv_at hl 0 rfl) ?_
        refine lv_iconst (v := 1) hx hb d_L_law_332 (by decide) ?_
        refine lv_iadd hx hb d_L_law_333 ?_
        rw [nI_1]
        refine gt_sld (k := i + 1) hx hb hX hbl hbA hS (by omega) hL d_L_law_334 ?_
        refine lv_aload_n hx hb d_L_law_335 rfl (lv_at hl 1 rfl) ?_
        refine lv_iload_n hx hb d_L_law_336 rfl (lv_at hl 0 rfl) ?_
        refine lv_iconst (v := 2) hx hb d_L_law_337 (by decide) ?_
        refine lv_iadd hx hb d_L_law_338 ?_
        rw [show nI i + 2 = nI (i + 2) from nI_add _ 2]
        refine gt_sld (k := i + 2) hx hb hX hbl hbA hS (by omega) hL d_L_law_339 ?_
        have hFc := gt_freeR hD hS hA
        refine va_calli (va_runV (As := [.int (xs (i + 1)), .int (xs (i + 2))]) (rest := [.int r1]) ⟨hx, hb, hml, hown, hts⟩ (c_M_out l D H.size ma mc thr S lt d n now ol told (xs (i + 1)) (xs (i + 2)) hinv) (cwV 2 hts (tb_inV kw_343 kw_344 kw_345 kw_4 kw_346) rfl rfl rfl (by decide +kernel) ⟨Nat.le_of_ble_eq_true rfl, Nat.le_of_ble_eq_true rfl⟩) (gt_Pre_V gt_K_mv (va_recv hKM (gt_P_tail hP) (ci := 3) (q0 := 0) rfl rfl) (gt_P_tail hP) hKM (gt_D_tail hD)) rfl rfl hl.1 rfl (lv_room (Nat.le_of_ble_eq_true rfl)) d_L_law_340 ⟨(by show 100 + i + 0 ≤ 600000; omega), (by show 6000 + 6 * i + 0 ≤ 7302250; omega)⟩) hS (fun q _ h => hFc q h) hFc (fun r2 v t9 H2 locs ht9 hvm9 hw2 hB hz1 hk1 hS => ?_)
        obtain ⟨hP1, hD1⟩ := hB
        rw [ht9] at hP1
        obtain ⟨hP, hD⟩ := gt_joinR hP hD hk1 hFc hP1 hD1
        have hP : va_P D gt_cl (gt_XW xa xc ad S lt d n F now ol.length told (d.2 S.1).2.2.2.2 oI oB oT ++ gt_MS ma mc 0 S lt d n now ol told) H2 := hP
        have hD : va_D (fun q : Nat => s.heap.size ≤ q) (gt_XW xa xc ad S lt d n F now ol.length told (d.2 S.1).2.2.2.2 oI oB oT ++ gt_MS ma mc 0 S lt d n now ol told) := hD
        have hr9 := gt_ROut_one (by omega) hw1 hw2
        refine lv_icmp_eq (tgt := 532) hx hb d_L_law_343 (by decide) (fun c9 => ?_) (fun c9 => ?_)
        · refine lv_iinc (v := nI (i + 5)) (lv' := [(3, .int (nI (i + 5))), (0, .ref b), (1, .ref (xa 0)), (2, .ref (ma 0))]) hx hb d_L_law_532 hl (k := 0) rfl (nI_add _ 5) (by decide) rfl (fun ls hl => ?_)
          refine lv_goto (tgt := 28) hx hb d_L_law_535 (by decide) ?_
          refine W.widen (k := 100 + (i + 5)) (n := 6000 + 6 * (i + 5)) (by omega) (by omega) ?_
          exact ih (i + 5) ad S lt d n F now ol told 0 oI oB oT (by omega) (by omega) hinv hxr _ _ hP hD hS ls (lv_sub hl [0, 1, 2, 3] rfl)
        · exact absurd hr9 c9
      · refine lv_tableIn (off := 306) (tgt := 348) hx hb d_L_law_42 (by decide) (by decide) (by decide) (by decide) ?_
        refine lv_aload_n hx hb d_L_law_348 rfl (lv_at hl 2 rfl) ?_
        refine lv_aload_n hx hb d_L_law_349 rfl (lv_at hl 1 rfl) ?_
        refine lv_iload_n hx hb d_L_law_350 rfl (lv_at hl 0 rfl) ?_
        refine lv_iconst (v := 1) hx hb d_L_law_351 (by decide) ?_
        refine lv_iadd hx hb d_L_law_352 ?_
        rw [nI_1]
        refine gt_sld (k := i + 1) hx hb hX hbl hbA hS (by omega) hL d_L_law_353 ?_
        refine lv_aload_n hx hb d_L_law_354 rfl (lv_at hl 1 rfl) ?_
        refine lv_iload_n hx hb d_L_law_355 rfl (lv_at hl 0 rfl) ?_
        refine lv_iconst (v := 2) hx hb d_L_law_356 (by decide) ?_
        refine lv_iadd hx hb d_L_law_357 ?_
        rw [show nI i + 2 = nI (i + 2) from nI_add _ 2]
        refine gt_sld (k := i + 2) hx hb hX hbl hbA hS (by omega) hL d_L_law_358 ?_
        have hFc := gt_freeL hD hS hA
        refine va_calli (va_runV (As := [.int (xs (i + 1)), .int (xs (i + 2))]) (rest := []) ⟨hx, hb, hml, hown, hts⟩ (c_X_height l D H.size xa xc ad S lt d n F now ol told oI oB oT (xs (i + 1)) (xs (i + 2)) hinv hxr) (cwV 2 hts (tb_inV kw_200 kw_201 kw_202 kw_1 kw_203) rfl rfl rfl (by decide +kernel) ⟨Nat.le_of_ble_eq_true rfl, Nat.le_of_ble_eq_true rfl⟩) (gt_Pre_V gt_XK_mv (va_recv hKX.1 (gt_P_head hP) (ci := 0) (q0 := 0) rfl rfl) (gt_P_head hP) hKX (gt_D_head hD)) rfl rfl hl.1 rfl (lv_room (Nat.le_of_ble_eq_true rfl)) d_L_law_359 ⟨(by show 100 + i + 0 ≤ 600000; omega), (by show 6000 + 6 * i + 0 ≤ 7302250; omega)⟩) hS (fun q _ h => hFc q h) hFc (fun r1 u t9 H1 locs ht9 hvm9 hw1 hB hz1 hk1 hS => ?_)
        obtain ⟨hP1, hD1⟩ := hB
        rw [ht9] at hP1
        have hw1 := hw1
        obtain ⟨hP, hD⟩ := gt_joinL hP hD hk1 hFc hP1 hD1
        have hP : va_P D gt_cl (gt_XW xa xc ad (S.1, S.2.1, S.2.2.1, S.2.2.2.1, S.2.2.2.2.1, u) lt d n F now ol.length told (d.2 (S.1, S.2.1, S.2.2.1, S.2.2.2.1, S.2.2.2.2.1, u).1).2.2.2.2 oI oB oT ++ gt_MS ma mc thr S lt d n now ol told) H1 := hP
        have hD : va_D (fun q : Nat => s.heap.size ≤ q) (gt_XW xa xc ad (S.1, S.2.1, S.2.2.1, S.2.2.2.1, S.2.2.2.2.1, u) lt d n F now ol.length told (d.2 (S.1, S.2.1, S.2.2.1, S.2.2.2.1, S.2.2.2.2.1, u).1).2.2.2.2 oI oB oT ++ gt_MS ma mc thr S lt d n now ol told) := hD
        refine lv_aload_n hx hb d_L_law_362 rfl (lv_at hl 3 rfl) ?_
        refine lv_aload_n hx hb d_L_law_363 rfl (lv_at hl 1 rfl) ?_
        refine lv_iload_n hx hb d_L_law_364 rfl (lv_at hl 0 rfl) ?_
        refine lv_iconst (v := 1) hx hb d_L_law_365 (by decide) ?_
        refine lv_iadd hx hb d_L_law_366 ?_
        rw [nI_1]
        refine gt_sld (k := i + 1) hx hb hX hbl hbA hS (by omega) hL d_L_law_367 ?_
        refine lv_aload_n hx hb d_L_law_368 rfl (lv_at hl 1 rfl) ?_
        refine lv_iload_n hx hb d_L_law_369 rfl (lv_at hl 0 rfl) ?_
        refine lv_iconst (v := 2) hx hb d_L_law_370 (by decide) ?_
        refine lv_iadd hx hb d_L_law_371 ?_
        rw [show nI i + 2 = nI (i + 2) from nI_add _ 2]
        refine gt_sld (k := i + 2) hx hb hX hbl hbA hS (by omega) hL d_L_law_372 ?_
        have hFc := gt_freeR hD hS hA
        refine va_calli (va_runV (As := [.int (xs (i + 1)), .int (xs (i + 2))]) (rest := [.int r1]) ⟨hx, hb, hml, hown, hts⟩ (c_M_height l D H1.size ma mc thr S lt d n now ol told (xs (i + 1)) (xs (i + 2)) hinv) (cwV 2 hts (tb_inV kw_347 kw_348 kw_349 kw_4 kw_350) rfl rfl rfl (by decide +kernel) ⟨Nat.le_of_ble_eq_true rfl, Nat.le_of_ble_eq_true rfl⟩) (gt_Pre_V gt_K_mv (va_recv hKM (gt_P_tail hP) (ci := 3) (q0 := 0) rfl rfl) (gt_P_tail hP) hKM (gt_D_tail hD)) rfl rfl hl.1 rfl (lv_room (Nat.le_of_ble_eq_true rfl)) d_L_law_373 ⟨(by show 100 + i + 0 ≤ 600000; omega), (by show 6000 + 6 * i + 0 ≤ 7302250; omega)⟩) hS (fun q _ h => hFc q h) hFc (fun r2 v t9 H2 locs ht9 hvm9 hw2 hB hz1 hk1 hS => ?_)
        obtain ⟨hP1, hD1⟩ := hB
        rw [ht9] at hP1
        obtain ⟨hP, hD⟩ := gt_joinR hP hD hk1 hFc hP1 hD1
        have hP : va_P D gt_cl (gt_XW xa xc ad (S.1, S.2.1, S.2.2.1, S.2.2.2.1, S.2.2.2.2.1, u) lt d n F now ol.length told (d.2 (S.1, S.2.1, S.2.2.1, S.2.2.2.1, S.2.2.2.2.1, u).1).2.2.2.2 oI oB oT ++ gt_MS ma mc 0 (S.1, S.2.1, S.2.2.1, S.2.2.2.1, S.2.2.2.2.1, v) lt d n now ol told) H2 := hP
        have hD : va_D (fun q : Nat => s.heap.size ≤ q) (gt_XW xa xc ad (S.1, S.2.1, S.2.2.1, S.2.2.2.1, S.2.2.2.2.1, u) lt d n F now ol.length told (d.2 (S.1, S.2.1, S.2.2.1, S.2.2.2.1, S.2.2.2.2.1, u).1).2.2.2.2 oI oB oT ++ gt_MS ma mc 0 (S.1, S.2.1, S.2.2.1, S.2.2.2.1, S.2.2.2.2.1, v) lt d n now ol told) := hD
        obtain ⟨hr9, e1⟩ : r1 = r2 ∧ u = v := by
          refine gt_RBin_one hG hw1 hw2 (fun g hg p1 p2 => ?_) (fun q a b => ⟨q, a.trans b.symm⟩)
          rcases p1 with ⟨x1, x2, x3⟩ | ⟨x1, x2, x3⟩ <;> rcases p2 with ⟨y1, y2, y3⟩ | ⟨y1, y2, y3⟩
          · exact ⟨x2.trans y2.symm, x3.trans y3.symm⟩
          · exact absurd y1 x1
          · exact absurd x1 y1
          · exact ⟨x2.trans y2.symm, x3.trans y3.symm⟩
        subst e1
        refine lv_icmp_eq (tgt := 532) hx hb d_L_law_376 (by decide) (fun c9 => ?_) (fun c9 => ?_)
        · refine lv_iinc (v := nI (i + 5)) (lv' := [(3, .int (nI (i + 5))), (0, .ref b), (1, .ref (xa 0)), (2, .ref (ma 0))]) hx hb d_L_law_532 hl (k := 0) rfl (nI_add _ 5) (by decide) rfl (fun ls hl => ?_)
          refine lv_goto (tgt := 28) hx hb d_L_law_535 (by decide) ?_
          refine W.widen (k := 100 + (i + 5)) (n := 6000 + 6 * (i + 5)) (by omega) (by omega) ?_
          exact ih (i + 5) ad (S.1, S.2.1, S.2.2.1, S.2.2.2.1, S.2.2.2.2.1, u) lt d n F now ol told 0 oI oB oT (by omega) (by omega) hinv hxr _ _ hP hD hS ls (lv_sub hl [0, 1, 2, 3] rfl)
        · exact absurd hr9 c9
      · refine lv_tableIn (off := 339) (tgt := 381) hx hb d_L_law_42 (by decide) (by decide) (by decide) (by decide) ?_
        refine lv_aload_n hx hb d_L_law_381 rfl (lv_at hl 2 rfl) ?_
        refine lv_aload_n hx hb d_L_law_382 rfl (lv_at hl 1 rfl) ?_
        refine lv_iload_n hx hb d_L_law_383 rfl (lv_at hl 0 rfl) ?_
        refine lv_iconst (v := 1) hx hb d_L_law_384 (by decide) ?_
        refine lv_iadd hx hb d_L_law_385 ?_
        rw [nI_1]
        refine gt_sld (k := i + 1) hx hb hX hbl hbA hS (by omega) hL d_L_law_386 ?_
        have hFc := gt_freeL hD hS hA
        refine va_calli (va_runV (As := [.int (xs (i + 1))]) (rest := []) ⟨hx, hb, hml, hown, hts⟩ (c_X_swap l D H.size xa xc ad S lt d n F now ol told oI oB oT (xs (i + 1)) hinv hxr) (cwV 1 hts (tb_inV kw_205 kw_206 kw_207 kw_1 kw_208) rfl rfl rfl (by decide +kernel) ⟨Nat.le_of_ble_eq_true rfl, Nat.le_of_ble_eq_true rfl⟩) (gt_Pre_V gt_XK_mv (va_recv hKX.1 (gt_P_head hP) (ci := 0) (q0 := 0) rfl rfl) (gt_P_head hP) hKX (gt_D_head hD)) rfl rfl hl.1 rfl (lv_room (Nat.le_of_ble_eq_true rfl)) d_L_law_387 ⟨(by show 100 + i + 0 ≤ 600000; omega), (by show 6000 + 6 * i + 0 ≤ 7302250; omega)⟩) hS (fun q _ h => hFc q h) hFc (fun r1 u t9 H1 locs ht9 hvm9 hw1 hB hz1 hk1 hS => ?_)
        obtain ⟨hP1, hD1⟩ := hB
        rw [ht9] at hP1
        have hrej : (u S.1).2.2.2.2 = (d.2 S.1).2.2.2.2 := gt_swap_rej hw1
        obtain ⟨hP, hD⟩ := gt_joinL hP hD hk1 hFc hP1 hD1
        have hP : va_P D gt_cl (gt_XW xa xc ad S lt (d.1, u) n F now ol.length told (d.2 S.1).2.2.2.2 oI oB oT ++ gt_MS ma mc thr S lt d n now ol told) H1 := hP
        have hD : va_D (fun q : Nat => s.heap.size ≤ q) (gt_XW xa xc ad S lt (d.1, u) n F now ol.length told (d.2 S.1).2.2.2.2 oI oB oT ++ gt_MS ma mc thr S lt d n now ol told) := hD
        rw [← hrej] at hP hD
        have hP : va_P D gt_cl (gt_XW xa xc ad S lt (d.1, u) n F now ol.length told ((d.1, u).2 S.1).2.2.2.2 oI oB oT ++ gt_MS ma mc thr S lt d n now ol told) H1 := hP
        have hD : va_D (fun q : Nat => s.heap.size ≤ q) (gt_XW xa xc ad S lt (d.1, u) n F now ol.length told ((d.1, u).2 S.1).2.2.2.2 oI oB oT ++ gt_MS ma mc thr S lt d n now ol told) := hD
        refine lv_aload_n hx hb d_L_law_390 rfl (lv_at hl 3 rfl) ?_
        refine lv_aload_n hx hb d_L_law_391 rfl (lv_at hl 1 rfl) ?_
        refine lv_iload_n hx hb d_L_law_392 rfl (lv_at hl 0 rfl) ?_
        refine lv_iconst (v := 1) hx hb d_L_law_393 (by decide) ?_
        refine lv_iadd hx hb d_L_law_394 ?_
        rw [nI_1]
        refine gt_sld (k := i + 1) hx hb hX hbl hbA hS (by omega) hL d_L_law_395 ?_
        have hFc := gt_freeR hD hS hA
        refine va_calli (va_runV (As := [.int (xs (i + 1))]) (rest := [.int r1]) ⟨hx, hb, hml, hown, hts⟩ (c_M_swap l D H1.size ma mc thr S lt d n now ol told (xs (i + 1)) hinv) (cwV 1 hts (tb_inV kw_351 kw_352 kw_353 kw_4 kw_354) rfl rfl rfl (by decide +kernel) ⟨Nat.le_of_ble_eq_true rfl, Nat.le_of_ble_eq_true rfl⟩) (gt_Pre_V gt_K_mv (va_recv hKM (gt_P_tail hP) (ci := 3) (q0 := 0) rfl rfl) (gt_P_tail hP) hKM (gt_D_tail hD)) rfl rfl hl.1 rfl (lv_room (Nat.le_of_ble_eq_true rfl)) d_L_law_396 ⟨(by show 100 + i + 0 ≤ 600000; omega), (by show 6000 + 6 * i + 0 ≤ 7302250; omega)⟩) hS (fun q _ h => hFc q h) hFc (fun r2 v t9 H2 locs ht9 hvm9 hw2 hB hz1 hk1 hS => ?_)
        obtain ⟨hP1, hD1⟩ := hB
        rw [ht9] at hP1
        obtain ⟨hP, hD⟩ := gt_joinR hP hD hk1 hFc hP1 hD1
        have hP : va_P D gt_cl (gt_XW xa xc ad S lt (d.1, u) n F now ol.length told ((d.1, u).2 S.1).2.2.2.2 oI oB oT ++ gt_MS ma mc 0 S lt (d.1, v) n now ol told) H2 := hP
        have hD : va_D (fun q : Nat => s.heap.size ≤ q) (gt_XW xa xc ad S lt (d.1, u) n F now ol.length told ((d.1, u).2 S.1).2.2.2.2 oI oB oT ++ gt_MS ma mc 0 S lt (d.1, v) n now ol told) := hD
        have hi1 := gt_Inv_swap hinv hw1
        obtain ⟨hr9, e1⟩ : r1 = r2 ∧ u = v := gt_RBin_one hG hw1 hw2 (fun g hg p1 p2 => ⟨p1.1.trans p2.1.symm, p1.2.trans p2.2.symm⟩) (fun q a b => ⟨q, a.trans b.symm⟩)
        subst e1
        refine lv_icmp_eq (tgt := 532) hx hb d_L_law_399 (by decide) (fun c9 => ?_) (fun c9 => ?_)
        · refine lv_iinc (v := nI (i + 5)) (lv' := [(3, .int (nI (i + 5))), (0, .ref b), (1, .ref (xa 0)), (2, .ref (ma 0))]) hx hb d_L_law_532 hl (k := 0) rfl (nI_add _ 5) (by decide) rfl (fun ls hl => ?_)
          refine lv_goto (tgt := 28) hx hb d_L_law_535 (by decide) ?_
          refine W.widen (k := 100 + (i + 5)) (n := 6000 + 6 * (i + 5)) (by omega) (by omega) ?_
          exact ih (i + 5) ad S lt (d.1, u) n F now ol told 0 oI oB oT (by omega) (by omega) hi1 hxr _ _ hP hD hS ls (lv_sub hl [0, 1, 2, 3] rfl)
        · exact absurd hr9 c9
      · refine lv_tableIn (off := 362) (tgt := 404) hx hb d_L_law_42 (by decide) (by decide) (by decide) (by decide) ?_
        refine lv_aload_n hx hb d_L_law_404 rfl (lv_at hl 2 rfl) ?_
        refine lv_aload_n hx hb d_L_law_405 rfl (lv_at hl 1 rfl) ?_
        refine lv_iload_n hx hb d_L_law_406 rfl (lv_at hl 0 rfl) ?_
        refine lv_iconst (v := 1) hx hb d_L_law_407 (by decide) ?_
        refine lv_iadd hx hb d_L_law_408 ?_
        rw [nI_1]
        refine gt_sld (k := i + 1) hx hb hX hbl hbA hS (by omega) hL d_L_law_409 ?_
        refine lv_aload_n hx hb d_L_law_410 rfl (lv_at hl 1 rfl) ?_
        refine lv_iload_n hx hb d_L_law_411 rfl (lv_at hl 0 rfl) ?_
        refine lv_iconst (v := 2) hx hb d_L_law_412 (by decide) ?_
        refine lv_iadd hx hb d_L_law_413 ?_
        rw [show nI i + 2 = nI (i + 2) from nI_add _ 2]
        refine gt_sld (k := i + 2) hx hb hX hbl hbA hS (by omega) hL d_L_law_414 ?_
        refine lv_if_eq (tgt := 422) hx hb d_L_law_415 (by decide) (fun c2 => ?_) (fun c2 => ?_)
        · refine lv_iconst (v := 0) hx hb d_L_law_422 (by decide) ?_
          have hFc := gt_freeL hD hS hA
          refine va_calli (va_runV (As := [.int (xs (i + 1)), .int 0]) (rest := []) ⟨hx, hb, hml, hown, hts⟩ (c_X_stuck l D H.size xa xc ad S lt d n F now ol told oI oB oT (xs (i + 1)) 0 hinv hxr (Or.inl rfl)) (cwV 2 hts (tb_inV kw_209 kw_210 kw_211 kw_1 kw_212) rfl rfl rfl (by decide +kernel) ⟨Nat.le_of_ble_eq_true rfl, Nat.le_of_ble_eq_true rfl⟩) (gt_Pre_V gt_XK_mv (va_recv hKX.1 (gt_P_head hP) (ci := 0) (q0 := 0) rfl rfl) (gt_P_head hP) hKX (gt_D_head hD)) rfl rfl hl.1 rfl (lv_room (Nat.le_of_ble_eq_true rfl)) d_L_law_423 ⟨(by show 100 + i + 0 ≤ 600000; omega), (by show 6000 + 6 * i + 0 ≤ 7302250; omega)⟩) hS (fun q _ h => hFc q h) hFc (fun r1 u t9 H1 locs ht9 hvm9 hw1 hB hz1 hk1 hS => ?_)
          obtain ⟨hP1, hD1⟩ := hB
          rw [ht9] at hP1
          have hw1 := hw1
          obtain ⟨hP, hD⟩ := gt_joinL hP hD hk1 hFc hP1 hD1
          have hP : va_P D gt_cl (gt_XW xa xc ad (S.1, S.2.1, S.2.2.1, S.2.2.2.1, u, S.2.2.2.2.2) lt d n F now ol.length told (d.2 (S.1, S.2.1, S.2.2.1, S.2.2.2.1, u, S.2.2.2.2.2).1).2.2.2.2 oI oB oT ++ gt_MS ma mc thr S lt d n now ol told) H1 := hP
          have hD : va_D (fun q : Nat => s.heap.size ≤ q) (gt_XW xa xc ad (S.1, S.2.1, S.2.2.1, S.2.2.2.1, u, S.2.2.2.2.2) lt d n F now ol.length told (d.2 (S.1, S.2.1, S.2.2.1, S.2.2.2.1, u, S.2.2.2.2.2).1).2.2.2.2 oI oB oT ++ gt_MS ma mc thr S lt d n now ol told) := hD
          refine lv_aload_n hx hb d_L_law_426 rfl (lv_at hl 3 rfl) ?_
          refine lv_aload_n hx hb d_L_law_427 rfl (lv_at hl 1 rfl) ?_
          refine lv_iload_n hx hb d_L_law_428 rfl (lv_at hl 0 rfl) ?_
          refine lv_iconst (v := 1) hx hb d_L_law_429 (by decide) ?_
          refine lv_iadd hx hb d_L_law_430 ?_
          rw [nI_1]
          refine gt_sld (k := i + 1) hx hb hX hbl hbA hS (by omega) hL d_L_law_431 ?_
          refine lv_aload_n hx hb d_L_law_432 rfl (lv_at hl 1 rfl) ?_
          refine lv_iload_n hx hb d_L_law_433 rfl (lv_at hl 0 rfl) ?_
          refine lv_iconst (v := 2) hx hb d_L_law_434 (by decide) ?_
          refine lv_iadd hx hb d_L_law_435 ?_
          rw [show nI i + 2 = nI (i + 2) from nI_add _ 2]
          refine gt_sld (k := i + 2) hx hb hX hbl hbA hS (by omega) hL d_L_law_436 ?_
          refine lv_if_eq (tgt := 444) hx hb d_L_law_437 (by decide) (fun c3 => ?_) (fun c3 => ?_)
          · refine lv_iconst (v := 0) hx hb d_L_law_444 (by decide) ?_
            have hFc := gt_freeR hD hS hA
            refine va_calli (va_runV (As := [.int (xs (i + 1)), .int 0]) (rest := [.int r1]) ⟨hx, hb, hml, hown, hts⟩ (c_M_stuck l D H1.size ma mc thr S lt d n now ol told (xs (i + 1)) 0 hinv (Or.inl rfl)) (cwV 2 hts (tb_inV kw_355 kw_356 kw_357 kw_4 kw_358) rfl rfl rfl (by decide +kernel) ⟨Nat.le_of_ble_eq_true rfl, Nat.le_of_ble_eq_true rfl⟩) (gt_Pre_V gt_K_mv (va_recv hKM (gt_P_tail hP) (ci := 3) (q0 := 0) rfl rfl) (gt_P_tail hP) hKM (gt_D_tail hD)) rfl rfl hl.1 rfl (lv_room (Nat.le_of_ble_eq_true rfl)) d_L_law_445 ⟨(by show 100 + i + 0 ≤ 600000; omega), (by show 6000 + 6 * i + 0 ≤ 7302250; omega)⟩) hS (fun q _ h => hFc q h) hFc (fun r2 v t9 H2 locs ht9 hvm9 hw2 hB hz1 hk1 hS => ?_)
            obtain ⟨hP1, hD1⟩ := hB
            rw [ht9] at hP1
            obtain ⟨hP, hD⟩ := gt_joinR hP hD hk1 hFc hP1 hD1
            have hP : va_P D gt_cl (gt_XW xa xc ad (S.1, S.2.1, S.2.2.1, S.2.2.2.1, u, S.2.2.2.2.2) lt d n F now ol.length told (d.2 (S.1, S.2.1, S.2.2.1, S.2.2.2.1, u, S.2.2.2.2.2).1).2.2.2.2 oI oB oT ++ gt_MS ma mc 0 (S.1, S.2.1, S.2.2.1, S.2.2.2.1, v, S.2.2.2.2.2) lt d n now ol told) H2 := hP
            have hD : va_D (fun q : Nat => s.heap.size ≤ q) (gt_XW xa xc ad (S.1, S.2.1, S.2.2.1, S.2.2.2.1, u, S.2.2.2.2.2) lt d n F now ol.length told (d.2 (S.1, S.2.1, S.2.2.1, S.2.2.2.1, u, S.2.2.2.2.2).1).2.2.2.2 oI oB oT ++ gt_MS ma mc 0 (S.1, S.2.1, S.2.2.1, S.2.2.2.1, v, S.2.2.2.2.2) lt d n now ol told) := hD
            obtain ⟨hr9, e1⟩ : r1 = r2 ∧ u = v := by
              refine gt_RBin_one hG hw1 hw2 (fun g hg p1 p2 => ⟨?_, p1.2.trans p2.2.symm⟩) (fun q a b => ⟨q, a.trans b.symm⟩)
              rcases p1.1 with ⟨x1, x2⟩ | ⟨x1, x2⟩ <;> rcases p2.1 with ⟨y1, y2⟩ | ⟨y1, y2⟩
              · exact x2.trans y2.symm
              · exact absurd x1 y1
              · exact absurd y1 x1
              · exact x2.trans y2.symm
            subst e1
            refine lv_icmp_eq (tgt := 532) hx hb d_L_law_448 (by decide) (fun c9 => ?_) (fun c9 => ?_)
            · refine lv_iinc (v := nI (i + 5)) (lv' := [(3, .int (nI (i + 5))), (0, .ref b), (1, .ref (xa 0)), (2, .ref (ma 0))]) hx hb d_L_law_532 hl (k := 0) rfl (nI_add _ 5) (by decide) rfl (fun ls hl => ?_)
              refine lv_goto (tgt := 28) hx hb d_L_law_535 (by decide) ?_
              refine W.widen (k := 100 + (i + 5)) (n := 6000 + 6 * (i + 5)) (by omega) (by omega) ?_
              exact ih (i + 5) ad (S.1, S.2.1, S.2.2.1, S.2.2.2.1, u, S.2.2.2.2.2) lt d n F now ol told 0 oI oB oT (by omega) (by omega) hinv hxr _ _ hP hD hS ls (lv_sub hl [0, 1, 2, 3] rfl)
            · exact absurd hr9 c9
          · exact absurd c2 c3
        · refine lv_iconst (v := 1) hx hb d_L_law_418 (by decide) ?_
          refine lv_goto (tgt := 423) hx hb d_L_law_419 (by decide) ?_
          have hFc := gt_freeL hD hS hA
          refine va_calli (va_runV (As := [.int (xs (i + 1)), .int 1]) (rest := []) ⟨hx, hb, hml, hown, hts⟩ (c_X_stuck l D H.size xa xc ad S lt d n F now ol told oI oB oT (xs (i + 1)) 1 hinv hxr (Or.inr rfl)) (cwV 2 hts (tb_inV kw_209 kw_210 kw_211 kw_1 kw_212) rfl rfl rfl (by decide +kernel) ⟨Nat.le_of_ble_eq_true rfl, Nat.le_of_ble_eq_true rfl⟩) (gt_Pre_V gt_XK_mv (va_recv hKX.1 (gt_P_head hP) (ci := 0) (q0 := 0) rfl rfl) (gt_P_head hP) hKX (gt_D_head hD)) rfl rfl hl.1 rfl (lv_room (Nat.le_of_ble_eq_true rfl)) d_L_law_423 ⟨(by show 100 + i + 0 ≤ 600000; omega), (by show 6000 + 6 * i + 0 ≤ 7302250; omega)⟩) hS (fun q _ h => hFc q h) hFc (fun r1 u t9 H1 locs ht9 hvm9 hw1 hB hz1 hk1 hS => ?_)
          obtain ⟨hP1, hD1⟩ := hB
          rw [ht9] at hP1
          have hw1 := hw1
          obtain ⟨hP, hD⟩ := gt_joinL hP hD hk1 hFc hP1 hD1
          have hP : va_P D gt_cl (gt_XW xa xc ad (S.1, S.2.1, S.2.2.1, S.2.2.2.1, u, S.2.2.2.2.2) lt d n F now ol.length told (d.2 (S.1, S.2.1, S.2.2.1, S.2.2.2.1, u, S.2.2.2.2.2).1).2.2.2.2 oI oB oT ++ gt_MS ma mc thr S lt d n now ol told) H1 := hP
          have hD : va_D (fun q : Nat => s.heap.size ≤ q) (gt_XW xa xc ad (S.1, S.2.1, S.2.2.1, S.2.2.2.1, u, S.2.2.2.2.2) lt d n F now ol.length told (d.2 (S.1, S.2.1, S.2.2.1, S.2.2.2.1, u, S.2.2.2.2.2).1).2.2.2.2 oI oB oT ++ gt_MS ma mc thr S lt d n now ol told) := hD
          refine lv_aload_n hx hb d_L_law_426 rfl (lv_at hl 3 rfl) ?_
          refine lv_aload_n hx hb d_L_law_427 rfl (lv_at hl 1 rfl) ?_
          refine lv_iload_n hx hb d_L_law_428 rfl (lv_at hl 0 rfl) ?_
          refine lv_iconst (v := 1) hx hb d_L_law_429 (by decide) ?_
          refine lv_iadd hx hb d_L_law_430 ?_
          rw [nI_1]
          refine gt_sld (k := i + 1) hx hb hX hbl hbA hS (by omega) hL d_L_law_431 ?_
          refine lv_aload_n hx hb d_L_law_432 rfl (lv_at hl 1 rfl) ?_
          refine lv_iload_n hx hb d_L_law_433 rfl (lv_at hl 0 rfl) ?_
          refine lv_iconst (v := 2) hx hb d_L_law_434 (by decide) ?_
          refine lv_iadd hx hb d_L_law_435 ?_
          rw [show nI i + 2 = nI (i + 2) from nI_add _ 2]
          refine gt_sld (k := i + 2) hx hb hX hbl hbA hS (by omega) hL d_L_law_436 ?_
          refine lv_if_eq (tgt := 444) hx hb d_L_law_437 (by decide) (fun c3 => ?_) (fun c3 => ?_)
          · exact absurd c3 c2
          · refine lv_iconst (v := 1) hx hb d_L_law_440 (by decide) ?_
            refine lv_goto (tgt := 445) hx hb d_L_law_441 (by decide) ?_
            have hFc := gt_freeR hD hS hA
            refine va_calli (va_runV (As := [.int (xs (i + 1)), .int 1]) (rest := [.int r1]) ⟨hx, hb, hml, hown, hts⟩ (c_M_stuck l D H1.size ma mc thr S lt d n now ol told (xs (i + 1)) 1 hinv (Or.inr rfl)) (cwV 2 hts (tb_inV kw_355 kw_356 kw_357 kw_4 kw_358) rfl rfl rfl (by decide +kernel) ⟨Nat.le_of_ble_eq_true rfl, Nat.le_of_ble_eq_true rfl⟩) (gt_Pre_V gt_K_mv (va_recv hKM (gt_P_tail hP) (ci := 3) (q0 := 0) rfl rfl) (gt_P_tail hP) hKM (gt_D_tail hD)) rfl rfl hl.1 rfl (lv_room (Nat.le_of_ble_eq_true rfl)) d_L_law_445 ⟨(by show 100 + i + 0 ≤ 600000; omega), (by show 6000 + 6 * i + 0 ≤ 7302250; omega)⟩) hS (fun q _ h => hFc q h) hFc (fun r2 v t9 H2 locs ht9 hvm9 hw2 hB hz1 hk1 hS => ?_)
            obtain ⟨hP1, hD1⟩ := hB
            rw [ht9] at hP1
            obtain ⟨hP, hD⟩ := gt_joinR hP hD hk1 hFc hP1 hD1
            have hP : va_P D gt_cl (gt_XW xa xc ad (S.1, S.2.1, S.2.2.1, S.2.2.2.1, u, S.2.2.2.2.2) lt d n F now ol.length told (d.2 (S.1, S.2.1, S.2.2.1, S.2.2.2.1, u, S.2.2.2.2.2).1).2.2.2.2 oI oB oT ++ gt_MS ma mc 0 (S.1, S.2.1, S.2.2.1, S.2.2.2.1, v, S.2.2.2.2.2) lt d n now ol told) H2 := hP
            have hD : va_D (fun q : Nat => s.heap.size ≤ q) (gt_XW xa xc ad (S.1, S.2.1, S.2.2.1, S.2.2.2.1, u, S.2.2.2.2.2) lt d n F now ol.length told (d.2 (S.1, S.2.1, S.2.2.1, S.2.2.2.1, u, S.2.2.2.2.2).1).2.2.2.2 oI oB oT ++ gt_MS ma mc 0 (S.1, S.2.1, S.2.2.1, S.2.2.2.1, v, S.2.2.2.2.2) lt d n now ol told) := hD
            obtain ⟨hr9, e1⟩ : r1 = r2 ∧ u = v := by
              refine gt_RBin_one hG hw1 hw2 (fun g hg p1 p2 => ⟨?_, p1.2.trans p2.2.symm⟩) (fun q a b => ⟨q, a.trans b.symm⟩)
              rcases p1.1 with ⟨x1, x2⟩ | ⟨x1, x2⟩ <;> rcases p2.1 with ⟨y1, y2⟩ | ⟨y1, y2⟩
              · exact x2.trans y2.symm
              · exact absurd x1 y1
              · exact absurd y1 x1
              · exact x2.trans y2.symm
            subst e1
            refine lv_icmp_eq (tgt := 532) hx hb d_L_law_448 (by decide) (fun c9 => ?_) (fun c9 => ?_)
            · refine lv_iinc (v := nI (i + 5)) (lv' := [(3, .int (nI (i + 5))), (0, .ref b), (1, .ref (xa 0)), (2, .ref (ma 0))]) hx hb d_L_law_532 hl (k := 0) rfl (nI_add _ 5) (by decide) rfl (fun ls hl => ?_)
              refine lv_goto (tgt := 28) hx hb d_L_law_535 (by decide) ?_
              refine W.widen (k := 100 + (i + 5)) (n := 6000 + 6 * (i + 5)) (by omega) (by omega) ?_
              exact ih (i + 5) ad (S.1, S.2.1, S.2.2.1, S.2.2.2.1, u, S.2.2.2.2.2) lt d n F now ol told 0 oI oB oT (by omega) (by omega) hinv hxr _ _ hP hD hS ls (lv_sub hl [0, 1, 2, 3] rfl)
            · exact absurd hr9 c9
      · refine lv_tableIn (off := 411) (tgt := 453) hx hb d_L_law_42 (by decide) (by decide) (by decide) (by decide) ?_
        refine lv_aload_n hx hb d_L_law_453 rfl (lv_at hl 2 rfl) ?_
        refine lv_aload_n hx hb d_L_law_454 rfl (lv_at hl 1 rfl) ?_
        refine lv_iload_n hx hb d_L_law_455 rfl (lv_at hl 0 rfl) ?_
        refine lv_iconst (v := 1) hx hb d_L_law_456 (by decide) ?_
        refine lv_iadd hx hb d_L_law_457 ?_
        rw [nI_1]
        refine gt_sld (k := i + 1) hx hb hX hbl hbA hS (by omega) hL d_L_law_458 ?_
        refine vp_callSi (va_runV (As := [.int (xs (i + 1))]) (rest := []) ⟨hx, hb, hml, hown, hts⟩ (c_X_late l D xa xc ad S lt d n F now ol told oI oB oT (xs (i + 1)) hinv hxr) (cwV 1 hts (tb_inV kw_213 kw_214 kw_215 kw_1 kw_216) rfl rfl rfl (by decide +kernel) ⟨Nat.le_of_ble_eq_true rfl, Nat.le_of_ble_eq_true rfl⟩) (gt_PreP_V gt_XK_mv (va_recv hKX.1 (gt_P_head hP) (ci := 0) (q0 := 0) rfl rfl) (gt_P_head hP) hKX) rfl rfl hl.1 rfl (lv_room (Nat.le_of_ble_eq_true rfl)) d_L_law_459 ⟨(by show 100 + i + 0 ≤ 600000; omega), (by show 6000 + 6 * i + 0 ≤ 7302250; omega)⟩).run (fun r1 hw1 => ?_)
        refine lv_aload_n hx hb d_L_law_462 rfl (lv_at hl 3 rfl) ?_
        refine lv_aload_n hx hb d_L_law_463 rfl (lv_at hl 1 rfl) ?_
        refine lv_iload_n hx hb d_L_law_464 rfl (lv_at hl 0 rfl) ?_
        refine lv_iconst (v := 1) hx hb d_L_law_465 (by decide) ?_
        refine lv_iadd hx hb d_L_law_466 ?_
        rw [nI_1]
        refine gt_sld (k := i + 1) hx hb hX hbl hbA hS (by omega) hL d_L_law_467 ?_
        have hFc := gt_freeR hD hS hA
        refine va_calli (va_runV (As := [.int (xs (i + 1))]) (rest := [.int r1]) ⟨hx, hb, hml, hown, hts⟩ (c_M_late l D H.size ma mc thr S lt d n now ol told (xs (i + 1)) hinv) (cwV 1 hts (tb_inV kw_359 kw_360 kw_361 kw_4 kw_362) rfl rfl rfl (by decide +kernel) ⟨Nat.le_of_ble_eq_true rfl, Nat.le_of_ble_eq_true rfl⟩) (gt_Pre_V gt_K_mv (va_recv hKM (gt_P_tail hP) (ci := 3) (q0 := 0) rfl rfl) (gt_P_tail hP) hKM (gt_D_tail hD)) rfl rfl hl.1 rfl (lv_room (Nat.le_of_ble_eq_true rfl)) d_L_law_468 ⟨(by show 100 + i + 0 ≤ 600000; omega), (by show 6000 + 6 * i + 0 ≤ 7302250; omega)⟩) hS (fun q _ h => hFc q h) hFc (fun r2 v t9 H2 locs ht9 hvm9 hw2 hB hz1 hk1 hS => ?_)
        obtain ⟨hP1, hD1⟩ := hB
        rw [ht9] at hP1
        obtain ⟨hP, hD⟩ := gt_joinR hP hD hk1 hFc hP1 hD1
        have hP : va_P D gt_cl (gt_XW xa xc ad S lt d n F now ol.length told (d.2 S.1).2.2.2.2 oI oB oT ++ gt_MS ma mc 0 S lt d n now ol told) H2 := hP
        have hD : va_D (fun q : Nat => s.heap.size ≤ q) (gt_XW xa xc ad S lt d n F now ol.length told (d.2 S.1).2.2.2.2 oI oB oT ++ gt_MS ma mc 0 S lt d n now ol told) := hD
        have hr9 := gt_RLate_one hn hw1 hw2
        refine lv_icmp_eq (tgt := 532) hx hb d_L_law_471 (by decide) (fun c9 => ?_) (fun c9 => ?_)
        · refine lv_iinc (v := nI (i + 5)) (lv' := [(3, .int (nI (i + 5))), (0, .ref b), (1, .ref (xa 0)), (2, .ref (ma 0))]) hx hb d_L_law_532 hl (k := 0) rfl (nI_add _ 5) (by decide) rfl (fun ls hl => ?_)
          refine lv_goto (tgt := 28) hx hb d_L_law_535 (by decide) ?_
          refine W.widen (k := 100 + (i + 5)) (n := 6000 + 6 * (i + 5)) (by omega) (by omega) ?_
          exact ih (i + 5) ad S lt d n F now ol told 0 oI oB oT (by omega) (by omega) hinv hxr _ _ hP hD hS ls (lv_sub hl [0, 1, 2, 3] rfl)
        · exact absurd hr9 c9
      · refine lv_tableIn (off := 434) (tgt := 476) hx hb d_L_law_42 (by decide) (by decide) (by decide) (by decide) ?_
        refine lv_aload_n hx hb d_L_law_476 rfl (lv_at hl 2 rfl) ?_
        refine lv_aload_n hx hb d_L_law_477 rfl (lv_at hl 1 rfl) ?_
        refine lv_iload_n hx hb d_L_law_478 rfl (lv_at hl 0 rfl) ?_
        refine lv_iconst (v := 1) hx hb d_L_law_479 (by decide) ?_
        refine lv_iadd hx hb d_L_law_480 ?_
        rw [nI_1]
        refine gt_sld (k := i + 1) hx hb hX hbl hbA hS (by omega) hL d_L_law_481 ?_
        refine vp_callSi (va_runV (As := [.int (xs (i + 1))]) (rest := []) ⟨hx, hb, hml, hown, hts⟩ (c_X_count l D xa xc ad S lt d n F now ol told oI oB oT (xs (i + 1)) hinv hxr) (cwV 1 hts (tb_inV kw_217 kw_218 kw_219 kw_1 kw_220) rfl rfl rfl (by decide +kernel) ⟨Nat.le_of_ble_eq_true rfl, Nat.le_of_ble_eq_true rfl⟩) (gt_PreP_V gt_XK_mv (va_recv hKX.1 (gt_P_head hP) (ci := 0) (q0 := 0) rfl rfl) (gt_P_head hP) hKX) rfl rfl hl.1 rfl (lv_room (Nat.le_of_ble_eq_true rfl)) d_L_law_482 ⟨(by show 100 + i + 0 ≤ 600000; omega), (by show 6000 + 6 * i + 0 ≤ 7302250; omega)⟩).run (fun r1 hw1 => ?_)
        refine lv_aload_n hx hb d_L_law_485 rfl (lv_at hl 3 rfl) ?_
        refine lv_aload_n hx hb d_L_law_486 rfl (lv_at hl 1 rfl) ?_
        refine lv_iload_n hx hb d_L_law_487 rfl (lv_at hl 0 rfl) ?_
        refine lv_iconst (v := 1) hx hb d_L_law_488 (by decide) ?_
        refine lv_iadd hx hb d_L_law_489 ?_
        rw [nI_1]
        refine gt_sld (k := i + 1) hx hb hX hbl hbA hS (by omega) hL d_L_law_490 ?_
        have hFc := gt_freeR hD hS hA
        refine va_calli (va_runV (As := [.int (xs (i + 1))]) (rest := [.int r1]) ⟨hx, hb, hml, hown, hts⟩ (c_M_count l D H.size ma mc thr S lt d n now ol told (xs (i + 1)) hinv) (cwV 1 hts (tb_inV kw_363 kw_364 kw_365 kw_4 kw_366) rfl rfl rfl (by decide +kernel) ⟨Nat.le_of_ble_eq_true rfl, Nat.le_of_ble_eq_true rfl⟩) (gt_Pre_V gt_K_mv (va_recv hKM (gt_P_tail hP) (ci := 3) (q0 := 0) rfl rfl) (gt_P_tail hP) hKM (gt_D_tail hD)) rfl rfl hl.1 rfl (lv_room (Nat.le_of_ble_eq_true rfl)) d_L_law_491 ⟨(by show 100 + i + 0 ≤ 600000; omega), (by show 6000 + 6 * i + 0 ≤ 7302250; omega)⟩) hS (fun q _ h => hFc q h) hFc (fun r2 v t9 H2 locs ht9 hvm9 hw2 hB hz1 hk1 hS => ?_)
        obtain ⟨hP1, hD1⟩ := hB
        rw [ht9] at hP1
        obtain ⟨hP, hD⟩ := gt_joinR hP hD hk1 hFc hP1 hD1
        have hP : va_P D gt_cl (gt_XW xa xc ad S lt d n F now ol.length told (d.2 S.1).2.2.2.2 oI oB oT ++ gt_MS ma mc 0 S lt d n now ol told) H2 := hP
        have hD : va_D (fun q : Nat => s.heap.size ≤ q) (gt_XW xa xc ad S lt d n F now ol.length told (d.2 S.1).2.2.2.2 oI oB oT ++ gt_MS ma mc 0 S lt d n now ol told) := hD
        have hr9 : r1 = r2 := gt_RBin1_one (by omega) hw1 hw2
        refine lv_icmp_eq (tgt := 532) hx hb d_L_law_494 (by decide) (fun c9 => ?_) (fun c9 => ?_)
        · refine lv_iinc (v := nI (i + 5)) (lv' := [(3, .int (nI (i + 5))), (0, .ref b), (1, .ref (xa 0)), (2, .ref (ma 0))]) hx hb d_L_law_532 hl (k := 0) rfl (nI_add _ 5) (by decide) rfl (fun ls hl => ?_)
          refine lv_goto (tgt := 28) hx hb d_L_law_535 (by decide) ?_
          refine W.widen (k := 100 + (i + 5)) (n := 6000 + 6 * (i + 5)) (by omega) (by omega) ?_
          exact ih (i + 5) ad S lt d n F now ol told 0 oI oB oT (by omega) (by omega) hinv hxr _ _ hP hD hS ls (lv_sub hl [0, 1, 2, 3] rfl)
        · exact absurd hr9 c9
      · refine lv_tableIn (off := 457) (tgt := 499) hx hb d_L_law_42 (by decide) (by decide) (by decide) (by decide) ?_
        refine lv_aload_n hx hb d_L_law_499 rfl (lv_at hl 2 rfl) ?_
        refine lv_aload_n hx hb d_L_law_500 rfl (lv_at hl 1 rfl) ?_
        refine lv_iload_n hx hb d_L_law_501 rfl (lv_at hl 0 rfl) ?_
        refine lv_iconst (v := 1) hx hb d_L_law_502 (by decide) ?_
        refine lv_iadd hx hb d_L_law_503 ?_
        rw [nI_1]
        refine gt_sld (k := i + 1) hx hb hX hbl hbA hS (by omega) hL d_L_law_504 ?_
        refine lv_aload_n hx hb d_L_law_505 rfl (lv_at hl 1 rfl) ?_
        refine lv_iload_n hx hb d_L_law_506 rfl (lv_at hl 0 rfl) ?_
        refine lv_iconst (v := 2) hx hb d_L_law_507 (by decide) ?_
        refine lv_iadd hx hb d_L_law_508 ?_
        rw [show nI i + 2 = nI (i + 2) from nI_add _ 2]
        refine gt_sld (k := i + 2) hx hb hX hbl hbA hS (by omega) hL d_L_law_509 ?_
        refine vp_callSi (va_runV (As := [.int (xs (i + 1)), .int (xs (i + 2))]) (rest := []) ⟨hx, hb, hml, hown, hts⟩ (c_X_verify l D xa xc ad S lt d n F now ol told oI oB oT (xs (i + 1)) (xs (i + 2)) hinv hxr) (cwV 2 hts (tb_inV kw_221 kw_222 kw_223 kw_1 kw_224) rfl rfl rfl (by decide +kernel) ⟨Nat.le_of_ble_eq_true rfl, Nat.le_of_ble_eq_true rfl⟩) (gt_PreP_V gt_XK_mv (va_recv hKX.1 (gt_P_head hP) (ci := 0) (q0 := 0) rfl rfl) (gt_P_head hP) hKX) rfl rfl hl.1 rfl (lv_room (Nat.le_of_ble_eq_true rfl)) d_L_law_510 ⟨(by show 100 + i + 0 ≤ 600000; omega), (by show 6000 + 6 * i + 0 ≤ 7302250; omega)⟩).run (fun r1 hw1 => ?_)
        refine lv_aload_n hx hb d_L_law_513 rfl (lv_at hl 3 rfl) ?_
        refine lv_aload_n hx hb d_L_law_514 rfl (lv_at hl 1 rfl) ?_
        refine lv_iload_n hx hb d_L_law_515 rfl (lv_at hl 0 rfl) ?_
        refine lv_iconst (v := 1) hx hb d_L_law_516 (by decide) ?_
        refine lv_iadd hx hb d_L_law_517 ?_
        rw [nI_1]
        refine gt_sld (k := i + 1) hx hb hX hbl hbA hS (by omega) hL d_L_law_518 ?_
        refine lv_aload_n hx hb d_L_law_519 rfl (lv_at hl 1 rfl) ?_
        refine lv_iload_n hx hb d_L_law_520 rfl (lv_at hl 0 rfl) ?_
        refine lv_iconst (v := 2) hx hb d_L_law_521 (by decide) ?_
        refine lv_iadd hx hb d_L_law_522 ?_
        rw [show nI i + 2 = nI (i + 2) from nI_add _ 2]
        refine gt_sld (k := i + 2) hx hb hX hbl hbA hS (by omega) hL d_L_law_523 ?_
        have hFc := gt_freeR hD hS hA
        refine va_calli (va_runV (As := [.int (xs (i + 1)), .int (xs (i + 2))]) (rest := [.int r1]) ⟨hx, hb, hml, hown, hts⟩ (c_M_verify l D H.size ma mc thr S lt d n now ol told (xs (i + 1)) (xs (i + 2)) hinv) (cwV 2 hts (tb_inV kw_367 kw_368 kw_369 kw_4 kw_370) rfl rfl rfl (by decide +kernel) ⟨Nat.le_of_ble_eq_true rfl, Nat.le_of_ble_eq_true rfl⟩) (gt_Pre_V gt_K_mv (va_recv hKM (gt_P_tail hP) (ci := 3) (q0 := 0) rfl rfl) (gt_P_tail hP) hKM (gt_D_tail hD)) rfl rfl hl.1 rfl (lv_room (Nat.le_of_ble_eq_true rfl)) d_L_law_524 ⟨(by show 100 + i + 0 ≤ 600000; omega), (by show 6000 + 6 * i + 0 ≤ 7302250; omega)⟩) hS (fun q _ h => hFc q h) hFc (fun r2 v t9 H2 locs ht9 hvm9 hw2 hB hz1 hk1 hS => ?_)
        obtain ⟨hP1, hD1⟩ := hB
        rw [ht9] at hP1
        obtain ⟨hP, hD⟩ := gt_joinR hP hD hk1 hFc hP1 hD1
        have hP : va_P D gt_cl (gt_XW xa xc ad S lt d n F now ol.length told (d.2 S.1).2.2.2.2 oI oB oT ++ gt_MS ma mc 0 S lt d n now ol told) H2 := hP
        have hD : va_D (fun q : Nat => s.heap.size ≤ q) (gt_XW xa xc ad S lt d n F now ol.length told (d.2 S.1).2.2.2.2 oI oB oT ++ gt_MS ma mc 0 S lt d n now ol told) := hD
        have hr9 := gt_RVer_one (by omega) hw1 hw2
        refine lv_icmp_eq (tgt := 532) hx hb d_L_law_527 (by decide) (fun c9 => ?_) (fun c9 => ?_)
        · refine lv_iinc (v := nI (i + 5)) (lv' := [(3, .int (nI (i + 5))), (0, .ref b), (1, .ref (xa 0)), (2, .ref (ma 0))]) hx hb d_L_law_532 hl (k := 0) rfl (nI_add _ 5) (by decide) rfl (fun ls hl => ?_)
          refine lv_goto (tgt := 28) hx hb d_L_law_535 (by decide) ?_
          refine W.widen (k := 100 + (i + 5)) (n := 6000 + 6 * (i + 5)) (by omega) (by omega) ?_
          exact ih (i + 5) ad S lt d n F now ol told 0 oI oB oT (by omega) (by omega) hinv hxr _ _ hP hD hS ls (lv_sub hl [0, 1, 2, 3] rfl)
        · exact absurd hr9 c9
      · refine lv_tableOut (tgt := 532) hx hb d_L_law_42 (by decide) (by decide) ?_
        refine lv_iinc (v := nI (i + 5)) (lv' := [(3, .int (nI (i + 5))), (0, .ref b), (1, .ref (xa 0)), (2, .ref (ma 0))]) hx hb d_L_law_532 hl (k := 0) rfl (nI_add _ 5) (by decide) rfl (fun ls hl => ?_)
        refine lv_goto (tgt := 28) hx hb d_L_law_535 (by decide) ?_
        refine W.widen (k := 100 + (i + 5)) (n := 6000 + 6 * (i + 5)) (by omega) (by omega) ?_
        exact ih (i + 5) ad S lt d n F now ol told thr oI oB oT (by omega) (by omega) hinv hxr _ _ hP hD hS ls (lv_sub hl [0, 1, 2, 3] rfl)
      · refine lv_tableOut (tgt := 532) hx hb d_L_law_42 (by decide) (by decide) ?_
        refine lv_iinc (v := nI (i + 5)) (lv' := [(3, .int (nI (i + 5))), (0, .ref b), (1, .ref (xa 0)), (2, .ref (ma 0))]) hx hb d_L_law_532 hl (k := 0) rfl (nI_add _ 5) (by decide) rfl (fun ls hl => ?_)
        refine lv_goto (tgt := 28) hx hb d_L_law_535 (by decide) ?_
        refine W.widen (k := 100 + (i + 5)) (n := 6000 + 6 * (i + 5)) (by omega) (by omega) ?_
        exact ih (i + 5) ad S lt d n F now ol told thr oI oB oT (by omega) (by omega) hinv hxr _ _ hP hD hS ls (lv_sub hl [0, 1, 2, 3] rfl)
      · refine lv_tableOut (tgt := 532) hx hb d_L_law_42 (by decide) (by decide) ?_
        refine lv_iinc (v := nI (i + 5)) (lv' := [(3, .int (nI (i + 5))), (0, .ref b), (1, .ref (xa 0)), (2, .ref (ma 0))]) hx hb d_L_law_532 hl (k := 0) rfl (nI_add _ 5) (by decide) rfl (fun ls hl => ?_)
        refine lv_goto (tgt := 28) hx hb d_L_law_535 (by decide) ?_
        refine W.widen (k := 100 + (i + 5)) (n := 6000 + 6 * (i + 5)) (by omega) (by omega) ?_
        exact ih (i + 5) ad S lt d n F now ol told thr oI oB oT (by omega) (by omega) hinv hxr _ _ hP hD hS ls (lv_sub hl [0, 1, 2, 3] rfl)
      · refine lv_tableOut (tgt := 532) hx hb d_L_law_42 (by decide) (by decide) ?_
        refine lv_iinc (v := nI (i + 5)) (lv' := [(3, .int (nI (i + 5))), (0, .ref b), (1, .ref (xa 0)), (2, .ref (ma 0))]) hx hb d_L_law_532 hl (k := 0) rfl (nI_add _ 5) (by decide) rfl (fun ls hl => ?_)
        refine lv_goto (tgt := 28) hx hb d_L_law_535 (by decide) ?_
        refine W.widen (k := 100 + (i + 5)) (n := 6000 + 6 * (i + 5)) (by omega) (by omega) ?_
        exact ih (i + 5) ad S lt d n F now ol told thr oI oB oT (by omega) (by omega) hinv hxr _ _ hP hD hS ls (lv_sub hl [0, 1, 2, 3] rfl)
      · refine lv_tableOut (tgt := 532) hx hb d_L_law_42 (by decide) (by decide) ?_
        refine lv_iinc (v := nI (i + 5)) (lv' := [(3, .int (nI (i + 5))), (0, .ref b), (1, .ref (xa 0)), (2, .ref (ma 0))]) hx hb d_L_law_532 hl (k := 0) rfl (nI_add _ 5) (by decide) rfl (fun ls hl => ?_)
        refine lv_goto (tgt := 28) hx hb d_L_law_535 (by decide) ?_
        refine W.widen (k := 100 + (i + 5)) (n := 6000 + 6 * (i + 5)) (by omega) (by omega) ?_
        exact ih (i + 5) ad S lt d n F now ol told thr oI oB oT (by omega) (by omega) hinv hxr _ _ hP hD hS ls (lv_sub hl [0, 1, 2, 3] rfl)
      · refine lv_tableOut (tgt := 532) hx hb d_L_law_42 (by decide) (by decide) ?_
        refine lv_iinc (v := nI (i + 5)) (lv' := [(3, .int (nI (i + 5))), (0, .ref b), (1, .ref (xa 0)), (2, .ref (ma 0))]) hx hb d_L_law_532 hl (k := 0) rfl (nI_add _ 5) (by decide) rfl (fun ls hl => ?_)
        refine lv_goto (tgt := 28) hx hb d_L_law_535 (by decide) ?_
        refine W.widen (k := 100 + (i + 5)) (n := 6000 + 6 * (i + 5)) (by omega) (by omega) ?_
        exact ih (i + 5) ad S lt d n F now ol told thr oI oB oT (by omega) (by omega) hinv hxr _ _ hP hD hS ls (lv_sub hl [0, 1, 2, 3] rfl)
end
section
/-! THE LAW, from its entry; the claim. -/
theorem gt_nest_in : ∀ w ∈ gt_nest, w ∈ lw_tbl := by
  intro w hw
  simp only [gt_nest, List.mem_cons, List.not_mem_nil, or_false] at hw
  rcases hw with rfl | rfl | rfl | rfl | rfl | rfl | rfl | rfl | rfl | rfl
  · exact kw_31
  · exact kw_35
  · exact kw_37
  · exact kw_39
  · exact kw_110
  · exact kw_112
  · exact kw_114
  · exact kw_115
  · exact kw_117
  · exact kw_118
set_option maxHeartbeats 4000000 in
set_option maxRecDepth 100000 in
theorem whole_start {p : Program} {e : Env} {s : State} {m : MethodId} {below : List Frame} {meth : Method} {c : Code} (l : Launch) {b L : Nat} {xs : Nat → Int32} (hL : L ≤ 2561) (C0 : lw_At p s m meth c b L xs) : W p l e room_1 s m #[Value.ref b] below meth c s.heap [] 0 0 (lw_Z below #[Value.ref b] s) (entryFrame m ([Value.ref b] : List Value).toArray 4) := by
  obtain ⟨hx, hb, hr, hml, hown, hts0, hX, hbl, hlocks, hgv⟩ := id C0
  have hts : ∀ w ∈ tb, w.before #[Value.ref b] s = true := fun w h => hts0 w (tb_lw w h).1
  have hA : ∀ q : Nat, s.heap.size ≤ q → (fun q : Nat => s.heap.size ≤ q) q := fun _ h => h
  have hbA : ¬ (fun q : Nat => s.heap.size ≤ q) b := Nat.not_le.mpr hbl
  obtain ⟨c0, iS0, hKn0⟩ := u_known (C := R_X) (T := F_X) (N := 12) (n := 12) hts i_X (hts _ kw_7)
  obtain ⟨c1, iS1, hKn1⟩ := u_known (C := R_G) (T := F_G) (N := 7) (n := 7) hts i_G (hts _ kw_24)
  obtain ⟨c2, iS2, hKn2⟩ := u_known (C := R_I) (T := F_I) (N := 6) (n := 6) hts i_I (hts _ kw_104)
  obtain ⟨c3, iS3, hKn3⟩ := u_known (C := R_M) (T := F_M) (N := 21) (n := 21) hts i_M (hts _ kw_233)
  obtain ⟨D, hKc⟩ : ∃ D : va_G, ∀ (k : Nat) (q : vw_C), gt_cl[k]? = some q → u_Kn s q.1 q.2.1 q.2.2 (D.1 k) (D.2 k) := by
    refine ⟨(fun k => if k = 0 then c0 else if k = 1 then c1 else if k = 2 then c2 else c3, fun k => if k = 0 then iS0 else if k = 1 then iS1 else if k = 2 then iS2 else iS3), ?_⟩
    intro k q hq
    match k, hq with
    | 0, hq => cases hq; exact hKn0
    | 1, hq => cases hq; exact hKn1
    | 2, hq => cases hq; exact hKn2
    | 3, hq => cases hq; exact hKn3
    | k + 4, hq => simp [gt_cl] at hq
  have hS : va_S (fun q : Nat => s.heap.size ≤ q) s.heap s.heap [] := va_S.rf
  have hK : va_K D gt_cl [] s := ⟨hKc, fun k q h => by simp at h⟩
  have hC : gt_CK D s := ⟨hK, va_AO.of (hts0 _ kw_15), va_AO.of (hts0 _ kw_23), va_Nw.of rfl (hts0 _ kw_25)⟩
  have hN : gt_N s := fun w hw => va_Nw.of (gt_N_all (P := fun w => w.onTables = true) (fun _ _ _ _ => rfl) w hw) (hts0 w (gt_nest_in w hw))
  have hP : va_P D gt_cl [] s.heap := gt_P0
  have hD : va_D (fun q : Nat => s.heap.size ≤ q) [] := ⟨fun i j p q h => by simp at h, fun k q h => by simp at h⟩
  have hl := lv_entry ([.ref b]) (n := 4) (Nat.le_of_ble_eq_true rfl)
  rw [lg_entry_eq]
  generalize (lg_sl ([.ref b]) ++ List.replicate (4 - (lg_sl ([.ref b])).length) Slot.unset).toArray = ls at hl ⊢
  have hl : lv_has ls 4 [(0, .ref b)] := hl
  refine va_new (ci := 0) (fs := [.int 0, .null, .null, .int 0, .int 0, .long 0, .null, .null, .null, .int 0, .int 0, .int 0]) (C := R_X) (T := F_X) (N := 12) hx hb hts i_X t_X t_X_ok hown (hts _ kw_6) (hts _ kw_7) (hts _ kw_1) hK hP hD hS hA rfl (fun j hj => by rcases (show j = 0 ∨ j = 1 ∨ j = 2 ∨ j = 3 ∨ j = 4 ∨ j = 5 ∨ j = 6 ∨ j = 7 ∨ j = 8 ∨ j = 9 ∨ j = 10 ∨ j = 11 by omega) with rfl | rfl | rfl | rfl | rfl | rfl | rfl | rfl | rfl | rfl | rfl | rfl <;> rfl) (Nat.le_of_ble_eq_true rfl) (Nat.le_of_ble_eq_true rfl) d_L_law_0 (fun q0 H hP hD hS => ?_)
  have hP : va_P D gt_cl [(q0, .inr (0, [.int 0, .null, .null, .int 0, .int 0, .long 0, .null, .null, .null, .int 0, .int 0, .int 0]))] H := hP
  have hD : va_D (fun q : Nat => s.heap.size ≤ q) [(q0, .inr (0, [.int 0, .null, .null, .int 0, .int 0, .long 0, .null, .null, .null, .int 0, .int 0, .int 0]))] := hD
  refine lv_dup hx hb d_L_law_3 rfl ?_
  refine lv_aload_n hx hb d_L_law_4 rfl (lv_at hl 0 rfl) ?_
  refine lv_iconst (v := 0) hx hb d_L_law_5 (by decide) ?_
  refine vp_callSi (va_runS (As := [.ref b, .int 0]) (rest := [.ref q0, .ref q0]) ⟨hx, hb, hml, hown, hts⟩ (c_L_cell l D b L xs hL) (cwS 2 hts (tb_inS kw_229 kw_230 kw_0 kw_231) rfl rfl rfl (by decide +kernel) ⟨Nat.le_of_ble_eq_true rfl, Nat.le_of_ble_eq_true rfl⟩) ⟨fun a U g mk q => ⟨q.1, q.2.1, va_X.moved (u := U) (U := U.calling g mk a) (Vm.Alike.refl U.vm) q.2.2⟩, fun U hU hW => ⟨rfl, gt_P0, by show va_X b L xs U U.heap; rw [hU]; exact va_X.moved hW.alike (hX.kept (hS.2.1 b hbl hbA))⟩⟩ rfl rfl hl.1 rfl (lv_room (Nat.le_of_ble_eq_true rfl)) d_L_law_6 ⟨Nat.le_of_ble_eq_true rfl, Nat.le_of_ble_eq_true rfl⟩).run (fun r0 hr0 => ?_)
  subst hr0
  have hFc := gt_freeW hD hS hA
  refine va_callv (va_runI (As := [.int (gt_c0 L xs)]) (rest := [.ref q0]) ⟨hx, hb, hml, hown, hts⟩ (c_X_init l D H.size q0 (gt_c0 L xs)) (cwI 1 hts (tb_in kw_10) rfl rfl rfl (hts _ kw_1) (hts _ kw_8) (hts _ kw_9) rfl (by decide +kernel) ⟨Nat.le_of_ble_eq_true rfl, Nat.le_of_ble_eq_true rfl⟩) (gt_Pre_S gt_CK_mv hP hC hD) rfl rfl hl.1 rfl (lv_room (Nat.le_of_ble_eq_true rfl)) d_L_law_9 ⟨Nat.le_of_ble_eq_true rfl, Nat.le_of_ble_eq_true rfl⟩) hS (fun q _ h => hFc q h) hFc (fun u t9 H1 locs ht9 hvm9 hw hB hz1 hk1 hS => ?_)
  obtain ⟨xa, xc, ad⟩ := u
  obtain ⟨hP1, hK1, hD1⟩ := hB
  rw [ht9] at hP1
  have hKX : gt_XK D xc s := ⟨va_K.moved hvm9.symm hK1, hN⟩
  have hw : xa 0 = q0 := hw
  subst hw
  have hP : va_P D gt_cl (gt_XW xa xc ad (gt_S0 (gt_G (gt_c0 L xs))) (fun _ => 0) gt_d0 0 1 0 0 0 0 (fun _ => 0) (fun _ => 0) (fun _ => 0)) H1 := hP1
  have hD : va_D (fun q : Nat => s.heap.size ≤ q) (gt_XW xa xc ad (gt_S0 (gt_G (gt_c0 L xs))) (fun _ => 0) gt_d0 0 1 0 0 0 0 (fun _ => 0) (fun _ => 0) (fun _ => 0)) := hD1.weaken (fun _ _ _ h => hFc _ h)
  refine lv_astore_n (lv' := [(1, .ref (xa 0)), (0, .ref b)]) hx hb d_L_law_12 rfl hl (by decide) rfl (fun ls hl => ?_)
  refine va_new (ci := 3) (fs := [.int 0, .int 0, .int 0, .null, .null, .null, .null, .null, .null, .null, .null, .null, .null, .null, .null, .null, .null, .long 0, .int 0, .null, .int 0]) (C := R_M) (T := F_M) (N := 21) hx hb hts i_M t_M t_M_ok hown (hts _ kw_232) (hts _ kw_233) (hts _ kw_4) hK hP hD hS hA rfl (fun j hj => by rcases (show j = 0 ∨ j = 1 ∨ j = 2 ∨ j = 3 ∨ j = 4 ∨ j = 5 ∨ j = 6 ∨ j = 7 ∨ j = 8 ∨ j = 9 ∨ j = 10 ∨ j = 11 ∨ j = 12 ∨ j = 13 ∨ j = 14 ∨ j = 15 ∨ j = 16 ∨ j = 17 ∨ j = 18 ∨ j = 19 ∨ j = 20 by omega) with rfl | rfl | rfl | rfl | rfl | rfl | rfl | rfl | rfl | rfl | rfl | rfl | rfl | rfl | rfl | rfl | rfl | rfl | rfl | rfl | rfl <;> rfl) (Nat.le_of_ble_eq_true rfl) (Nat.le_of_ble_eq_true rfl) d_L_law_13 (fun q1 H hP hD hS => ?_)
  have hP : va_P D gt_cl (gt_XW xa xc ad (gt_S0 (gt_G (gt_c0 L xs))) (fun _ => 0) gt_d0 0 1 0 0 0 0 (fun _ => 0) (fun _ => 0) (fun _ => 0) ++ [(q1, .inr (3, [.int 0, .int 0, .int 0, .null, .null, .null, .null, .null, .null, .null, .null, .null, .null, .null, .null, .null, .null, .long 0, .int 0, .null, .int 0]))]) H := hP
  have hD : va_D (fun q : Nat => s.heap.size ≤ q) (gt_XW xa xc ad (gt_S0 (gt_G (gt_c0 L xs))) (fun _ => 0) gt_d0 0 1 0 0 0 0 (fun _ => 0) (fun _ => 0) (fun _ => 0) ++ [(q1, .inr (3, [.int 0, .int 0, .int 0, .null, .null, .null, .null, .null, .null, .null, .null, .null, .null, .null, .null, .null, .null, .long 0, .int 0, .null, .int 0]))]) := hD
  refine lv_dup hx hb d_L_law_16 rfl ?_
  refine lv_aload_n hx hb d_L_law_17 rfl (lv_at hl 1 rfl) ?_
  refine lv_iconst (v := 0) hx hb d_L_law_18 (by decide) ?_
  refine vp_callSi (va_runS (As := [.ref b, .int 0]) (rest := [.ref q1, .ref q1]) ⟨hx, hb, hml, hown, hts⟩ (c_L_cell l D b L xs hL) (cwS 2 hts (tb_inS kw_229 kw_230 kw_0 kw_231) rfl rfl rfl (by decide +kernel) ⟨Nat.le_of_ble_eq_true rfl, Nat.le_of_ble_eq_true rfl⟩) ⟨fun a U g mk q => ⟨q.1, q.2.1, va_X.moved (u := U) (U := U.calling g mk a) (Vm.Alike.refl U.vm) q.2.2⟩, fun U hU hW => ⟨rfl, gt_P0, by show va_X b L xs U U.heap; rw [hU]; exact va_X.moved hW.alike (hX.kept (hS.2.1 b hbl hbA))⟩⟩ rfl rfl hl.1 rfl (lv_room (Nat.le_of_ble_eq_true rfl)) d_L_law_19 ⟨Nat.le_of_ble_eq_true rfl, Nat.le_of_ble_eq_true rfl⟩).run (fun r0 hr0 => ?_)
  subst hr0
  have hFc := gt_freeR hD hS hA
  refine va_callv (va_runI (As := [.int (gt_c0 L xs)]) (rest := [.ref q1]) ⟨hx, hb, hml, hown, hts⟩ (c_M_init l D H.size q1 (gt_c0 L xs)) (cwI 1 hts (tb_in kw_236) rfl rfl rfl (hts _ kw_4) (hts _ kw_234) (hts _ kw_235) rfl (by decide +kernel) ⟨Nat.le_of_ble_eq_true rfl, Nat.le_of_ble_eq_true rfl⟩) (gt_Pre_S gt_K_mv (gt_P_tail hP) hK (gt_D_tail hD)) rfl rfl hl.1 rfl (lv_room (Nat.le_of_ble_eq_true rfl)) d_L_law_22 ⟨Nat.le_of_ble_eq_true rfl, Nat.le_of_ble_eq_true rfl⟩) hS (fun q _ h => hFc q h) hFc (fun u t9 H1 locs ht9 hvm9 hw hB hz1 hk1 hS => ?_)
  obtain ⟨ma, mc⟩ := u
  obtain ⟨hP1, hK1, hD1⟩ := hB
  rw [ht9] at hP1
  have hKM : va_K D gt_cl (gt_Mt mc) s := va_K.moved hvm9.symm hK1
  obtain ⟨hP9, hD9⟩ := gt_joinR hP hD hk1 hFc hP1 hD1
  have hw : ma 0 = q1 := hw
  subst hw
  have hP : va_P D gt_cl (gt_XW xa xc ad (gt_S0 (gt_G (gt_c0 L xs))) (fun _ => 0) gt_d0 0 1 0 0 0 0 (fun _ => 0) (fun _ => 0) (fun _ => 0) ++ gt_MS ma mc 0 (gt_S0 (gt_G (gt_c0 L xs))) (fun _ => 0) gt_d0 0 0 [] 0) H1 := hP9
  have hD : va_D (fun q : Nat => s.heap.size ≤ q) (gt_XW xa xc ad (gt_S0 (gt_G (gt_c0 L xs))) (fun _ => 0) gt_d0 0 1 0 0 0 0 (fun _ => 0) (fun _ => 0) (fun _ => 0) ++ gt_MS ma mc 0 (gt_S0 (gt_G (gt_c0 L xs))) (fun _ => 0) gt_d0 0 0 [] 0) := hD9
  refine lv_astore_n (lv' := [(2, .ref (ma 0)), (1, .ref (xa 0)), (0, .ref b)]) hx hb d_L_law_25 rfl hl (by decide) rfl (fun ls hl => ?_)
  refine lv_iconst (v := 1) hx hb d_L_law_26 (by decide) ?_
  refine lv_istore_n (lv' := [(3, .int 1), (2, .ref (ma 0)), (1, .ref (xa 0)), (0, .ref b)]) hx hb d_L_law_27 rfl hl (by decide) rfl (fun ls hl => ?_)
  have hGi := gt_G_in (gt_c0 L xs)
  refine W.widen (k := 100 + 1) (n := 6000 + 6 * 1) (by decide) (by decide) ?_
  exact law_loop hL C0 hKX hKM (L + 6) 1 ad (gt_S0 (gt_G (gt_c0 L xs))) (fun _ => 0) gt_d0 0 1 0 [] 0 0 (fun _ => 0) (fun _ => 0) (fun _ => 0) (by omega) (by omega) (gt_Inv_0 hGi.1 hGi.2) gt_XR_0 _ _ hP hD hS ls (lv_sub hl [0, 3, 2, 1] rfl)
set_option maxHeartbeats 4000000 in
theorem lw_walk (l : Launch) (b : Addr) (xs : List Int32) : MetFree l x (headSpec (Jvm.Cond.code x code maxLocals ret :: tables_1) room_1) (lw_P b xs) (fun _ _ _ _ _ => True) lw_Q := by
  refine MetFree.of_bodyS (code := code) (maxLocals := maxLocals) (ret := ret) (by decide) ?_ ?_
  · intro args s m h hn
    obtain ⟨meth, c, h1, h2, h3, h4, h5, h6, -, -⟩ := Cond.code_spec hn (atoms_spec (ws := Jvm.Cond.code x code maxLocals ret :: tables_1) h _ List.mem_cons_self)
    exact ⟨meth, c, h1, h2, h3, h4, h5, h6⟩
  · intro p e s m args below meth c s₁ B hml0 hP _
    obtain ⟨rfl, hx, hbd, hgv⟩ := hP
    obtain ⟨scr, harrAt, hlist, hof, hsmall⟩ := hx
    obtain ⟨hcb, hkn, -, -⟩ := State.arrayAt?_spec harrAt
    have hown : s.vm.findClass R_law = some m.cls := findClass_of_methodNamed B.named
    have hts0 : ∀ c ∈ (Jvm.Cond.code x code maxLocals ret :: tables_1), c.before #[Value.ref b] s = true := atoms_spec (ws := Jvm.Cond.code x code maxLocals ret :: tables_1) B.pre
    have hts : ∀ w ∈ lw_tbl, w.before #[Value.ref b] s = true := k2_hts_sels lw_privs (fun w hw => hts0 w (List.mem_cons_of_mem _ hw)) lw_privs_ok
    have hml : c.maxLocals = 4 := B.maxLocals_eq (hts0 _ List.mem_cons_self)
    have X₀ : Stand p l e room_1 s m #[Value.ref b] below meth c s₁ [] 0 0 := Stand.of_body B
    have hh0 : s₁.heap = s.heap := by rw [B.state]; rfl
    have hsz : scr.slots.size = xs.length := by rw [← Array.length_toList, hlist, List.length_map]
    have hval : ∀ j : Nat, j < xs.length → scr.slots[j]? = some (.int (xs.getD j 0)) := fun j hj => by
      rw [← Array.getElem?_toList, hlist]
      simp [hj]
    have hbl : b < s.heap.size := (Array.getElem?_eq_some_iff.mp hcb).1
    have hX : va_X b xs.length (fun j => xs.getD j 0) s s.heap := ⟨scr, hcb, hof, hkn, hsz, hval⟩
    have K : W p l e room_1 s m #[Value.ref b] below meth c s₁.heap [] 0 0 (lw_Z below #[Value.ref b] s) (entryFrame m ([Value.ref b] : List Value).toArray 4) := by
      rw [hh0]
      exact whole_start l hbd ⟨B.exec, B.bytes, B.returns, hml, hown, hts, hX, hbl, B.notSynchronized, hgv⟩
    obtain ⟨t, a1, o, b1, b2, b3⟩ := K s₁ rfl X₀
    exact ⟨t, o, a1, b1, b2, b3⟩
theorem lw_pre_spec {args : Array Value} {s : State} (h : (Jvm.Cond.and given_1 narrow_1).before args s = true) (hr : rest_1_c.before args s = true) : ∃ (b : Addr) (xs : List Int32), lw_P b xs args s := by
  have hs := flat_of_before _ h
  have hq := flat_of_before _ hr
  have hc : (Cond.count 1).before args s = true := hs _ (by decide +kernel)
  have harr : (Cond.arrayOf (.arg 0) .int).before args s = true := hs _ (by decide +kernel)
  have hle : (Cond.le (.length (.arg 0)) (.int 2561)).before args s = true := hs _ (by decide +kernel)
  have hlen : (Cond.isInt (.length (.arg 0))).before args s = true := hq _ (by decide +kernel)
  have hall : (Cond.all (.arg 0) (.isInt (.elem (.arg 0) (.index 0)))).before args s = true := hq _ (by decide +kernel)
  obtain ⟨b, xs, hb, hx⟩ := State.ints_of_pre rfl harr hlen hall
  have hsm : xs.length < 2 ^ 31 := hx.choose_spec.2.2.2
  have hev : (Term.length (.arg 0)).eval args s none [] s = some (.int xs.length.toInt32) := hx.length_eval hb
  have hv := Cond.le_ints hev (show (Term.int 2561).eval args s none [] s = some (.int 2561) from rfl)
  have hd : xs.length.toInt32 ≤ 2561 := by
    simpa [Cond.before, Cond.holds, hv] using hle
  have hN : xs.length ≤ 2561 := (Int32.ofNat_le_ofNat hsm (by decide)).mp (show Int32.ofNat xs.length ≤ Int32.ofNat 2561 from hd)
  exact ⟨b, xs, Cond.one_arg hc (show args[0]? = some (.ref b) from hb), hx, hN, h⟩
theorem lw_comes (l : Launch) : Comes l x (Jvm.Cond.code x code maxLocals ret :: tables_1) room_1 (fun tb e args s => Calls_1 tb e args s ∧ rest_1 tb e args s ∧ Pre_1 tb e args s)
    (fun _ _ args s o t => lw_Q args s o t) := by
  intro p e ha hc hk s m args below hf hfit hheap happ hpre
  obtain ⟨b, xs, hP⟩ := lw_pre_spec hpre.2.2 hpre.2.1
  obtain ⟨k, o, h1, h2, h3, hQ⟩ := lw_walk l b xs p e ha hc hk s m args below hf ((Spec.applies_iff_loose hf).mp happ).1 hP trivial
  exact ⟨k, o, h1, h2, h3, hQ⟩
theorem lw_frame {s t : State} {o : Outcome} {args : Array Value} (h : Framed s o t [] 600000 7302250) :
    Framed s o t (fieldLocs frame_1_writes args s ++ arrayLocs frame_1_arrays args s ++ staticLocs frame_1_statics s) 600000 7302250 := h
theorem lw_limb (L : Cond) (hL : ∀ (args : Array Value) (s t : State), L.after args s (.returned (some (.int 1))) t = true) :
    ArmFor flags0 classFile x code maxLocals ret World_1 tables_1 room_1 Calls_1 rest_1 Pre_1
      (fun tb e a s o t => postC L tb e a s o t ∧ Framed s o t (fieldLocs frame_1_writes a s ++ arrayLocs frame_1_arrays a s ++ staticLocs frame_1_statics s) 600000 7302250) := by
  intro l _ _ _ p e ha hc hk s m args below hf hfit hheap happ hpre
  obtain ⟨k, o, h1, h2, h3, rfl, hF⟩ := lw_comes l p e ha hc hk s m args below hf hfit hheap happ hpre
  exact ⟨k, _, h1, h2, h3, hL args s _, lw_frame hF⟩
theorem i_vc : Claimed_1_1 ∧ Claimed_1_2 := ⟨lw_limb limb_1_1 (fun args s t => by simp [limb_1_1, Cond.after, Cond.holds, Cond.value]), lw_limb limb_1_2 (fun args s t => Cond.after_iff.mpr (by
  first | (rw [show limb_1_2 = Cond.eq .result (.int 1) from rfl, Cond.eq_ints (x := 1) (y := 1) rfl rfl]; simp; done) | (simp [limb_1_2, Cond.value, Term.eval]; done)))⟩
end
