section
/-! ===== the pure picture: two clauses over lo < hi that say 'lo equals hi'; p: lo is positive in clause 0; ml, mh: MAKER owns lo, hi; sp: clause 0 is left out ===== -/
/-- a variable's value as the desk keeps it -/
def qd_i : Option Bool → Int32
  | none => -1
  | some false => 0
  | some true => 1
def qd_b : Bool → Int32
  | false => 0
  | true => 1
/-- lo is positive in clause k -/
def qd_l (p : Bool) (k : Nat) : Bool := if k = 0 then p else !p
/-- the two bits of variable u in clause k -/
def qd_h (lo hi : Nat) (p : Bool) (k u : Nat) : Nat := if u = lo then (if qd_l p k then 1 else 2) else if u = hi then (if qd_l p k then 2 else 1) else 0
/-- MAKER owns u -/
def qd_m (lo hi : Nat) (ml mh : Bool) (u : Nat) : Bool := if u = lo then ml else if u = hi then mh else true
/-- the clause where lo has sign l is unsettled -/
def qd_op (l : Bool) (a b : Option Bool) : Bool := !(a == some l) && !(b == some (!l))
/-- force: answer, lost, the values -/
def qd_f (l ml mh : Bool) (a b : Option Bool) : Bool × Bool × Option Bool × Option Bool :=
  match a, b with
  | some x, some y => (false, true, some x, some y)
  | some x, none => if mh then (true, false, some x, some (!l)) else (false, true, some x, none)
  | none, some y => if ml then (true, false, some l, some y) else (false, true, none, some y)
  | none, none => if mh then (false, false, none, none) else if ml then (true, false, some l, none) else (false, true, none, none)
/-- one clause of a round: changed, lost, the values -/
def qd_c (sk l ml mh : Bool) (t : Bool × Bool × Option Bool × Option Bool) : Bool × Bool × Option Bool × Option Bool :=
  if t.2.1 then t else if sk then t else if qd_op l t.2.2.1 t.2.2.2 then ((qd_f l ml mh t.2.2.1 t.2.2.2).1 || t.1, (qd_f l ml mh t.2.2.1 t.2.2.2).2) else t
def qd_r (sp p ml mh : Bool) (t : Bool × Bool × Option Bool × Option Bool) : Bool × Bool × Option Bool × Option Bool :=
  qd_c false (!p) ml mh (qd_c sp p ml mh (false, t.2))
def qd_dr (sp p ml mh : Bool) : Nat → Bool × Bool × Option Bool × Option Bool → Bool × Bool × Option Bool × Option Bool
  | 0, t => t
  | n + 1, t => if t.1 then (if t.2.1 then t else qd_dr sp p ml mh n (qd_r sp p ml mh t)) else t
/-- derive: lost, the values that follow -/
def qd_d (sp p ml mh : Bool) (a b : Option Bool) : Bool × Option Bool × Option Bool := (qd_dr sp p ml mh 10 (true, false, a, b)).2
/-- occurs, for lo and hi -/
def qd_oc (sp p : Bool) (a b : Option Bool) : Bool := (!sp && qd_op p a b) || qd_op (!p) a b
/-- needsBoth -/
def qd_nl (sp p ml mh : Bool) (b : Option Bool) : Bool := qd_oc sp p none b && !(ml && (qd_d sp p ml mh none b).2.1 == some false)
def qd_nh (sp p ml mh : Bool) (a : Option Bool) : Bool := qd_oc sp p a none && !(mh && (qd_d sp p ml mh a none).2.2 == some false)
/-- the value 1 is looked at too -/
def qd_go (lo hi : Nat) (sp p ml mh : Bool) (u : Nat) (r : Bool) (a b : Option Bool) : Bool :=
  if u = lo then a == some false && (r != ml && qd_nl sp p ml mh b) else if u = hi then b == some false && (r != mh && qd_nh sp p ml mh a) else false
/-- the search: v, entering, result, the values of lo and hi -/
def qd_run (lo hi : Nat) (sp p ml mh : Bool) (st : Nat) : Nat → Nat → Bool → Bool → Option Bool → Option Bool → Option Bool
  | 0, _, _, _, _, _ => none
  | n + 1, v, true, r, a, b =>
    if (qd_d sp p ml mh a b).1 || v == 8 then qd_run lo hi sp p ml mh st n v false (!(qd_d sp p ml mh a b).1) a b
    else qd_run lo hi sp p ml mh st n (v + 1) true r (if v = lo then some (ml && (qd_d sp p ml mh a b).2.1 == some true) else a) (if v = hi then some (mh && (qd_d sp p ml mh a b).2.2 == some true) else b)
  | n + 1, v, false, r, a, b =>
    if v = st then some r
    else if qd_go lo hi sp p ml mh (v - 1) r a b then qd_run lo hi sp p ml mh st n v true r (if v - 1 = lo then some true else a) (if v - 1 = hi then some true else b)
    else qd_run lo hi sp p ml mh st n (v - 1) false r (if v - 1 = lo then none else a) (if v - 1 = hi then none else b)
/-! what the search answers, by evaluation -/
theorem qd_R0 : ∀ hi, hi < 8 → ∀ lo, lo < hi → ∀ sp p ml mh : Bool, qd_run lo hi sp p ml mh 0 100 0 true false none none = some (mh || (sp && ml)) := by decide +kernel
theorem qd_R8 : ∀ hi, hi < 8 → ∀ lo, lo < hi → ∀ p ml mh x y : Bool, qd_run lo hi false p ml mh 8 100 8 true false (some x) (some y) = some (x == y) := by decide +kernel
theorem qd_Rl : ∀ hi, hi < 8 → ∀ lo, lo < hi → ∀ p ml mh : Bool, qd_run lo hi false p ml mh lo 100 lo true false none none = some mh := by decide +kernel
/-! counting -/
def qd_n (R : Nat → Bool) : Nat → Nat → Nat
  | 0, _ => 0
  | c + 1, i => (if R i then 1 else 0) + qd_n R c (i + 1)
theorem qd_n_le (R : Nat → Bool) : ∀ c i, qd_n R c i ≤ c
  | 0, _ => Nat.le_refl 0
  | c + 1, i => by
    have h := qd_n_le R c (i + 1)
    show (if R i then 1 else 0) + qd_n R c (i + 1) ≤ c + 1
    cases R i
    · exact Nat.le_trans (Nat.le_of_eq (Nat.zero_add _)) (Nat.le_succ_of_le h)
    · show 1 + qd_n R c (i + 1) ≤ c + 1
      omega
theorem qd_n_con (m : Bool) : ∀ c i, qd_n (fun _ => m) c i = if m then c else 0
  | 0, _ => by cases m <;> rfl
  | c + 1, i => by
    have h := qd_n_con m c (i + 1)
    show (if m then 1 else 0) + qd_n (fun _ => m) c (i + 1) = if m then c + 1 else 0
    rw [h]
    cases m
    · rfl
    · show 1 + c = c + 1
      omega
/-- the bit of variable u in a position of length k -/
def qd_bit (k i u : Nat) : Bool := i / 2 ^ (k - 1 - u) % 2 == 1
theorem qd_n8 : ∀ hi, hi < 8 → ∀ lo, lo < hi → qd_n (fun i => qd_bit 8 i lo == qd_bit 8 i hi) 256 256 = 128 := by decide +kernel
end
section
/-! ===== the desk's state, and the methods isMakers and isOpen (over follows: a3; over value: a2) ===== -/
def qd_K (lo hi : Nat) (p ml mh : Bool) (mk : Int32) (a1 : Nat → Int32) : Prop :=
  lo < hi ∧ hi < 8 ∧
  (∀ k, k < 2 → ∀ u, u < 8 → (((a1 k).toUInt32 >>> ((2 * nI u).toUInt32 &&& Int32.toUInt32 31)).toInt32) &&& 3 = nI (qd_h lo hi p k u)) ∧
  (∀ k, k < 2 → ∀ u, u < 8 → (((a1 k).toUInt32 >>> ((2 * nI u).toUInt32 &&& Int32.toUInt32 31)).toInt32) &&& 1 = nI (qd_h lo hi p k u % 2)) ∧
  (∀ u, u < 8 → ((mk.toUInt32 >>> ((nI u).toUInt32 &&& Int32.toUInt32 31)).toInt32) &&& 1 = qd_b (qd_m lo hi ml mh u))
theorem qd_h_lo {lo hi : Nat} {p : Bool} {k : Nat} : qd_h lo hi p k lo = if qd_l p k then 1 else 2 := if_pos rfl
theorem qd_h_hi {lo hi : Nat} {p : Bool} {k : Nat} (h : hi ≠ lo) : qd_h lo hi p k hi = if qd_l p k then 2 else 1 := (if_neg h).trans (if_pos rfl)
theorem qd_h_ot {lo hi : Nat} {p : Bool} {k u : Nat} (h : ¬ u = lo) (h' : ¬ u = hi) : qd_h lo hi p k u = 0 := (if_neg h).trans (if_neg h')
theorem qd_h_lt (lo hi : Nat) (p : Bool) (k u : Nat) : qd_h lo hi p k u < 3 := by
  unfold qd_h
  repeat' split
  all_goals decide
theorem qd_m_lo {lo hi : Nat} {ml mh : Bool} : qd_m lo hi ml mh lo = ml := if_pos rfl
theorem qd_m_hi {lo hi : Nat} {ml mh : Bool} (h : hi ≠ lo) : qd_m lo hi ml mh hi = mh := (if_neg h).trans (if_pos rfl)
theorem qd_m_ot {lo hi : Nat} {ml mh : Bool} {u : Nat} (h : ¬ u = lo) (h' : ¬ u = hi) : qd_m lo hi ml mh u = true := (if_neg h).trans (if_neg h')
theorem qd_S1 (l : Bool) (a : Option Bool) : ((qd_i a = 1 ∧ ¬ nI (if l then 1 else 2) &&& 1 = 0) ∨ (qd_i a = 0 ∧ ¬ nI (if l then 1 else 2) &&& 2 = 0)) ↔ a = some l := by
  rcases a with _ | _ | _ <;> cases l <;> decide
theorem qd_S2 (l : Bool) (a : Option Bool) : ((qd_i a = 1 ∧ ¬ nI (if l then 2 else 1) &&& 1 = 0) ∨ (qd_i a = 0 ∧ ¬ nI (if l then 2 else 1) &&& 2 = 0)) ↔ a = some (!l) := by
  rcases a with _ | _ | _ <;> cases l <;> decide
theorem qd_S0 (x : Int32) : ¬ ((x = 1 ∧ ¬ nI 0 &&& 1 = 0) ∨ (x = 0 ∧ ¬ nI 0 &&& 2 = 0)) := fun t => t.elim (fun t => t.2 (by decide)) (fun t => t.2 (by decide))
theorem qd_op_t {l : Bool} {a b : Option Bool} (h : a ≠ some l) (h' : b ≠ some (!l)) : qd_op l a b = true := by
  revert h h'
  rcases a with _ | _ | _ <;> rcases b with _ | _ | _ <;> cases l <;> decide
theorem qd_op_fa {l : Bool} {a b : Option Bool} (h : a = some l) : qd_op l a b = false := by
  subst h
  rcases b with _ | _ | _ <;> cases l <;> rfl
theorem qd_op_fb {l : Bool} {a b : Option Bool} (h : b = some (!l)) : qd_op l a b = false := by
  subst h
  rcases a with _ | _ | _ <;> cases l <;> rfl
theorem qd_isMakers {post : Int32 → Prop} {lo hi : Nat} {p ml mh : Bool} {mk cl lf ls : Int32} {a1 a2 a3 : Nat → Int32} (K : qd_K lo hi p ml mh mk a1) {u : Nat} (hu : u < 8) (H : post (qd_b (qd_m lo hi ml mh u))) : wpX_isMakers post (mk, cl, lf, ls, a1, a2, a3) (nI u) := by
  have e := K.2.2.2.2 u hu
  cases h : qd_m lo hi ml mh u with
  | false =>
    rw [h] at e H
    exact br_t e H
  | true =>
    rw [h] at e H
    exact br_f (by rw [e]; decide) H
section
variable {post J : Int32 → Prop} {x1 x4 mk cl lf ls : Int32} {a1 a2 a3 : Nat → Int32} {i : Nat}
theorem qd_o36 (hi : i < 8) (h3 : ¬ x4 = 3) (H0 : a3 i = 0 → ¬ x4 &&& 2 = 0 → post 0) (H1 : ¬ (a3 i = 0 ∧ ¬ x4 &&& 2 = 0) → J (nI (i + 1))) : wX_isOpen_36 post J x1 (nI i) x4 mk cl lf ls a1 a2 a3 := by
  have N : ¬ (a3 i = 0 ∧ ¬ x4 &&& 2 = 0) → wX_isOpen_53 post J x1 (nI i) x4 mk cl lf ls a1 a2 a3 := fun h => br_t rfl (br_f h3 (nm_r (nI_1 i) (H1 h)))
  unfold wX_isOpen_36
  rw [nI_clamp (show i < 2 ^ 31 by omega)]
  exact ⟨pk_in i 8 hi, br_c (fun e => br_c (fun e2 => N (fun t => t.2 e2)) (fun e2 => br_f (by decide) (H0 e e2))) (fun e => N (fun t => e t.1))⟩
theorem qd_o2s {k h n : Nat} (hk : k < 2) (hi : i < 8) (hL : (((a1 k).toUInt32 >>> ((2 * nI i).toUInt32 &&& Int32.toUInt32 31)).toInt32) &&& 3 = nI h) (hh : h < 3)
    (H0 : (a3 i = 1 ∧ ¬ nI h &&& 1 = 0) ∨ (a3 i = 0 ∧ ¬ nI h &&& 2 = 0) → post 0)
    (H1 : ¬ ((a3 i = 1 ∧ ¬ nI h &&& 1 = 0) ∨ (a3 i = 0 ∧ ¬ nI h &&& 2 = 0)) → wX_isOpen_2 post (nI k) mk cl lf ls a1 a2 a3 n (nI (i + 1))) :
    wX_isOpen_2 post (nI k) mk cl lf ls a1 a2 a3 (n + 1) (nI i) := by
  have hL' : (((a1 (nI k).toNatClampNeg).toUInt32 >>> ((2 * nI i).toUInt32 &&& Int32.toUInt32 31)).toInt32) &&& 3 = nI h := by rw [nI_clamp (by omega)]; exact hL
  have h3 : ¬ nI h = 3 := fun z => absurd ((nI_eq (a := h) (b := 3) (by omega) (by decide)).mp z) (by omega)
  have ec : (nI i).toNatClampNeg = i := nI_clamp (by omega)
  refine pk_le 8 i (fun z => absurd z (by omega)) (fun _ => ⟨pk_in k 20 (by omega), nm_r hL' ⟨pk_in i 8 hi, ?_⟩⟩)
  rw [ec]
  exact br_c (fun e => br_c (fun e2 => qd_o36 hi h3 (fun a b => H0 (Or.inr ⟨a, b⟩)) (fun h => H1 (fun t => t.elim (fun t1 => t1.2 e2) h))) (fun e2 => br_f (by decide) (H0 (Or.inl ⟨e, e2⟩))))
    (fun e => qd_o36 hi h3 (fun a b => H0 (Or.inr ⟨a, b⟩)) (fun h => H1 (fun t => t.elim (fun t1 => e t1.1) h)))
end
section
variable {post : Int32 → Prop} {lo hi : Nat} {p ml mh : Bool} {mk cl lf ls : Int32} {a1 a2 a3 : Nat → Int32} {a b : Option Bool} {k : Nat}
theorem qd_o2 (K : qd_K lo hi p ml mh mk a1) (hk : k < 2) (ha : a3 lo = qd_i a) (hb : a3 hi = qd_i b) (H : post (qd_b (qd_op (qd_l p k) a b))) :
    ∀ c i, i + c = 8 → (lo < i → a ≠ some (qd_l p k)) → (hi < i → b ≠ some (!qd_l p k)) → wX_isOpen_2 post (nI k) mk cl lf ls a1 a2 a3 (c + 1) (nI i)
  | 0, i, h, g1, g2 => by
    have e : i = 8 := by omega
    have n1 : qd_op (qd_l p k) a b = true := qd_op_t (g1 (by have := K.1; have := K.2.1; omega)) (g2 (by have := K.2.1; omega))
    rw [n1] at H
    exact pk_le 8 i (fun _ => H) (fun z => absurd z (by omega))
  | c + 1, i, h, g1, g2 => by
    have ih := fun q1 q2 => qd_o2 K hk ha hb H c (i + 1) (by omega) q1 q2
    have hlh := K.1
    refine qd_o2s hk (by omega) (K.2.2.1 k hk i (by omega)) (qd_h_lt lo hi p k i) ?_ ?_
    · intro t
      by_cases e1 : i = lo
      · rw [e1, qd_h_lo, ha, qd_S1] at t
        rw [qd_op_fa t] at H
        exact H
      · by_cases e2 : i = hi
        · rw [e2, qd_h_hi (by omega), hb, qd_S2] at t
          rw [qd_op_fb t] at H
          exact H
        · rw [qd_h_ot e1 e2] at t
          exact absurd t (qd_S0 _)
    · intro t
      refine ih (fun q => ?_) (fun q => ?_)
      · by_cases e1 : i = lo
        · rw [e1, qd_h_lo, ha, qd_S1] at t
          exact t
        · exact g1 (by omega)
      · by_cases e2 : i = hi
        · rw [e2, qd_h_hi (by omega), hb, qd_S2] at t
          exact t
        · exact g2 (by omega)
theorem qd_isOpen (K : qd_K lo hi p ml mh mk a1) (hk : k < 2) (ha : a3 lo = qd_i a) (hb : a3 hi = qd_i b) (H : post (qd_b (qd_op (qd_l p k) a b))) : wpX_isOpen post (mk, cl, lf, ls, a1, a2, a3) (nI k) :=
  ⟨9, qd_o2 K hk ha hb H 8 0 (by omega) (fun q => absurd q (by omega)) (fun q => absurd q (by omega))⟩
end
section
variable {post J : Int32 → Prop} {x1 x4 mk cl lf ls : Int32} {a1 a2 a3 : Nat → Int32} {i : Nat}
theorem qd_v36 (hi : i < 8) (h3 : ¬ x4 = 3) (H0 : a2 i = 0 → ¬ x4 &&& 2 = 0 → post 0) (H1 : ¬ (a2 i = 0 ∧ ¬ x4 &&& 2 = 0) → J (nI (i + 1))) : wX_isOpen_2_36 post J x1 (nI i) x4 mk cl lf ls a1 a2 a3 := by
  have N : ¬ (a2 i = 0 ∧ ¬ x4 &&& 2 = 0) → wX_isOpen_2_53 post J x1 (nI i) x4 mk cl lf ls a1 a2 a3 := fun h => br_t rfl (br_f h3 (nm_r (nI_1 i) (H1 h)))
  unfold wX_isOpen_2_36
  rw [nI_clamp (show i < 2 ^ 31 by omega)]
  exact ⟨pk_in i 8 hi, br_c (fun e => br_c (fun e2 => N (fun t => t.2 e2)) (fun e2 => br_f (by decide) (H0 e e2))) (fun e => N (fun t => e t.1))⟩
theorem qd_v2s {k h n : Nat} (hk : k < 2) (hi : i < 8) (hL : (((a1 k).toUInt32 >>> ((2 * nI i).toUInt32 &&& Int32.toUInt32 31)).toInt32) &&& 3 = nI h) (hh : h < 3)
    (H0 : (a2 i = 1 ∧ ¬ nI h &&& 1 = 0) ∨ (a2 i = 0 ∧ ¬ nI h &&& 2 = 0) → post 0)
    (H1 : ¬ ((a2 i = 1 ∧ ¬ nI h &&& 1 = 0) ∨ (a2 i = 0 ∧ ¬ nI h &&& 2 = 0)) → wX_isOpen_2_2 post (nI k) mk cl lf ls a1 a2 a3 n (nI (i + 1))) :
    wX_isOpen_2_2 post (nI k) mk cl lf ls a1 a2 a3 (n + 1) (nI i) := by
  have hL' : (((a1 (nI k).toNatClampNeg).toUInt32 >>> ((2 * nI i).toUInt32 &&& Int32.toUInt32 31)).toInt32) &&& 3 = nI h := by rw [nI_clamp (by omega)]; exact hL
  have h3 : ¬ nI h = 3 := fun z => absurd ((nI_eq (a := h) (b := 3) (by omega) (by decide)).mp z) (by omega)
  have ec : (nI i).toNatClampNeg = i := nI_clamp (by omega)
  refine pk_le 8 i (fun z => absurd z (by omega)) (fun _ => ⟨pk_in k 20 (by omega), nm_r hL' ⟨pk_in i 8 hi, ?_⟩⟩)
  rw [ec]
  exact br_c (fun e => br_c (fun e2 => qd_v36 hi h3 (fun a b => H0 (Or.inr ⟨a, b⟩)) (fun h => H1 (fun t => t.elim (fun t1 => t1.2 e2) h))) (fun e2 => br_f (by decide) (H0 (Or.inl ⟨e, e2⟩))))
    (fun e => qd_v36 hi h3 (fun a b => H0 (Or.inr ⟨a, b⟩)) (fun h => H1 (fun t => t.elim (fun t1 => e t1.1) h)))
end
section
variable {post : Int32 → Prop} {lo hi : Nat} {p ml mh : Bool} {mk cl lf ls : Int32} {a1 a2 a3 : Nat → Int32} {a b : Option Bool} {k : Nat}
theorem qd_v2 (K : qd_K lo hi p ml mh mk a1) (hk : k < 2) (ha : a2 lo = qd_i a) (hb : a2 hi = qd_i b) (H : post (qd_b (qd_op (qd_l p k) a b))) :
    ∀ c i, i + c = 8 → (lo < i → a ≠ some (qd_l p k)) → (hi < i → b ≠ some (!qd_l p k)) → wX_isOpen_2_2 post (nI k) mk cl lf ls a1 a2 a3 (c + 1) (nI i)
  | 0, i, h, g1, g2 => by
    have e : i = 8 := by omega
    have n1 : qd_op (qd_l p k) a b = true := qd_op_t (g1 (by have := K.1; have := K.2.1; omega)) (g2 (by have := K.2.1; omega))
    rw [n1] at H
    exact pk_le 8 i (fun _ => H) (fun z => absurd z (by omega))
  | c + 1, i, h, g1, g2 => by
    have ih := fun q1 q2 => qd_v2 K hk ha hb H c (i + 1) (by omega) q1 q2
    have hlh := K.1
    refine qd_v2s hk (by omega) (K.2.2.1 k hk i (by omega)) (qd_h_lt lo hi p k i) ?_ ?_
    · intro t
      by_cases e1 : i = lo
      · rw [e1, qd_h_lo, ha, qd_S1] at t
        rw [qd_op_fa t] at H
        exact H
      · by_cases e2 : i = hi
        · rw [e2, qd_h_hi (by omega), hb, qd_S2] at t
          rw [qd_op_fb t] at H
          exact H
        · rw [qd_h_ot e1 e2] at t
          exact absurd t (qd_S0 _)
    · intro t
      refine ih (fun q => ?_) (fun q => ?_)
      · by_cases e1 : i = lo
        · rw [e1, qd_h_lo, ha, qd_S1] at t
          exact t
        · exact g1 (by omega)
      · by_cases e2 : i = hi
        · rw [e2, qd_h_hi (by omega), hb, qd_S2] at t
          exact t
        · exact g2 (by omega)
theorem qd_isOpen2 (K : qd_K lo hi p ml mh mk a1) (hk : k < 2) (ha : a2 lo = qd_i a) (hb : a2 hi = qd_i b) (H : post (qd_b (qd_op (qd_l p k) a b))) : wpX_isOpen_2 post (mk, cl, lf, ls, a1, a2, a3) (nI k) :=
  ⟨9, qd_v2 K hk ha hb H 8 0 (by omega) (fun q => absurd q (by omega)) (fun q => absurd q (by omega))⟩
end
end
section
/-! ===== force ===== -/
section
variable {post : Int32 → St2 → Prop} {mk cl lf ls x3 x4 : Int32} {a1 a2 a3 : Nat → Int32} {k i n m : Nat}
/-- a variable that is settled or not in the clause -/
theorem qd_f0 (hk : k < 2) (hi : i < 8) {h : Nat} (hL : (((a1 k).toUInt32 >>> ((2 * nI i).toUInt32 &&& Int32.toUInt32 31)).toInt32) &&& 3 = nI h) (hc : ¬ 0 ≤ a3 i → h = 0)
    (H : wX_force_12 post (nI k) mk cl lf ls a1 a2 a3 n (nI m) x3 x4 (nI i + (-1))) : wX_force_12 post (nI k) mk cl lf ls a1 a2 a3 (n + 1) (nI m) x3 x4 (nI i) := by
  have C : wX_force_47 post (wX_force_12 post (nI k) mk cl lf ls a1 a2 a3 n) (nI k) (nI m) x3 x4 (nI i) mk cl lf ls a1 a2 a3 := br_t rfl (br_t rfl (nm_e H))
  have ek : (nI k).toNatClampNeg = k := nI_clamp (by omega)
  have ei : (nI i).toNatClampNeg = i := nI_clamp (by omega)
  refine br_f (nI_pos (by omega)) ⟨pk_in i 8 hi, br_c (fun _ => C) (fun e => ⟨pk_in k 20 (by omega), br_t ?_ C⟩)⟩
  rw [ei] at e
  rw [ek, hL, hc e]
  rfl
/-- one of MAKER's -/
theorem qd_f1 {lo hi : Nat} {p ml mh : Bool} (K : qd_K lo hi p ml mh mk a1) (hk : k < 2) (hi8 : i < 8) (hh : ¬ qd_h lo hi p k i = 0) (hc : ¬ 0 ≤ a3 i) (hm : qd_m lo hi ml mh i = true)
    (H : wX_force_12 post (nI k) mk cl lf ls a1 a2 a3 n (nI (m + 1)) (nI i) x4 (nI i + (-1))) : wX_force_12 post (nI k) mk cl lf ls a1 a2 a3 (n + 1) (nI m) x3 x4 (nI i) := by
  have ek : (nI k).toNatClampNeg = k := nI_clamp (by omega)
  have ei : (nI i).toNatClampNeg = i := nI_clamp (by omega)
  have hl := qd_h_lt lo hi p k i
  have C : wX_force_48 post (wX_force_12 post (nI k) mk cl lf ls a1 a2 a3 n) (nI k) (nI m) x3 x4 (nI i) 1 mk cl lf ls a1 a2 a3 :=
    br_f (by decide) (qd_isMakers K hi8 (br_f (by rw [hm]; decide) (nm_r (nI_1 m) (nm_e H))))
  refine br_f (nI_pos (by omega)) ⟨pk_in i 8 hi8, br_f (by rw [ei]; exact hc) ⟨pk_in k 20 (by omega), br_f ?_ C⟩⟩
  rw [ek, K.2.2.1 k hk i hi8]
  exact nI_ne0 (by omega) (by omega)
/-- one of BREAKER's -/
theorem qd_f2 {lo hi : Nat} {p ml mh : Bool} (K : qd_K lo hi p ml mh mk a1) (hk : k < 2) (hi8 : i < 8) (hh : ¬ qd_h lo hi p k i = 0) (hc : ¬ 0 ≤ a3 i) (hm : qd_m lo hi ml mh i = false)
    (H : wX_force_12 post (nI k) mk cl lf ls a1 a2 a3 n (nI m) x3 (nI i) (nI i + (-1))) : wX_force_12 post (nI k) mk cl lf ls a1 a2 a3 (n + 1) (nI m) x3 x4 (nI i) := by
  have ek : (nI k).toNatClampNeg = k := nI_clamp (by omega)
  have ei : (nI i).toNatClampNeg = i := nI_clamp (by omega)
  have hl := qd_h_lt lo hi p k i
  have C : wX_force_48 post (wX_force_12 post (nI k) mk cl lf ls a1 a2 a3 n) (nI k) (nI m) x3 x4 (nI i) 1 mk cl lf ls a1 a2 a3 :=
    br_f (by decide) (qd_isMakers K hi8 (br_t (by rw [hm]; rfl) (br_f (by decide) (nm_e H))))
  refine br_f (nI_pos (by omega)) ⟨pk_in i 8 hi8, br_f (by rw [ei]; exact hc) ⟨pk_in k 20 (by omega), br_f ?_ C⟩⟩
  rw [ek, K.2.2.1 k hk i hi8]
  exact nI_ne0 (by omega) (by omega)
/-- variables that the clause doesn't have -/
theorem qd_fs {lo hi : Nat} {p ml mh : Bool} (K : qd_K lo hi p ml mh mk a1) (hk : k < 2) {d : Nat} (H : wX_force_12 post (nI k) mk cl lf ls a1 a2 a3 n (nI m) x3 x4 (nI d + (-1))) :
    ∀ c, d + c ≤ 8 → (∀ u, d ≤ u → u < d + c → u ≠ lo ∧ u ≠ hi) → wX_force_12 post (nI k) mk cl lf ls a1 a2 a3 (n + c) (nI m) x3 x4 (nI (d + c) + (-1))
  | 0, _, _ => H
  | c + 1, h8, hu => by
    have e : nI (d + (c + 1)) + (-1) = nI (d + c) := pk_m1 (d + c)
    rw [e]
    have g := hu (d + c) (by omega) (by omega)
    exact qd_f0 hk (by omega) (K.2.2.1 k hk (d + c) (by omega)) (fun _ => qd_h_ot g.1 g.2) (qd_fs K hk H c (by omega) (fun u q1 q2 => hu u q1 (by omega)))
/-- the ends -/
theorem qd_e0 (H : post 0 (mk, cl, lf, 1, a1, a2, a3)) : wX_force_12 post (nI k) mk cl lf ls a1 a2 a3 1 (nI 0) x3 x4 (nI 0 + (-1)) :=
  br_t (by decide) (br_t rfl ⟨rfl, rfl, br_f (by decide) H⟩)
theorem qd_e2 (H : post 0 (mk, cl, lf, 0, a1, a2, a3)) : wX_force_12 post (nI k) mk cl lf ls a1 a2 a3 1 (nI 2) x3 x4 (nI 0 + (-1)) :=
  br_t (by decide) (br_f (by decide) ⟨rfl, rfl, br_f (by decide) H⟩)
theorem qd_e1n {j j' : Nat} (h : j' < j) (hj : j < 8) (H : post 0 (mk, cl, lf, 0, a1, a2, a3)) : wX_force_12 post (nI k) mk cl lf ls a1 a2 a3 1 (nI 1) (nI j) (nI j') (nI 0 + (-1)) :=
  br_t (by decide) (br_f (by decide) ⟨rfl, rfl, br_t rfl (br_f (nI_ge h (by omega)) H)⟩)
theorem qd_e1 {j j' : Nat} (hk : k < 2) (h : j ≤ j') (hj : j < 8) (hj' : j' < 9) {t : Bool} (hL : (((a1 k).toUInt32 >>> ((2 * nI j).toUInt32 &&& Int32.toUInt32 31)).toInt32) &&& 1 = qd_b t) (H : post 1 (mk, cl, lf, 0, a1, a2, upd a3 j (qd_i (some t)))) : wX_force_12 post (nI k) mk cl lf ls a1 a2 a3 1 (nI 1) (nI j) (nI j') (nI 0 + (-1)) := by
  have ek : (nI k).toNatClampNeg = k := nI_clamp (by omega)
  have ej : (nI j).toNatClampNeg = j := nI_clamp (by omega)
  refine br_t (by decide) (br_f (by decide) ⟨rfl, rfl, br_t rfl (br_t (nI_le h (by omega)) ⟨pk_in k 20 (by omega), ?_⟩)⟩)
  rw [ek, ej, hL]
  cases t
  · exact br_t rfl ⟨pk_in j 8 hj, nm_e H⟩
  · exact br_f (by decide) ⟨pk_in j 8 hj, nm_e H⟩
end
theorem qd_ic (x : Bool) : 0 ≤ qd_i (some x) := by cases x <;> decide
theorem qd_in : ¬ 0 ≤ qd_i none := by decide
section
variable {post : Int32 → St2 → Prop} {lo hi : Nat} {p ml mh : Bool} {mk cl lf ls x3 x4 : Int32} {a1 a2 a3 : Nat → Int32} {a b : Option Bool} {k n m : Nat}
/-- behind lo -/
theorem qd_gL (K : qd_K lo hi p ml mh mk a1) (hk : k < 2) (H : wX_force_12 post (nI k) mk cl lf ls a1 a2 a3 1 (nI m) x3 x4 (nI 0 + (-1))) : wX_force_12 post (nI k) mk cl lf ls a1 a2 a3 (1 + lo) (nI m) x3 x4 (nI lo + (-1)) := by
  have h1 := K.1
  have h2 := K.2.1
  have h := qd_fs K hk H lo (by omega) (fun u q1 q2 => ⟨by omega, by omega⟩)
  rw [Nat.zero_add] at h
  exact h
/-- from hi to lo -/
theorem qd_gM (K : qd_K lo hi p ml mh mk a1) (hk : k < 2) (H : wX_force_12 post (nI k) mk cl lf ls a1 a2 a3 n (nI m) x3 x4 (nI lo)) : wX_force_12 post (nI k) mk cl lf ls a1 a2 a3 (n + (hi - lo - 1)) (nI m) x3 x4 (nI hi + (-1)) := by
  have h1 := K.1
  have h2 := K.2.1
  have h := qd_fs (d := lo + 1) K hk (by rw [pk_m1]; exact H) (hi - lo - 1) (by omega) (fun u q1 q2 => ⟨by omega, by omega⟩)
  rw [show lo + 1 + (hi - lo - 1) = hi by omega] at h
  exact h
/-- from 7 to hi -/
theorem qd_gH (K : qd_K lo hi p ml mh mk a1) (hk : k < 2) (H : wX_force_12 post (nI k) mk cl lf ls a1 a2 a3 n (nI m) x3 x4 (nI hi)) : wX_force_12 post (nI k) mk cl lf ls a1 a2 a3 (n + (7 - hi)) (nI m) x3 x4 (nI 7) := by
  have h1 := K.1
  have h2 := K.2.1
  have h := qd_fs (d := hi + 1) K hk (by rw [pk_m1]; exact H) (7 - hi) (by omega) (fun u q1 q2 => ⟨by omega, by omega⟩)
  rw [show hi + 1 + (7 - hi) = 7 + 1 by omega, pk_m1] at h
  exact h
theorem qd_force (K : qd_K lo hi p ml mh mk a1) (hk : k < 2) (ha : a3 lo = qd_i a) (hb : a3 hi = qd_i b)
    (H : ∀ a3' : Nat → Int32, a3' lo = qd_i (qd_f (qd_l p k) ml mh a b).2.2.1 → a3' hi = qd_i (qd_f (qd_l p k) ml mh a b).2.2.2 → post (qd_b (qd_f (qd_l p k) ml mh a b).1) (mk, cl, lf, qd_b (qd_f (qd_l p k) ml mh a b).2.1, a1, a2, a3')) :
    wpX_force post (mk, cl, lf, ls, a1, a2, a3) (nI k) := by
  have h1 := K.1
  have h2 := K.2.1
  have hne : hi ≠ lo := by omega
  have eL := K.2.2.1 k hk lo (by omega)
  have eH := K.2.2.1 k hk hi h2
  have nL : ¬ qd_h lo hi p k lo = 0 := by rw [qd_h_lo]; cases qd_l p k <;> decide
  have nH : ¬ qd_h lo hi p k hi = 0 := by rw [qd_h_hi hne]; cases qd_l p k <;> decide
  have tL : (((a1 k).toUInt32 >>> ((2 * nI lo).toUInt32 &&& Int32.toUInt32 31)).toInt32) &&& 1 = qd_b (qd_l p k) := by
    rw [K.2.2.2.1 k hk lo (by omega), qd_h_lo]; cases qd_l p k <;> rfl
  have tH : (((a1 k).toUInt32 >>> ((2 * nI hi).toUInt32 &&& Int32.toUInt32 31)).toInt32) &&& 1 = qd_b (!qd_l p k) := by
    rw [K.2.2.2.1 k hk hi h2, qd_h_hi hne]; cases qd_l p k <;> rfl
  have uL : ∀ x, upd a3 lo x hi = qd_i b := fun x => by rw [pk_un hne]; exact hb
  have uH : ∀ x, upd a3 hi x lo = qd_i a := fun x => by rw [pk_un hne.symm]; exact ha
  cases a with
  | some x =>
    have cL : ∀ h : Nat, ¬ 0 ≤ a3 lo → h = 0 := fun h z => absurd (by rw [ha]; exact qd_ic x) z
    cases b with
    | some y =>
      have cH : ∀ h : Nat, ¬ 0 ≤ a3 hi → h = 0 := fun h z => absurd (by rw [hb]; exact qd_ic y) z
      exact ⟨_, qd_gH (m := 0) K hk (qd_f0 hk h2 eH (cH _) (qd_gM K hk (qd_f0 hk (by omega) eL (cL _) (qd_gL K hk (qd_e0 (H a3 ha hb))))))⟩
    | none =>
      have cH : ¬ 0 ≤ a3 hi := by rw [hb]; exact qd_in
      cases mh with
      | true => exact ⟨_, qd_gH (m := 0) K hk (qd_f1 K hk h2 nH cH (qd_m_hi hne) (qd_gM K hk (qd_f0 hk (by omega) eL (cL _) (qd_gL K hk (qd_e1 (j' := 8) hk (by omega) h2 (by omega) tH (H _ (uH _) pk_us))))))⟩
      | false => exact ⟨_, qd_gH (m := 0) K hk (qd_f2 K hk h2 nH cH (qd_m_hi hne) (qd_gM K hk (qd_f0 hk (by omega) eL (cL _) (qd_gL K hk (qd_e0 (H a3 ha hb))))))⟩
  | none =>
    have cL : ¬ 0 ≤ a3 lo := by rw [ha]; exact qd_in
    cases b with
    | some y =>
      have cH : ∀ h : Nat, ¬ 0 ≤ a3 hi → h = 0 := fun h z => absurd (by rw [hb]; exact qd_ic y) z
      cases ml with
      | true => exact ⟨_, qd_gH (m := 0) K hk (qd_f0 hk h2 eH (cH _) (qd_gM K hk (qd_f1 K hk (by omega) nL cL qd_m_lo (qd_gL K hk (qd_e1 (j' := 8) hk (by omega) (by omega) (by omega) tL (H _ pk_us (uL _)))))))⟩
      | false => exact ⟨_, qd_gH (m := 0) K hk (qd_f0 hk h2 eH (cH _) (qd_gM K hk (qd_f2 K hk (by omega) nL cL qd_m_lo (qd_gL K hk (qd_e0 (H a3 ha hb))))))⟩
    | none =>
      have cH : ¬ 0 ≤ a3 hi := by rw [hb]; exact qd_in
      cases mh with
      | true =>
        cases ml with
        | true => exact ⟨_, qd_gH (m := 0) K hk (qd_f1 K hk h2 nH cH (qd_m_hi hne) (qd_gM K hk (qd_f1 K hk (by omega) nL cL qd_m_lo (qd_gL K hk (qd_e2 (H a3 ha hb))))))⟩
        | false => exact ⟨_, qd_gH (m := 0) K hk (qd_f1 K hk h2 nH cH (qd_m_hi hne) (qd_gM K hk (qd_f2 K hk (by omega) nL cL qd_m_lo (qd_gL K hk (qd_e1n h1 h2 (H a3 ha hb))))))⟩
      | false =>
        cases ml with
        | true => exact ⟨_, qd_gH (m := 0) K hk (qd_f2 K hk h2 nH cH (qd_m_hi hne) (qd_gM K hk (qd_f1 K hk (by omega) nL cL qd_m_lo (qd_gL K hk (qd_e1 hk (by omega) (by omega) (by omega) tL (H _ pk_us (uL _)))))))⟩
        | false => exact ⟨_, qd_gH (m := 0) K hk (qd_f2 K hk h2 nH cH (qd_m_hi hne) (qd_gM K hk (qd_f2 K hk (by omega) nL cL qd_m_lo (qd_gL K hk (qd_e0 (H a3 ha hb))))))⟩
end
end
section
/-! ===== derive ===== -/
/-- the field leftOut -/
def qd_lf : Bool → Int32
  | true => 0
  | false => -1
section
variable {post : St2 → Prop} {J : Int32 → Int32 → Int32 → Int32 → Int32 → Int32 → (Nat → Int32) → (Nat → Int32) → (Nat → Int32) → Prop} {lo hi : Nat} {sp p ml mh : Bool} {mk : Int32} {a1 a2 a3 : Nat → Int32} {a b : Option Bool} {k n r : Nat} {ch ls : Bool}
/-- one clause of a round -/
theorem qd_57s (K : qd_K lo hi p ml mh mk a1) (hk : k < 2) {sk : Bool} (hs : nI k = qd_lf sp ↔ sk = true) (ha : a3 lo = qd_i a) (hb : a3 hi = qd_i b)
    (HX : ls = true → J (qd_b ch) (nI (r + 1)) mk (nI 2) (qd_lf sp) (qd_b ls) a1 a2 a3)
    (HN : ∀ (ch' ls' : Bool) (a' b' : Option Bool), ls = false → qd_c sk (qd_l p k) ml mh (ch, false, a, b) = (ch', ls', a', b') → ∀ a3' : Nat → Int32, a3' lo = qd_i a' → a3' hi = qd_i b' → wX_derive_57 post J (nI r) n (qd_b ch') (nI (k + 1)) mk (nI 2) (qd_lf sp) (qd_b ls') a1 a2 a3') :
    wX_derive_57 post J (nI r) (n + 1) (qd_b ch) (nI k) mk (nI 2) (qd_lf sp) (qd_b ls) a1 a2 a3 := by
  refine br_f (nI_ge hk (by decide)) ?_
  cases ls with
  | true => exact br_f (by decide) (nm_r (nI_1 r) (HX rfl))
  | false =>
    refine br_t rfl (br_c (fun e => nm_r (nI_1 k) ?_) (fun e => qd_isOpen K hk ha hb ?_))
    · exact HN ch false a b rfl (by rw [hs.mp e]; rfl) a3 ha hb
    · have esk : sk = false := by
        cases sk
        · rfl
        · exact absurd (hs.mpr rfl) e
      cases ho : qd_op (qd_l p k) a b with
      | false =>
        refine br_t rfl (nm_r (nI_1 k) ?_)
        exact HN ch false a b rfl (by rw [esk]; show (if qd_op (qd_l p k) a b then _ else _) = _; rw [ho]; rfl) a3 ha hb
      | true =>
        have hc : qd_c sk (qd_l p k) ml mh (ch, false, a, b) = ((qd_f (qd_l p k) ml mh a b).1 || ch, (qd_f (qd_l p k) ml mh a b).2) := by
          rw [esk]; show (if qd_op (qd_l p k) a b then _ else _) = _; rw [ho]; rfl
        refine br_f (by decide) (qd_force K hk ha hb (fun a3' ha' hb' => ?_))
        cases hf : (qd_f (qd_l p k) ml mh a b).1 with
        | false =>
          rw [hf, Bool.false_or] at hc
          have hn := HN ch _ _ _ rfl hc a3' ha' hb'
          refine br_t rfl ?_
          cases ch with
          | false => exact br_t rfl (nm_r (nI_1 k) hn)
          | true => exact br_f (by decide) (nm_r (nI_1 k) hn)
        | true =>
          rw [hf, Bool.true_or] at hc
          have hn := HN true _ _ _ rfl hc a3' ha' hb'
          exact br_f (by decide) (nm_r (nI_1 k) hn)
theorem qd_57e {cb lb : Bool} (H : J (qd_b cb) (nI (r + 1)) mk (nI 2) (qd_lf sp) (qd_b lb) a1 a2 a3) : wX_derive_57 post J (nI r) (n + 1) (qd_b cb) (nI 2) mk (nI 2) (qd_lf sp) (qd_b lb) a1 a2 a3 :=
  br_t (nI_le (Nat.le_refl 2) (by decide)) (nm_r (nI_1 r) H)
/-- a round -/
theorem qd_57 (K : qd_K lo hi p ml mh mk a1) (ha : a3 lo = qd_i a) (hb : a3 hi = qd_i b)
    (H : ∀ (ch' ls' : Bool) (a' b' : Option Bool), qd_r sp p ml mh (true, false, a, b) = (ch', ls', a', b') → ∀ a3' : Nat → Int32, a3' lo = qd_i a' → a3' hi = qd_i b' → J (qd_b ch') (nI (r + 1)) mk (nI 2) (qd_lf sp) (qd_b ls') a1 a2 a3') :
    wX_derive_57 post J (nI r) 3 (qd_b false) (nI 0) mk (nI 2) (qd_lf sp) (qd_b false) a1 a2 a3 := by
  refine qd_57s (k := 0) (sk := sp) K (by decide) (by cases sp <;> decide) ha hb (fun z => absurd z (by decide)) ?_
  intro ch1 ls1 a' b' _ e1 a3' ha' hb'
  have hr : qd_r sp p ml mh (true, false, a, b) = qd_c false (!p) ml mh (ch1, ls1, a', b') := congrArg (qd_c false (!p) ml mh) e1
  refine qd_57s (k := 1) (sk := false) K (by decide) (by cases sp <;> decide) ha' hb' (fun z => ?_) ?_
  · exact H _ _ _ _ (by rw [hr, z]; rfl) a3' ha' hb'
  · intro ch2 ls2 a'' b'' z e2 a3'' ha'' hb''
    exact qd_57e (H _ _ _ _ (by rw [hr, z]; exact e2) a3'' ha'' hb'')
theorem qd_35 (K : qd_K lo hi p ml mh mk a1) : ∀ (n r : Nat) (ch ls : Bool) (a b : Option Bool) (a3 : Nat → Int32), r + n = 10 → a3 lo = qd_i a → a3 hi = qd_i b →
    (∀ a3' : Nat → Int32, a3' lo = qd_i (qd_dr sp p ml mh n (ch, ls, a, b)).2.2.1 → a3' hi = qd_i (qd_dr sp p ml mh n (ch, ls, a, b)).2.2.2 → post (mk, nI 2, qd_lf sp, qd_b (qd_dr sp p ml mh n (ch, ls, a, b)).2.1, a1, a2, a3')) →
    wX_derive_35 post (n + 1) (qd_b ch) (nI r) mk (nI 2) (qd_lf sp) (qd_b ls) a1 a2 a3
  | 0, r, ch, ls, a, b, a3, hr, ha, hb, H => by
    exact pk_le 10 r (fun _ => H a3 ha hb) (fun z => absurd z (by omega))
  | n + 1, r, false, ls, a, b, a3, hr, ha, hb, H => by
    exact pk_le 10 r (fun z => absurd z (by omega)) (fun _ => br_t rfl (H a3 ha hb))
  | n + 1, r, true, true, a, b, a3, hr, ha, hb, H => by
    exact pk_le 10 r (fun z => absurd z (by omega)) (fun _ => br_f (by decide) (br_f (by decide) (H a3 ha hb)))
  | n + 1, r, true, false, a, b, a3, hr, ha, hb, H => by
    refine pk_le 10 r (fun z => absurd z (by omega)) (fun _ => br_f (by decide) (br_t rfl ⟨3, qd_57 K ha hb ?_⟩))
    intro ch' ls' a' b' e a3' ha' hb'
    refine qd_35 K n (r + 1) ch' ls' a' b' a3' (by omega) ha' hb' ?_
    have ed : qd_dr sp p ml mh (n + 1) (true, false, a, b) = qd_dr sp p ml mh n (ch', ls', a', b') := congrArg (qd_dr sp p ml mh n) e
    rw [ed] at H
    exact H
theorem qd_derive {ls : Int32} {v : Int32} (K : qd_K lo hi p ml mh mk a1) (ha : a2 lo = qd_i a) (hb : a2 hi = qd_i b)
    (H : ∀ a3' : Nat → Int32, a3' lo = qd_i (qd_d sp p ml mh a b).2.1 → a3' hi = qd_i (qd_d sp p ml mh a b).2.2 → post (mk, nI 2, qd_lf sp, qd_b (qd_d sp p ml mh a b).1, a1, a2, a3')) :
    wpX_derive post (mk, nI 2, qd_lf sp, ls, a1, a2, a3) v := by
  have h1 := K.1
  have h2 := K.2.1
  refine pk_loop (fun n i s => wX_derive_7 post mk (nI 2) (qd_lf sp) 0 n (nI i) a1 a2 s) (fun i s => ∀ j, j < i → s j = a2 j) 8 0 a3 (by omega) (fun j hj => absurd hj (by omega)) ?_ ?_
  · intro n s h
    exact pk_le 8 8 (fun _ => ⟨11, qd_35 K 10 0 true false a b s (by omega) ((h lo (by omega)).trans ha) ((h hi (by omega)).trans hb) H⟩) (fun z => absurd z (by omega))
  · intro n i s hi8 h hw
    have ec : (nI i).toNatClampNeg = i := nI_clamp (by omega)
    refine pk_le 8 i (fun z => absurd z (by omega)) (fun _ => ⟨pk_in i 8 hi8, pk_in i 8 hi8, nm_e (nm_r (nI_1 i) (hw _ ?_))⟩)
    rw [ec]
    intro j hj
    by_cases e : j = i
    · rw [e, pk_us]
    · rw [pk_un e]
      exact h j (by omega)
end
/-! ===== occurs, firstValue, needsBoth ===== -/
section
variable {lo hi : Nat} {sp p ml mh : Bool} {mk ls : Int32} {a1 a2 a3 : Nat → Int32} {a b : Option Bool} {k n u : Nat}
/-- one clause -/
theorem qd_ocs {post : Int32 → Prop} (K : qd_K lo hi p ml mh mk a1) (hk : k < 2) (hu : u < 8) {sk : Bool} (hs : nI k = qd_lf sp ↔ sk = true) (ha : a2 lo = qd_i a) (hb : a2 hi = qd_i b)
    (H1 : sk = false → qd_op (qd_l p k) a b = true → ¬ qd_h lo hi p k u = 0 → post 1)
    (H0 : ¬ (sk = false ∧ qd_op (qd_l p k) a b = true ∧ ¬ qd_h lo hi p k u = 0) → wX_occurs_2 post (nI u) mk (nI 2) (qd_lf sp) ls a1 a2 a3 n (nI (k + 1))) :
    wX_occurs_2 post (nI u) mk (nI 2) (qd_lf sp) ls a1 a2 a3 (n + 1) (nI k) := by
  have ek : (nI k).toNatClampNeg = k := nI_clamp (by omega)
  have hl := qd_h_lt lo hi p k u
  refine br_f (nI_ge hk (by decide)) (br_c (fun e => nm_r (nI_1 k) (H0 (fun t => ?_))) (fun e => qd_isOpen2 K hk ha hb ?_))
  · exact absurd (hs.mp e) (by rw [t.1]; decide)
  · have esk : sk = false := by
      cases sk
      · rfl
      · exact absurd (hs.mpr rfl) e
    cases ho : qd_op (qd_l p k) a b with
    | false => exact br_t rfl (nm_r (nI_1 k) (H0 (fun t => absurd (ho.symm.trans t.2.1) (by decide))))
    | true =>
      refine br_f (by decide) ⟨pk_in k 20 (by omega), ?_⟩
      rw [ek, K.2.2.1 k hk u hu]
      exact pk_eq (qd_h lo hi p k u) 0 (fun z => nm_r (nI_1 k) (H0 (fun t => t.2.2 z))) (fun z => H1 esk ho z)
theorem qd_occurs {post : Int32 → Prop} (K : qd_K lo hi p ml mh mk a1) (hu : u < 8) (ha : a2 lo = qd_i a) (hb : a2 hi = qd_i b)
    (H : post (qd_b ((u == lo || u == hi) && qd_oc sp p a b))) : wpX_occurs post (mk, nI 2, qd_lf sp, ls, a1, a2, a3) (nI u) := by
  have h1 := K.1
  have h2 := K.2.1
  have hz : ∀ k, (qd_h lo hi p k u = 0 ↔ ¬ (u = lo ∨ u = hi)) := by
    intro k
    constructor
    · intro z t
      rcases t with e | e
      · rw [e, qd_h_lo] at z
        revert z
        cases qd_l p k <;> decide
      · rw [e, qd_h_hi (by omega)] at z
        revert z
        cases qd_l p k <;> decide
    · intro z
      exact qd_h_ot (fun e => z (Or.inl e)) (fun e => z (Or.inr e))
  by_cases hq : u = lo ∨ u = hi
  · have eq : (u == lo || u == hi) = true := by
      rcases hq with e | e
      · rw [e]; simp
      · rw [e]; simp
    rw [eq, Bool.true_and] at H
    have nz : ∀ k, ¬ qd_h lo hi p k u = 0 := fun k z => (hz k).mp z hq
    refine ⟨3, qd_ocs (k := 0) (sk := sp) K (by decide) hu (by cases sp <;> decide) ha hb (fun e1 e2 _ => ?_) (fun q1 => ?_)⟩
    · have e : qd_oc sp p a b = true := by
        have e2' : qd_op p a b = true := e2
        unfold qd_oc
        rw [e1, e2']
        rfl
      rw [e] at H
      exact H
    · have q1' : (!sp && qd_op p a b) = false := by
        have e0 : qd_l p 0 = p := rfl
        rw [e0] at q1
        cases sp
        · cases hh : qd_op p a b
          · rfl
          · exact absurd ⟨rfl, hh, nz 0⟩ q1
        · rfl
      have e' : qd_oc sp p a b = qd_op (!p) a b := by
        unfold qd_oc
        rw [q1', Bool.false_or]
      rw [e'] at H
      refine qd_ocs (k := 1) (sk := false) K (by decide) hu (by cases sp <;> decide) ha hb (fun _ e2 _ => ?_) (fun q2 => ?_)
      · have e2' : qd_op (!p) a b = true := e2
        rw [e2'] at H
        exact H
      · have e2' : qd_op (!p) a b = false := by
          have e0 : qd_l p 1 = !p := rfl
          rw [e0] at q2
          cases hh : qd_op (!p) a b
          · rfl
          · exact absurd ⟨rfl, hh, nz 1⟩ q2
        rw [e2'] at H
        exact br_t (nI_le (Nat.le_refl 2) (by decide)) H
  · have eq : (u == lo || u == hi) = false := by
      have e1 : u ≠ lo := fun e => hq (Or.inl e)
      have e2 : u ≠ hi := fun e => hq (Or.inr e)
      simp [e1, e2]
    rw [eq, Bool.false_and] at H
    have zz : ∀ k, qd_h lo hi p k u = 0 := fun k => (hz k).mpr hq
    exact ⟨3, qd_ocs (k := 0) (sk := sp) K (by decide) hu (by cases sp <;> decide) ha hb (fun _ _ z => absurd (zz 0) z) (fun _ =>
      qd_ocs (k := 1) (sk := false) K (by decide) hu (by cases sp <;> decide) ha hb (fun _ _ z => absurd (zz 1) z) (fun _ => br_t (nI_le (Nat.le_refl 2) (by decide)) H))⟩
theorem qd_e1i (x : Option Bool) : qd_i x = 1 ↔ (x == some true) = true := by
  rcases x with _ | _ | _ <;> decide
theorem qd_e0i (x : Option Bool) : qd_i x = 0 ↔ (x == some false) = true := by
  rcases x with _ | _ | _ <;> decide
theorem qd_first {post : Int32 → Prop} {cl lf : Int32} (K : qd_K lo hi p ml mh mk a1) (hu : u < 8) (ha : a3 lo = qd_i a) (hb : a3 hi = qd_i b)
    (H : ∀ x : Bool, (u = lo → x = (ml && a == some true)) → (u = hi → x = (mh && b == some true)) → post (qd_b x)) : wpX_firstValue post (mk, cl, lf, ls, a1, a2, a3) (nI u) := by
  have h1 := K.1
  have eu : (nI u).toNatClampNeg = u := nI_clamp (by omega)
  have mlo : u = lo → qd_m lo hi ml mh u = ml := fun e => by rw [e]; exact qd_m_lo
  have mhi : u = hi → qd_m lo hi ml mh u = mh := fun e => by rw [e]; exact qd_m_hi (by omega)
  unfold wpX_firstValue
  dsimp only
  refine qd_isMakers K hu ?_
  cases hm : qd_m lo hi ml mh u with
  | false =>
    refine br_t rfl (H false (fun e => ?_) (fun e => ?_))
    · rw [← mlo e, hm]; rfl
    · rw [← mhi e, hm]; rfl
  | true =>
    refine br_f (by decide) ⟨pk_in u 8 hu, ?_⟩
    rw [eu]
    refine br_c (fun g => H true (fun e => ?_) (fun e => ?_)) (fun g => H false (fun e => ?_) (fun e => ?_))
    · rw [e, ha, qd_e1i] at g
      rw [← mlo e, hm, g]; rfl
    · rw [e, hb, qd_e1i] at g
      rw [← mhi e, hm, g]; rfl
    · rw [e, ha, qd_e1i] at g
      rw [← mlo e, hm, Bool.true_and]
      exact (Bool.eq_false_iff.mpr g).symm
    · rw [e, hb, qd_e1i] at g
      rw [← mhi e, hm, Bool.true_and]
      exact (Bool.eq_false_iff.mpr g).symm
theorem qd_up (f : Nat → Int32) (u j : Nat) (x y : Option Bool) (h : f j = qd_i y) : upd f u (qd_i x) j = qd_i (if u = j then x else y) := by
  by_cases e : u = j
  · rw [if_pos e, e, pk_us]
  · rw [if_neg e, pk_un (fun z => e z.symm), h]
/-- needsBoth's answer -/
def qd_nb (lo hi : Nat) (sp p ml mh : Bool) (u : Nat) (a b : Option Bool) : Bool :=
  if u = lo then qd_nl sp p ml mh b else if u = hi then qd_nh sp p ml mh a else false
theorem qd_needs {post : Int32 → St2 → Prop} (K : qd_K lo hi p ml mh mk a1) (hu : u < 8) (ha : a2 lo = qd_i a) (hb : a2 hi = qd_i b)
    (H : ∀ (ls' : Int32) (a2' a3' : Nat → Int32), a2' lo = qd_i (if u = lo then some false else a) → a2' hi = qd_i (if u = hi then some false else b) → post (qd_b (qd_nb lo hi sp p ml mh u a b)) (mk, nI 2, qd_lf sp, ls', a1, a2', a3')) :
    wpX_needsBoth post (mk, nI 2, qd_lf sp, ls, a1, a2, a3) (nI u) := by
  have h1 := K.1
  have hne : hi ≠ lo := by omega
  have eu : (nI u).toNatClampNeg = u := nI_clamp (by omega)
  have va := qd_up a2 u lo none a ha
  have vb := qd_up a2 u hi none b hb
  refine ⟨pk_in u 8 hu, nm_r (e' := upd a2 u (qd_i none)) (by rw [eu]; rfl) (qd_derive K va vb (fun a3' wa wb => qd_occurs K hu va vb ⟨pk_in u 8 hu, nm_r (e' := upd (upd a2 u (qd_i none)) u (qd_i (some false))) (by rw [eu]; rfl) ?_⟩))⟩
  have xa : upd (upd a2 u (qd_i none)) u (qd_i (some false)) lo = qd_i (if u = lo then some false else a) := by
    rw [qd_up _ u lo (some false) _ va]
    by_cases e : u = lo
    · rw [if_pos e, if_pos e]
    · rw [if_neg e, if_neg e, if_neg e]
  have xb : upd (upd a2 u (qd_i none)) u (qd_i (some false)) hi = qd_i (if u = hi then some false else b) := by
    rw [qd_up _ u hi (some false) _ vb]
    by_cases e : u = hi
    · rw [if_pos e, if_pos e]
    · rw [if_neg e, if_neg e, if_neg e]
  have HH := fun ls' => H ls' _ a3' xa xb
  refine qd_isMakers K hu ?_
  by_cases e1 : u = lo
  · have en : qd_nb lo hi sp p ml mh u a b = qd_nl sp p ml mh b := if_pos e1
    have eo : ((u == lo || u == hi) && qd_oc sp p (if u = lo then none else a) (if u = hi then none else b)) = qd_oc sp p none b := by
      rw [if_pos e1, if_neg (show ¬ u = hi by omega), e1]; simp
    have em : qd_m lo hi ml mh u = ml := by rw [e1]; exact qd_m_lo
    have ew : a3' u = qd_i (qd_d sp p ml mh none b).2.1 := by
      rw [if_pos e1, if_neg (show ¬ u = hi by omega)] at wa
      rw [e1]; exact wa
    rw [eo, em, eu, ew]
    rw [en] at HH
    unfold qd_nl at HH
    generalize qd_oc sp p none b = o at HH ⊢
    generalize (qd_d sp p ml mh none b).2.1 = y at HH ⊢
    cases ml with
    | false =>
      refine br_t rfl ?_
      cases o with
      | false => exact br_t rfl (HH _)
      | true => exact br_f (by decide) (br_t rfl (HH _))
    | true =>
      refine br_f (by decide) ⟨pk_in u 8 hu, ?_⟩
      rcases y with _ | _ | _
      · refine br_f (by decide) ?_
        cases o with
        | false => exact br_t rfl (HH _)
        | true => exact br_f (by decide) (br_t rfl (HH _))
      · refine br_t rfl ?_
        cases o with
        | false => exact br_t rfl (HH _)
        | true => exact br_f (by decide) (br_f (by decide) (HH _))
      · refine br_f (by decide) ?_
        cases o with
        | false => exact br_t rfl (HH _)
        | true => exact br_f (by decide) (br_t rfl (HH _))
  · by_cases e2 : u = hi
    · have en : qd_nb lo hi sp p ml mh u a b = qd_nh sp p ml mh a := (if_neg e1).trans (if_pos e2)
      have eo : ((u == lo || u == hi) && qd_oc sp p (if u = lo then none else a) (if u = hi then none else b)) = qd_oc sp p a none := by
        rw [if_pos e2, if_neg e1, e2]; simp
      have em : qd_m lo hi ml mh u = mh := by rw [e2]; exact qd_m_hi hne
      have ew : a3' u = qd_i (qd_d sp p ml mh a none).2.2 := by
        rw [if_pos e2, if_neg e1] at wb
        rw [e2]; exact wb
      rw [eo, em, eu, ew]
      rw [en] at HH
      unfold qd_nh at HH
      generalize qd_oc sp p a none = o at HH ⊢
      generalize (qd_d sp p ml mh a none).2.2 = y at HH ⊢
      cases mh with
      | false =>
        refine br_t rfl ?_
        cases o with
        | false => exact br_t rfl (HH _)
        | true => exact br_f (by decide) (br_t rfl (HH _))
      | true =>
        refine br_f (by decide) ⟨pk_in u 8 hu, ?_⟩
        rcases y with _ | _ | _
        · refine br_f (by decide) ?_
          cases o with
          | false => exact br_t rfl (HH _)
          | true => exact br_f (by decide) (br_t rfl (HH _))
        · refine br_t rfl ?_
          cases o with
          | false => exact br_t rfl (HH _)
          | true => exact br_f (by decide) (br_f (by decide) (HH _))
        · refine br_f (by decide) ?_
          cases o with
          | false => exact br_t rfl (HH _)
          | true => exact br_f (by decide) (br_t rfl (HH _))
    · have en : qd_nb lo hi sp p ml mh u a b = false := (if_neg e1).trans (if_neg e2)
      have eo : ((u == lo || u == hi) && qd_oc sp p (if u = lo then none else a) (if u = hi then none else b)) = false := by
        simp [e1, e2]
      rw [eo]
      rw [en] at HH
      refine br_c (fun _ => br_t rfl (HH _)) (fun _ => ⟨pk_in u 8 hu, br_c (fun _ => br_t rfl (HH _)) (fun _ => br_t rfl (HH _))⟩)
end
end
section
/-! ===== the search ===== -/
theorem qd_nar (r : Bool) : narrow .boolean (.int (qd_b r)) = .int (qd_b r) := by cases r <;> rfl
theorem qd_if2 {c : Prop} {h : Decidable c} {α : Type} (x y z : α) : (@ite _ c h x (@ite _ c h y z)) = @ite _ c h x z := by
  by_cases e : c
  · rw [if_pos e, if_pos e]
  · rw [if_neg e, if_neg e, if_neg e]
theorem qd_go_iff {lo hi w : Nat} {sp p ml mh r : Bool} {a b : Option Bool} {x : Int32} (hne : hi ≠ lo) (ha : w = lo → x = qd_i a) (hb : w = hi → x = qd_i b) :
    qd_go lo hi sp p ml mh w r a b = true ↔ (x = 0 ∧ ¬ qd_b r = qd_b (qd_m lo hi ml mh w) ∧ qd_nb lo hi sp p ml mh w a b = true) := by
  unfold qd_go qd_nb qd_m
  by_cases e1 : w = lo
  · rw [if_pos e1, if_pos e1, if_pos e1, ha e1]
    generalize qd_nl sp p ml mh b = o
    rcases a with _ | _ | _ <;> cases r <;> cases ml <;> cases o <;> decide
  · by_cases e2 : w = hi
    · rw [if_neg e1, if_neg e1, if_neg e1, if_pos e2, if_pos e2, if_pos e2, hb e2]
      generalize qd_nh sp p ml mh a = o
      rcases b with _ | _ | _ <;> cases r <;> cases mh <;> cases o <;> decide
    · rw [if_neg e1, if_neg e1, if_neg e1, if_neg e2, if_neg e2, if_neg e2]
      exact ⟨fun z => absurd z (by decide), fun z => absurd z.2.2 (by decide)⟩
theorem qd_54 {post : Int32 → St2 → Prop} {lo hi : Nat} {sp p ml mh R : Bool} {mk : Int32} {a1 : Nat → Int32} {st : Nat} (K : qd_K lo hi p ml mh mk a1)
    (H : ∀ (ls : Int32) (a2 a3 : Nat → Int32), post (qd_b R) (mk, nI 2, qd_lf sp, ls, a1, a2, a3)) :
    ∀ (n v : Nat) (e r : Bool) (a b : Option Bool) (i : Nat) (ls : Int32) (a2 a3 : Nat → Int32), st ≤ v → v ≤ 8 → i + n ≤ 2000 → a2 lo = qd_i a → a2 hi = qd_i b →
    qd_run lo hi sp p ml mh st n v e r a b = some R → wX_isWon_54 post (nI st) n (nI v) (qd_b e) (qd_b r) (nI i) mk (nI 2) (qd_lf sp) ls a1 a2 a3
  | 0, v, e, r, a, b, i, ls, a2, a3, hs, h8, hn, ha, hb, h => absurd h.symm (Option.some_ne_none R)
  | n + 1, v, true, r, a, b, i, ls, a2, a3, hs, h8, hn, ha, hb, h => by
    have ih := qd_54 (st := st) K H n
    have h' : (if ((qd_d sp p ml mh a b).1 || v == 8) = true then qd_run lo hi sp p ml mh st n v false (!(qd_d sp p ml mh a b).1) a b
      else qd_run lo hi sp p ml mh st n (v + 1) true r (if v = lo then some (ml && (qd_d sp p ml mh a b).2.1 == some true) else a) (if v = hi then some (mh && (qd_d sp p ml mh a b).2.2 == some true) else b)) = some R := h
    refine pk_le 2000 i (fun z => absurd z (by omega)) (fun _ => br_f (by decide) (qd_derive K ha hb (fun a3' wa wb => ?_)))
    cases hd : (qd_d sp p ml mh a b).1 with
    | true =>
      rw [hd] at h'
      exact br_f (by decide) (br_f (by decide) (nm_r (nI_1 i) (ih v false false a b (i + 1) _ a2 a3' hs h8 (by omega) ha hb h')))
    | false =>
      rw [hd, Bool.false_or] at h'
      refine br_t rfl (pk_eq v 8 (fun z => ?_) (fun z => qd_first K (by omega) wa wb (fun x g1 g2 => ?_)))
      · rw [if_pos (by rw [z]; rfl)] at h'
        exact br_t rfl (nm_r (nI_1 i) (ih v false true a b (i + 1) _ a2 a3' hs h8 (by omega) ha hb h'))
      · have ev : (nI v).toNatClampNeg = v := nI_clamp (by omega)
        have e8 : ¬ (v == 8) = true := fun t => z (eq_of_beq t)
        rw [if_neg e8] at h'
        refine ⟨pk_in v 8 (by omega), nm_r (e' := upd a2 v (qd_i (some x))) (by rw [ev]; cases x <;> rfl) (nm_r (nI_1 v) (nm_r (nI_1 i) (ih (v + 1) true r _ _ (i + 1) _ _ a3' (by omega) (by omega) (by omega) (qd_up a2 v lo (some x) a ha) (qd_up a2 v hi (some x) b hb) ?_)))⟩
        rw [← h']
        congr 1
        · by_cases e1 : v = lo
          · rw [if_pos e1, if_pos e1, g1 e1]
          · rw [if_neg e1, if_neg e1]
        · by_cases e1 : v = hi
          · rw [if_pos e1, if_pos e1, g2 e1]
          · rw [if_neg e1, if_neg e1]
  | n + 1, v, false, r, a, b, i, ls, a2, a3, hs, h8, hn, ha, hb, h => by
    have ih := qd_54 (st := st) K H n
    have h' : (if v = st then some r else if qd_go lo hi sp p ml mh (v - 1) r a b = true then qd_run lo hi sp p ml mh st n v true r (if v - 1 = lo then some true else a) (if v - 1 = hi then some true else b)
      else qd_run lo hi sp p ml mh st n (v - 1) false r (if v - 1 = lo then none else a) (if v - 1 = hi then none else b)) = some R := h
    refine pk_le 2000 i (fun z => absurd z (by omega)) (fun _ => br_t rfl (pk_eq v st (fun z => ⟨qd_nar r, ?_⟩) (fun z => ?_)))
    · rw [if_pos z] at h'
      rw [Option.some.inj h']
      exact H ls a2 a3
    · rw [if_neg z] at h'
      obtain ⟨w, rfl⟩ : ∃ w, v = w + 1 := ⟨v - 1, by omega⟩
      rw [Nat.add_sub_cancel] at h'
      have ew : (nI w).toNatClampNeg = w := nI_clamp (by omega)
      have G : qd_go lo hi sp p ml mh w r a b = true ↔ _ := qd_go_iff (x := a2 w) (by have := K.1; omega) (fun e => by rw [e]; exact ha) (fun e => by rw [e]; exact hb)
      have C : ¬ qd_go lo hi sp p ml mh w r a b = true → ∀ (ls' : Int32) (a2' a3' : Nat → Int32) (a' b' : Option Bool), a2' lo = qd_i a' → a2' hi = qd_i b' → (if w = lo then none else a') = (if w = lo then none else a) → (if w = hi then none else b') = (if w = hi then none else b) →
          wX_isWon_164 post (wX_isWon_54 post (nI st) n) (nI st) (nI w) (qd_b r) (nI i) mk (nI 2) (qd_lf sp) ls' a1 a2' a3' := by
        intro g ls' a2' a3' a' b' xa xb q1 q2
        rw [if_neg g, ← q1, ← q2] at h'
        exact br_t rfl ⟨pk_in w 8 (by omega), nm_r (e' := upd a2' w (qd_i none)) (by rw [ew]; rfl) (br_t rfl (nm_r (Int32.add_zero _) (nm_r (nI_1 i) (ih w false r _ _ (i + 1) ls' _ a3' (by omega) (by omega) (by omega) (qd_up a2' w lo none a' xa) (qd_up a2' w hi none b' xb) h'))))⟩
      have O : qd_go lo hi sp p ml mh w r a b = true → ∀ (ls' : Int32) (a2' a3' : Nat → Int32) (a' b' : Option Bool), a2' lo = qd_i a' → a2' hi = qd_i b' → (if w = lo then some true else a') = (if w = lo then some true else a) → (if w = hi then some true else b') = (if w = hi then some true else b) →
          wX_isWon_165 post (wX_isWon_54 post (nI st) n) (nI st) (nI w) (qd_b r) (nI i) 1 mk (nI 2) (qd_lf sp) ls' a1 a2' a3' := by
        intro g ls' a2' a3' a' b' xa xb q1 q2
        rw [if_pos g, ← q1, ← q2] at h'
        exact br_f (by decide) ⟨pk_in w 8 (by omega), nm_r (e' := upd a2' w (qd_i (some true))) (by rw [ew]; rfl) (br_f (by decide) (nm_r (nI_1 w) (nm_r (nI_1 i) (ih (w + 1) true r _ _ (i + 1) ls' _ a3' (by omega) (by omega) (by omega) (qd_up a2' w lo (some true) a' xa) (qd_up a2' w hi (some true) b' xb) h'))))⟩
      refine nm_r (pk_m1 w) ⟨pk_in w 8 (by omega), ?_⟩
      rw [ew]
      refine br_c (fun g1 => qd_isMakers K (by omega) (br_c (fun g2 => ?_) (fun g2 => qd_needs K (by omega) ha hb (fun ls' a2' a3' xa xb => ?_)))) (fun g1 => ?_)
      · exact C (fun t => (G.mp t).2.1 g2) ls a2 a3 a b ha hb rfl rfl
      · cases hq : qd_nb lo hi sp p ml mh w a b with
        | false => exact br_t rfl (C (fun t => absurd (hq.symm.trans (G.mp t).2.2) (by decide)) ls' a2' a3' _ _ xa xb (qd_if2 _ _ _) (qd_if2 _ _ _))
        | true => exact br_f (by decide) (O (G.mpr ⟨g1, g2, hq⟩) ls' a2' a3' _ _ xa xb (qd_if2 _ _ _) (qd_if2 _ _ _))
      · exact C (fun t => g1 (G.mp t).1) ls a2 a3 a b ha hb rfl rfl
/-! ===== a position ===== -/
theorem qd_sh : ∀ t, t < 16 → (((nI t).toUInt32 &&& Int32.toUInt32 31).toBitVec % 32).toNat = t := by decide +kernel
theorem qd_len4 {post : Int32 → Prop} {k pos : Nat} (hk : k ≤ 8) (h1 : 2 ^ k ≤ pos) (h2 : pos < 2 ^ (k + 1)) (H : post (nI k)) :
    ∀ c i, i + c = 9 → 1 ≤ i → wX_lengthOf_4 post (nI pos) (c + 1) (nI (min k (i - 1))) (nI i)
  | 0, i, h, _ => by
    rw [show min k (i - 1) = k by omega]
    exact pk_le 9 i (fun _ => H) (fun z => absurd z (by omega))
  | c + 1, i, h, h0 => by
    have hp : pos < 2 ^ 32 := Nat.lt_of_lt_of_le h2 (Nat.pow_le_pow_right (by decide) (by omega))
    have ih := qd_len4 hk h1 h2 H c (i + 1) (by omega) (by omega)
    rw [show i + 1 - 1 = i by omega] at ih
    refine pk_le 9 i (fun z => absurd z (by omega)) (fun _ => ?_)
    rw [pk_ushrN hp (nI i) i (qd_sh i (by omega))]
    by_cases e : i ≤ k
    · have hq : 2 ^ i ≤ pos := Nat.le_trans (Nat.pow_le_pow_right (by decide) e) h1
      have hz : 0 < pos / 2 ^ i := Nat.div_pos hq (Nat.two_pow_pos i)
      have hz2 : pos / 2 ^ i < 2 ^ 31 := Nat.lt_of_le_of_lt (Nat.div_le_self _ _) (Nat.lt_of_lt_of_le h2 (Nat.pow_le_pow_right (by decide) (by omega)))
      rw [show min k i = i by omega] at ih
      exact br_f (nI_ne0 hz hz2) (nm_r (nI_1 i) ih)
    · have hq : pos < 2 ^ i := Nat.lt_of_lt_of_le h2 (Nat.pow_le_pow_right (by decide) (by omega))
      have hz : pos / 2 ^ i = 0 := Nat.div_eq_of_lt hq
      rw [show min k i = min k (i - 1) by omega] at ih
      exact br_t (by rw [hz]; rfl) (nm_r (nI_1 i) ih)
theorem qd_len {post : Int32 → Prop} {k pos : Nat} (hk : k ≤ 8) (h1 : 2 ^ k ≤ pos) (h2 : pos < 2 ^ (k + 1)) (H : post (nI k)) : wpX_lengthOf post () (nI pos) := by
  have h := qd_len4 hk h1 h2 H 8 1 (by omega) (by omega)
  rw [show min k (1 - 1) = 0 by omega] at h
  exact ⟨9, h⟩
/-- the value at the start -/
def qd_iv (k pos u : Nat) : Option Bool := if u < k then some (qd_bit k pos u) else none
theorem qd_ivb {k pos i : Nat} (hk : k ≤ 8) (hp : pos < 2 ^ 31) (h : i < k) : (((nI pos).toUInt32 >>> (((nI k - 1) - nI i).toUInt32 &&& Int32.toUInt32 31)).toInt32) &&& 1 = qd_i (qd_iv k pos i) := by
  have e1 : (nI k - 1) - nI i = nI (k - 1 - i) := by
    have e0 : nI k - 1 = nI (k - 1) := pk_sub (a := k) (b := 1) (by omega)
    rw [e0, pk_sub (by omega)]
  have hd : pos / 2 ^ (k - 1 - i) < 2 ^ 32 := Nat.lt_of_le_of_lt (Nat.div_le_self _ _) (by omega)
  rw [e1, pk_ushrN (by omega) _ (k - 1 - i) (qd_sh _ (by omega)), pk_andN hd 1 (by decide)]
  unfold qd_iv qd_bit
  rw [if_pos h]
  have hm : pos / 2 ^ (k - 1 - i) % 2 ^ 1 < 2 := Nat.mod_lt _ (by decide)
  have hm' : pos / 2 ^ (k - 1 - i) % 2 = pos / 2 ^ (k - 1 - i) % 2 ^ 1 := rfl
  rw [hm']
  generalize pos / 2 ^ (k - 1 - i) % 2 ^ 1 = t at hm
  match t, hm with
  | 0, _ => rfl
  | 1, _ => rfl
section
variable {post : Int32 → St2 → Prop} {lo hi : Nat} {sp p ml mh R : Bool} {mk ls : Int32} {a1 a2 a3 : Nat → Int32} {k pos : Nat}
theorem qd_isWon (K : qd_K lo hi p ml mh mk a1) (hk : k ≤ 8) (h1 : 2 ^ k ≤ pos) (h2 : pos < 2 ^ (k + 1))
    (hr : qd_run lo hi sp p ml mh k 100 k true false (qd_iv k pos lo) (qd_iv k pos hi) = some R)
    (H : ∀ (ls : Int32) (a2 a3 : Nat → Int32), post (qd_b R) (mk, nI 2, qd_lf sp, ls, a1, a2, a3)) : wpX_isWon post (mk, nI 2, qd_lf sp, ls, a1, a2, a3) (nI pos) := by
  have q1 := K.1
  have q2 := K.2.1
  have hp : pos < 2 ^ 31 := Nat.lt_of_lt_of_le h2 (Nat.pow_le_pow_right (by decide) (by omega))
  unfold wpX_isWon
  dsimp only
  refine qd_len hk h1 h2 (pk_loop (fun n i s => wX_isWon_7 post (nI pos) (nI k) mk (nI 2) (qd_lf sp) ls n (nI i) a1 s a3) (fun i s => ∀ j, j < i → s j = qd_i (qd_iv k pos j)) 8 0 a2 (by omega) (fun j hj => absurd hj (by omega)) ?_ ?_)
  · intro n s h
    exact pk_le 8 8 (fun _ => ⟨100, qd_54 K H 100 k true false _ _ 0 ls s a3 (Nat.le_refl k) hk (by omega) (h lo (by omega)) (h hi (by omega)) hr⟩) (fun z => absurd z (by omega))
  · intro n i s hi8 h hw
    have ec : (nI i).toNatClampNeg = i := nI_clamp (by omega)
    have F : ∀ j, j < i + 1 → upd s i (qd_i (qd_iv k pos i)) j = qd_i (qd_iv k pos j) := by
      intro j hj
      by_cases e : j = i
      · rw [e, pk_us]
      · rw [pk_un e]
        exact h j (by omega)
    refine pk_le 8 i (fun z => absurd z (by omega)) (fun _ => pk_le k i (fun z => ⟨pk_in i 8 hi8, nm_r (e' := upd s i (qd_i (qd_iv k pos i))) ?_ (nm_r (nI_1 i) (hw _ F))⟩) (fun z => ⟨pk_in i 8 hi8, nm_r (e' := upd s i (qd_i (qd_iv k pos i))) ?_ (nm_r (nI_1 i) (hw _ F))⟩))
    · rw [ec, show qd_iv k pos i = none from if_neg (by omega)]
      rfl
    · rw [ec, qd_ivb hk hp z]
end
end
section
/-! ===== won(1), swapped, spare(0), count ===== -/
theorem qd_iv0 (u : Nat) : qd_iv 0 1 u = none := if_neg (by omega)
section
variable {post : Int32 → St2 → Prop} {lo hi : Nat} {p ml mh R : Bool} {mk ls : Int32} {a1 a2 a3 : Nat → Int32}
theorem qd_won1 (K : qd_K lo hi p ml mh mk a1) (hr : qd_run lo hi false p ml mh 0 100 0 true false none none = some R)
    (H : ∀ (ls : Int32) (a2 a3 : Nat → Int32), post (qd_b R) (mk, nI 2, qd_lf false, ls, a1, a2, a3)) : wpX_won post (mk, nI 2, qd_lf false, ls, a1, a2, a3) 1 := by
  refine br_f (by decide) (br_t (by decide) (qd_isWon (k := 0) (pos := 1) (sp := false) (R := R) K (by decide) (by decide) (by decide) (by rw [qd_iv0, qd_iv0]; exact hr) (fun ls a2 a3 => ?_)))
  have h := H ls a2 a3
  cases R with
  | false => exact br_t rfl h
  | true => exact br_f (by decide) h
theorem qd_swapped {u : Nat} {mk' : Int32} (K : qd_K lo hi p ml mh mk' a1) (e1 : mk ^^^ ((1 : Int32) <<< ((nI u &&& 7) &&& 31)) = mk') (e2 : mk' ^^^ ((1 : Int32) <<< ((nI u &&& 7) &&& 31)) = mk)
    (hr : qd_run lo hi false p ml mh 0 100 0 true false none none = some R)
    (H : ∀ (ls : Int32) (a2 a3 : Nat → Int32), post (qd_b R) (mk, nI 2, qd_lf false, ls, a1, a2, a3)) : wpX_swapped post (mk, nI 2, qd_lf false, ls, a1, a2, a3) (nI u) := by
  refine nm_r e1 (qd_isWon (k := 0) (pos := 1) (sp := false) (R := R) K (by decide) (by decide) (by decide) (by rw [qd_iv0, qd_iv0]; exact hr) (fun ls a2 a3 => nm_r e2 ?_))
  have h := H ls a2 a3
  cases R with
  | false => exact br_t rfl h
  | true => exact br_f (by decide) h
theorem qd_spare0 (K : qd_K lo hi p ml mh mk a1) (hr : qd_run lo hi true p ml mh 0 100 0 true false none none = some R)
    (H : ∀ (ls : Int32) (a2 a3 : Nat → Int32), post (qd_b R) (mk, nI 2, qd_lf false, ls, a1, a2, a3)) : wpX_spare post (mk, nI 2, qd_lf false, ls, a1, a2, a3) 0 := by
  refine br_f (by decide) (br_t (by decide) (qd_isWon (k := 0) (pos := 1) (sp := true) (R := R) K (by decide) (by decide) (by decide) (by rw [qd_iv0, qd_iv0]; exact hr) (fun ls a2 a3 => ?_)))
  have h := H ls a2 a3
  cases R with
  | false => exact br_t rfl h
  | true => exact br_f (by decide) h
theorem qd_2k : ∀ k, k < 9 → (2 : Int32) <<< (nI k &&& 31) = nI (2 ^ (k + 1)) := by decide +kernel
theorem qd_1k : ∀ k, k < 9 → (1 : Int32) <<< (nI k &&& 31) = nI (2 ^ k) := by decide +kernel
theorem qd_pk : ∀ k, k < 9 → 2 ^ (k + 1) < 2 ^ 31 := by decide +kernel
theorem qd_18 {k : Nat} (K : qd_K lo hi p ml mh mk a1) (hk : k ≤ 8) {Rf : Nat → Bool}
    (hR : ∀ i, 2 ^ k ≤ i → i < 2 ^ (k + 1) → qd_run lo hi false p ml mh k 100 k true false (qd_iv k i lo) (qd_iv k i hi) = some (Rf i)) :
    ∀ (c i m : Nat) (ls : Int32) (a2 a3 : Nat → Int32), i + c = 2 ^ (k + 1) → 2 ^ k ≤ i →
    (∀ (ls : Int32) (a2 a3 : Nat → Int32), post (nI (m + qd_n Rf c i)) (mk, nI 2, qd_lf false, ls, a1, a2, a3)) →
    wX_count_18 post (nI k) (c + 1) (nI m) (nI i) mk (nI 2) (qd_lf false) ls a1 a2 a3
  | 0, i, m, ls, a2, a3, hc, hi1, H => by
    have hp := qd_pk k (by omega)
    refine br_t ?_ (H ls a2 a3)
    rw [qd_2k k (by omega)]
    exact nI_le (by omega) (by omega)
  | c + 1, i, m, ls, a2, a3, hc, hi1, H => by
    have hp := qd_pk k (by omega)
    have ih := qd_18 K hk hR c (i + 1)
    refine br_f ?_ (qd_isWon K hk hi1 (by omega) (hR i hi1 (by omega)) (fun ls a2 a3 => ?_))
    · rw [qd_2k k (by omega)]
      exact nI_ge (by omega) hp
    · have e : qd_n Rf (c + 1) i = (if Rf i then 1 else 0) + qd_n Rf c (i + 1) := rfl
      rw [e] at H
      cases hq : Rf i with
      | false =>
        rw [hq] at H
        refine br_t rfl (nm_r (Int32.add_zero _) (nm_r (nI_1 i) (ih m ls a2 a3 (by omega) (by omega) (fun ls a2 a3 => ?_))))
        have h := H ls a2 a3
        rw [show m + ((if false = true then 1 else 0) + qd_n Rf c (i + 1)) = m + qd_n Rf c (i + 1) from congrArg (m + ·) (Nat.zero_add _)] at h
        exact h
      | true =>
        rw [hq] at H
        refine br_f (by decide) (nm_r (nI_1 m) (nm_r (nI_1 i) (ih (m + 1) ls a2 a3 (by omega) (by omega) (fun ls a2 a3 => ?_))))
        have h := H ls a2 a3
        rw [show m + ((if true = true then 1 else 0) + qd_n Rf c (i + 1)) = m + 1 + qd_n Rf c (i + 1) from (Nat.add_assoc m 1 _).symm] at h
        exact h
theorem qd_count {k : Nat} (K : qd_K lo hi p ml mh mk a1) (hk : k ≤ 8) {Rf : Nat → Bool}
    (hR : ∀ i, 2 ^ k ≤ i → i < 2 ^ (k + 1) → qd_run lo hi false p ml mh k 100 k true false (qd_iv k i lo) (qd_iv k i hi) = some (Rf i))
    (H : ∀ (ls : Int32) (a2 a3 : Nat → Int32), post (nI (qd_n Rf (2 ^ k) (2 ^ k))) (mk, nI 2, qd_lf false, ls, a1, a2, a3)) : wpX_count post (mk, nI 2, qd_lf false, ls, a1, a2, a3) (nI k) := by
  refine br_f (nI_pos (by omega)) (br_t (nI_le (b := 8) hk (by decide)) (nm_r (qd_1k k (by omega)) ⟨2 ^ k + 1, ?_⟩))
  refine qd_18 (m := 0) K hk hR (2 ^ k) (2 ^ k) ls a2 a3 (by rw [Nat.pow_succ]; omega) (Nat.le_refl _) (fun ls a2 a3 => ?_)
  rw [Nat.zero_add]
  exact H ls a2 a3
end
/-! ===== give, add ===== -/
def qd_gv (mk : Int32) (v : Nat) (m : Bool) : Int32 := match m with
  | true => mk ||| ((1 : Int32) <<< ((nI v &&& 7) &&& 31))
  | false => mk &&& (((1 : Int32) <<< ((nI v &&& 7) &&& 31)) ^^^ (-1))
def qd_mk (lo hi : Nat) (ml mh : Bool) : Int32 := qd_gv (qd_gv 255 lo ml) hi mh
theorem qd_mkf : ∀ hi, hi < 8 → ∀ lo, lo < hi → ∀ ml mh : Bool, ∀ u, u < 8 → (((qd_mk lo hi ml mh).toUInt32 >>> ((nI u).toUInt32 &&& Int32.toUInt32 31)).toInt32) &&& 1 = qd_b (qd_m lo hi ml mh u) := by decide +kernel
theorem qd_mkl : ∀ hi, hi < 8 → ∀ lo, lo < hi → ∀ ml mh : Bool, qd_mk lo hi ml mh ^^^ ((1 : Int32) <<< ((nI lo &&& 7) &&& 31)) = qd_mk lo hi (!ml) mh := by decide +kernel
theorem qd_mkh : ∀ hi, hi < 8 → ∀ lo, lo < hi → ∀ ml mh : Bool, qd_mk lo hi ml mh ^^^ ((1 : Int32) <<< ((nI hi &&& 7) &&& 31)) = qd_mk lo hi ml (!mh) := by decide +kernel
def qd_c0 (v w : Nat) : Int32 := ((1 : Int32) <<< ((2 * nI v) &&& 31)) ||| ((2 : Int32) <<< ((2 * nI w) &&& 31))
def qd_c1 (v w : Nat) : Int32 := ((2 : Int32) <<< ((2 * nI v) &&& 31)) ||| ((1 : Int32) <<< ((2 * nI w) &&& 31))
def qd_a1 (v w : Nat) : Nat → Int32 := upd (upd (fun _ => 0) 0 (qd_c0 v w &&& 65535)) 1 (qd_c1 v w &&& 65535)
theorem qd_lit3 : ∀ hi, hi < 8 → ∀ lo, lo < hi → ∀ p : Bool, ∀ k, k < 2 → ∀ u, u < 8 → (((qd_a1 (if p then lo else hi) (if p then hi else lo) k).toUInt32 >>> ((2 * nI u).toUInt32 &&& Int32.toUInt32 31)).toInt32) &&& 3 = nI (qd_h lo hi p k u) := by decide +kernel
theorem qd_lit1 : ∀ hi, hi < 8 → ∀ lo, lo < hi → ∀ p : Bool, ∀ k, k < 2 → ∀ u, u < 8 → (((qd_a1 (if p then lo else hi) (if p then hi else lo) k).toUInt32 >>> ((2 * nI u).toUInt32 &&& Int32.toUInt32 31)).toInt32) &&& 1 = nI (qd_h lo hi p k u % 2) := by decide +kernel
theorem qd_KK {lo hi : Nat} (h1 : lo < hi) (h2 : hi < 8) (p ml mh : Bool) : qd_K lo hi p ml mh (qd_mk lo hi ml mh) (qd_a1 (if p then lo else hi) (if p then hi else lo)) :=
  ⟨h1, h2, qd_lit3 hi h2 lo h1 p, qd_lit1 hi h2 lo h1 p, qd_mkf hi h2 lo h1 ml mh⟩
theorem qd_give {post : St2 → Prop} {mk cl lf ls : Int32} {a1 a2 a3 : Nat → Int32} {v : Nat} {m : Bool} (H : post (qd_gv mk v m, cl, lf, ls, a1, a2, a3)) : wpX_give post (mk, cl, lf, ls, a1, a2, a3) (nI v) (qd_b m) := by
  cases m with
  | false => exact nm_e (br_t rfl (nm_e H))
  | true => exact nm_e (br_f (by decide) (nm_e H))
theorem qd_add {post : Int32 → St2 → Prop} {mk lf ls x : Int32} {a1 a2 a3 : Nat → Int32} {c : Nat} (hc : c < 20) (H : post (nI (c + 1)) (mk, nI (c + 1), lf, ls, upd a1 c (x &&& 65535), a2, a3)) : wpX_add post (mk, nI c, lf, ls, a1, a2, a3) x := by
  have ec : (nI c).toNatClampNeg = c := nI_clamp (by omega)
  exact br_t (nI_lt (b := 20) hc (by decide)) ⟨pk_in c 20 hc, nm_r (e' := upd a1 c (x &&& 65535)) (by rw [ec]) (nm_r (nI_1 c) H)⟩
end
section
/-! ===== the law ===== -/
section
variable {post : Int32 → St0 → Prop} {mc ms kc ks lo hi : Nat} {p ml mh : Bool} {x2 x3 ls : Int32} {a1 a2 a3 : Nat → Int32}
theorem qd_278 {z0 z1 mk cl lf : Int32} (h : z1 = z0) (H : post 1 ()) : wL_lawOf_278 post mc ms z0 z1 kc ks mk cl lf ls a1 a2 a3 :=
  br_t h (br_f (by decide) (br_f (by decide) (br_t rfl H)))
theorem qd_240 {z0 z1 mk : Int32} (K : qd_K lo hi p ml mh mk a1) (h : z1 = z0) (H : post 1 ()) : wL_lawOf_240 post mc ms (nI lo) (qd_b mh) z0 z1 kc ks mk (nI 2) (qd_lf false) ls a1 a2 a3 := by
  have h1 := K.1
  have h2 := K.2.1
  refine br_t h (qd_count (k := 8) (Rf := fun i => qd_bit 8 i lo == qd_bit 8 i hi) K (by decide) (fun i q1 q2 => ?_) (fun ls a2 a3 => br_t ?_ (qd_count (k := lo) (Rf := fun _ => mh) K (by omega) (fun i q1 q2 => ?_) (fun ls a2 a3 => ?_))))
  · rw [show qd_iv 8 i lo = some (qd_bit 8 i lo) from if_pos (by omega), show qd_iv 8 i hi = some (qd_bit 8 i hi) from if_pos h2]
    exact qd_R8 hi h2 lo h1 p ml mh _ _
  · rw [show qd_n (fun i => qd_bit 8 i lo == qd_bit 8 i hi) (2 ^ 8) (2 ^ 8) = 128 from qd_n8 hi h2 lo h1]
    rfl
  · rw [show qd_iv lo i lo = none from if_neg (by omega), show qd_iv lo i hi = none from if_neg (by omega)]
    exact qd_Rl hi h2 lo h1 p ml mh
  · rw [qd_n_con]
    cases mh with
    | false => exact br_t rfl (qd_278 rfl H)
    | true => exact br_f (by decide) (qd_278 (by rw [qd_1k lo (by omega)]; rfl) H)
theorem qd_213 {z0 z1 mk : Int32} (K : qd_K lo hi p ml mh mk a1) (hx : x2 &&& 1 = 0 ↔ ml = true) (h : z1 = z0) (H : post 1 ()) : wL_lawOf_213 post mc ms x2 (nI lo) (qd_b mh) z0 z1 kc ks mk (nI 2) (qd_lf false) ls a1 a2 a3 := by
  refine br_t h (qd_spare0 K (qd_R0 hi K.2.1 lo K.1 true p ml mh) (fun ls a2 a3 => ?_))
  cases mh with
  | false =>
    refine br_t rfl (br_c (fun e => ?_) (fun e => ?_))
    · rw [hx.mp e] at K ⊢
      exact qd_240 K rfl H
    · have e' : ml = false := by
        cases ml
        · rfl
        · exact absurd (hx.mpr rfl) e
      rw [e'] at K ⊢
      exact qd_240 K rfl H
  | true => exact br_f (by decide) (qd_240 K rfl H)
theorem qd_193 {z0 z1 : Int32} (KA : ∀ ml mh, qd_K lo hi p ml mh (qd_mk lo hi ml mh) a1) (hx : x2 &&& 1 = 0 ↔ ml = true) (h : z1 = z0) (H : post 1 ()) : wL_lawOf_193 post mc ms x2 (nI lo) (qd_b mh) z0 z1 kc ks (qd_mk lo hi ml mh) (nI 2) (qd_lf false) ls a1 a2 a3 := by
  have h1 := (KA ml mh).1
  have h2 := (KA ml mh).2.1
  have e2 := qd_mkl hi h2 lo h1 (!ml) mh
  rw [Bool.not_not] at e2
  refine br_t h (qd_swapped (KA (!ml) mh) (qd_mkl hi h2 lo h1 ml mh) e2 (qd_R0 hi h2 lo h1 false p (!ml) mh) (fun ls a2 a3 => ?_))
  cases mh with
  | false => exact br_t rfl (qd_213 (KA ml false) hx rfl H)
  | true => exact br_f (by decide) (qd_213 (KA ml true) hx rfl H)
theorem qd_173 {z0 z1 : Int32} (KA : ∀ ml mh, qd_K lo hi p ml mh (qd_mk lo hi ml mh) a1) (hx : x2 &&& 1 = 0 ↔ ml = true) (h : z1 = z0) (H : post 1 ()) : wL_lawOf_173 post mc ms x2 (nI lo) (nI hi) (qd_b mh) z0 z1 kc ks (qd_mk lo hi ml mh) (nI 2) (qd_lf false) ls a1 a2 a3 := by
  have h1 := (KA ml mh).1
  have h2 := (KA ml mh).2.1
  have e2 := qd_mkh hi h2 lo h1 ml (!mh)
  rw [Bool.not_not] at e2
  refine br_t h (qd_swapped (KA ml (!mh)) (qd_mkh hi h2 lo h1 ml mh) e2 (qd_R0 hi h2 lo h1 false p ml (!mh)) (fun ls a2 a3 => ?_))
  cases mh with
  | false => exact br_t rfl (qd_193 KA hx rfl H)
  | true => exact br_f (by decide) (qd_193 KA hx rfl H)
theorem qd_155 (KA : ∀ ml mh, qd_K lo hi p ml mh (qd_mk lo hi ml mh) a1) (hx : x2 &&& 1 = 0 ↔ ml = true) (H : post 1 ()) : wL_lawOf_155 post mc ms x2 (nI lo) (nI hi) (qd_b mh) kc ks (qd_mk lo hi ml mh) (nI 2) (qd_lf false) ls a1 a2 a3 := by
  unfold wL_lawOf_155
  refine qd_won1 (KA ml mh) (qd_R0 hi (KA ml mh).2.1 lo (KA ml mh).1 false p ml mh) (fun ls a2 a3 => ?_)
  cases mh with
  | false => exact br_t rfl (qd_173 (mh := false) KA hx rfl H)
  | true => exact br_f (by decide) (qd_173 (mh := true) KA hx rfl H)
theorem qd_141 (KA : ∀ ml mh, qd_K lo hi p ml mh (qd_mk lo hi ml mh) a1) (hx : x2 &&& 1 = 0 ↔ ml = true) (hy : x3 &&& 1 = 0 ↔ mh = true) (H : post 1 ()) : wL_lawOf_141 post mc ms x2 x3 (nI lo) (nI hi) (qd_b mh) (nI hi) kc ks (qd_gv 255 lo ml) (nI 2) (qd_lf false) ls a1 a2 a3 := by
  unfold wL_lawOf_141
  refine qd_give (br_c (fun e => ?_) (fun e => ?_))
  · have em := hy.mp e
    subst em
    exact qd_155 (mh := true) KA hx H
  · have em : mh = false := by
      cases mh
      · rfl
      · exact absurd (hy.mpr rfl) e
    subst em
    exact qd_155 (mh := false) KA hx H
theorem qd_123 (KA : ∀ ml mh, qd_K lo hi p ml mh (qd_mk lo hi ml mh) a1) (hx : x2 &&& 1 = 0 ↔ ml = true) (H : post 1 ()) : wL_lawOf_123 post mc ms x2 x3 (nI lo) (nI hi) (qd_b ml) (nI lo) kc ks 255 (nI 2) (qd_lf false) ls a1 a2 a3 := by
  unfold wL_lawOf_123
  exact qd_give (br_c (fun e => qd_141 (mh := true) KA hx ⟨fun _ => rfl, fun _ => e⟩ H) (fun e => qd_141 (mh := false) KA hx ⟨fun z => absurd z e, fun z => absurd z (by decide)⟩ H))
theorem qd_63 {v w : Nat} (h1 : lo < hi) (h2 : hi < 8) (hv : v = if p then lo else hi) (hw : w = if p then hi else lo) (H : post 1 ()) : wL_lawOf_63 post mc ms x2 x3 (nI v) (nI w) (nI lo) (nI hi) kc ks 255 0 (-1) ls (fun _ => 0) a2 a3 := by
  have KA : ∀ ml mh, qd_K lo hi p ml mh (qd_mk lo hi ml mh) (qd_a1 v w) := fun ml mh => by rw [hv, hw]; exact qd_KK h1 h2 p ml mh
  unfold wL_lawOf_63
  refine qd_add (c := 0) (by decide) (qd_add (c := 1) (by decide) (br_t rfl (br_c (fun e => ?_) (fun e => ?_))))
  · exact qd_123 (ml := true) KA ⟨fun _ => rfl, fun _ => e⟩ H
  · exact qd_123 (ml := false) KA ⟨fun z => absurd z e, fun z => absurd z (by decide)⟩ H
theorem qd_lawOf {p0 p1 p2 p3 : Int32} (H : post 1 ()) : wpL_lawOf post 4 43 () p0 p1 p2 p3 := by
  obtain ⟨v, hv, ev⟩ := pk_andE p0 (m := 7) 3 (by decide)
  obtain ⟨t, ht, et⟩ := pk_andE p1 (m := 255) 8 (by decide)
  have e6 : ((nI v + 1) + ((p1 &&& 255) - (p1 &&& 255) / 7 * 7)) &&& 7 = nI ((v + 1 + t % 7) % 8) := by
    have er : nI t - nI t / 7 * 7 = nI (t % 7) := pk_rem (d := 7) (by omega) (by decide) (by decide)
    rw [et, er, nI_1, nI_add]
    exact pk_andN (by omega) 3 (by decide)
  have hw : (v + 1 + t % 7) % 8 < 8 := Nat.mod_lt _ (by decide)
  have hne : (v + 1 + t % 7) % 8 ≠ v := by omega
  refine ⟨by decide, by decide, 3, 36, by decide, by decide, by decide, by decide, by decide, by decide, by decide, by decide, nm_r ev ⟨by decide, nm_r e6 ?_⟩⟩
  generalize (v + 1 + t % 7) % 8 = w at hw hne
  refine pk_le w v (fun z => pk_le w v (fun _ => ?_) (fun z' => absurd z' (by omega))) (fun z => pk_le w v (fun z' => absurd z' (by omega)) (fun _ => ?_))
  · exact qd_63 (p := false) (by omega) hv rfl rfl H
  · exact qd_63 (p := true) z hw rfl rfl H
end
theorem qd_cell {post : Int32 → Prop} {L : Nat} {xs : Nat → Int32} {j : Nat} (hL : L ≤ 4) (hj : j < 4) (H : ∀ r, post r) : wpL_cellAt post L xs () (nI j) :=
  pk_le L j (fun _ => H 0) (fun z => ⟨pk_in j L z, H _⟩)
theorem i_vc (xs : Nat → Int32) (L : Nat) (hL : L ≤ 4) : wpL_law (fun r => r = 1) L xs := by
  unfold wpL_law
  exact qd_cell (j := 0) hL (by decide) (fun _ => qd_cell (j := 1) hL (by decide) (fun _ => qd_cell (j := 2) hL (by decide) (fun _ => qd_cell (j := 3) hL (by decide) (fun _ => ⟨4, 43, by decide, by decide, qd_lawOf rfl⟩))))
end
