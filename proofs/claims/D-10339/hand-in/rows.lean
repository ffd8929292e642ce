section
/-! the pure picture: a configuration of fifteen cells, a step of a thread, independence -/
abbrev ie_C : Type := Nat → Int32
abbrev ie_P : Type := (Nat → Int32) × (Nat → Int32) × (Nat → Int32) × (Nat → Int32)
abbrev ie_E : Type := Nat × (Nat → Int32)
def ie_sz (P : ie_P) (t : Nat) : Nat := (P.1 t).toNatClampNeg
def ie_op (P : ie_P) (i : Nat) : Int32 := P.2.1 i
def ie_aa (P : ie_P) (i : Nat) : Int32 := P.2.2.1 i
def ie_bb (P : ie_P) (i : Nat) : Int32 := P.2.2.2 i
def ie_la (P : ie_P) (i : Nat) : Nat := (ie_aa P i &&& 1).toNatClampNeg
def ie_va (P : ie_P) (i : Nat) : Nat := (ie_aa P i &&& 3).toNatClampNeg
def ie_vb (P : ie_P) (i : Nat) : Nat := (ie_bb P i &&& 3).toNatClampNeg
def ie_pc (c : ie_C) (t : Nat) : Nat := (c (10 + t)).toNatClampNeg
def ie_ix (c : ie_C) (t : Nat) : Nat := t * 5 + ie_pc c t
def ie_has (P : ie_P) (c : ie_C) (t : Nat) : Bool := decide (ie_pc c t < ie_sz P t)
def ie_goI (P : ie_P) (c : ie_C) (i : Nat) : Bool :=
  if ie_op P i = 4 then decide (c (13 + ie_la P i) = 0) else if ie_op P i = 8 then decide (c (ie_va P i) = ie_bb P i) else true
def ie_go (P : ie_P) (c : ie_C) (t : Nat) : Bool := ie_has P c t && ie_goI P c (ie_ix c t)
def ie_badI (P : ie_P) (c : ie_C) (t i : Nat) : Bool := decide (ie_op P i = 6) && !decide (c (4 + t * 2 + ie_la P i) = ie_bb P i)
def ie_bad (P : ie_P) (c : ie_C) (t : Nat) : Bool := ie_badI P c t (ie_ix c t)
/-- what an instruction does, the place already moved on -/
def ie_mv (P : ie_P) (c : ie_C) (t i : Nat) : ie_C :=
  if ie_op P i = 0 then upd c (4 + t * 2 + ie_la P i) (c (ie_vb P i))
  else if ie_op P i = 1 then upd c (ie_vb P i) (c (4 + t * 2 + ie_la P i))
  else if ie_op P i = 2 then upd c (4 + t * 2 + ie_la P i) (c (4 + t * 2 + ie_la P i) + ie_bb P i)
  else if ie_op P i = 3 then upd c (ie_vb P i) (ie_aa P i)
  else if ie_op P i = 4 then upd c (13 + ie_la P i) (nI t + 1)
  else if ie_op P i = 5 then (if c (13 + ie_la P i) = nI t + 1 then upd c (13 + ie_la P i) 0 else c)
  else if ie_op P i = 7 then upd (upd c (4 + t * 2 + ie_la P i) (c (ie_vb P i))) (ie_vb P i) (c (4 + t * 2 + ie_la P i))
  else c
def ie_inc (c : ie_C) (t : Nat) : ie_C := upd c (10 + t) (c (10 + t) + 1)
def ie_stp (P : ie_P) (c : ie_C) (t : Nat) : ie_C := ie_mv P (ie_inc c t) t (ie_ix c t)
/-- the cells that are a thread's own, the shared cell of an instruction, whether it is written -/
def ie_own (t k : Nat) : Prop := k = 4 + t * 2 ∨ k = 5 + t * 2 ∨ k = 10 + t
def ie_sh (P : ie_P) (i k : Nat) : Prop :=
  ((ie_op P i = 0 ∨ ie_op P i = 1 ∨ ie_op P i = 3 ∨ ie_op P i = 7) ∧ k = ie_vb P i) ∨ (ie_op P i = 8 ∧ k = ie_va P i) ∨ ((ie_op P i = 4 ∨ ie_op P i = 5) ∧ k = 13 + ie_la P i)
def ie_wr (P : ie_P) (i : Nat) : Prop := ie_op P i = 1 ∨ ie_op P i = 3 ∨ ie_op P i = 7 ∨ ie_op P i = 4 ∨ ie_op P i = 5
/-- independence, as the program decides it -/
def ie_lk (P : ie_P) (i : Nat) : Bool := decide (ie_op P i = 4) || decide (ie_op P i = 5)
def ie_vr (P : ie_P) (i : Nat) : Nat :=
  if ie_op P i = 0 ∨ ie_op P i = 1 ∨ ie_op P i = 3 ∨ ie_op P i = 7 then ie_vb P i else if ie_op P i = 8 then ie_va P i else 9
def ie_ww (P : ie_P) (i : Nat) : Bool := decide (ie_op P i = 1) || (decide (ie_op P i = 3) || decide (ie_op P i = 7))
def ie_ind (P : ie_P) (i j : Nat) : Bool :=
  if ie_op P i = 6 then false else if ie_op P j = 6 then false
  else if ie_lk P i = true ∧ ie_lk P j = true then !decide (ie_la P i = ie_la P j)
  else if ie_vr P i = 9 then true else if ie_vr P i = ie_vr P j then (!ie_ww P i && !ie_ww P j) else true

theorem ie_and1 (x : Int32) : (x &&& 1).toNatClampNeg < 2 ∧ x &&& 1 = nI (x &&& 1).toNatClampNeg := by
  obtain ⟨j, hj, e⟩ := pk_andE x (m := 1) 1 (by decide)
  have hj' : j < 2 := hj
  rw [e, nI_clamp (by omega)]
  exact ⟨hj', rfl⟩
theorem ie_and3 (x : Int32) : (x &&& 3).toNatClampNeg < 4 ∧ x &&& 3 = nI (x &&& 3).toNatClampNeg := by
  obtain ⟨j, hj, e⟩ := pk_andE x (m := 3) 2 (by decide)
  have hj' : j < 4 := hj
  rw [e, nI_clamp (by omega)]
  exact ⟨hj', rfl⟩
theorem ie_la_lt (P : ie_P) (i : Nat) : ie_la P i < 2 := (ie_and1 _).1
theorem ie_va_lt (P : ie_P) (i : Nat) : ie_va P i < 4 := (ie_and3 _).1
theorem ie_vb_lt (P : ie_P) (i : Nat) : ie_vb P i < 4 := (ie_and3 _).1
theorem ie_upd2 {c d : ie_C} {p k : Nat} {x y : Int32} (hk : d k = c k) (hx : x = y) : upd d p x k = upd c p y k := by
  by_cases e : k = p
  · rw [e, pk_us, pk_us, hx]
  · rw [pk_un e, pk_un e, hk]
theorem ie_sh_b {P : ie_P} {i k : Nat} (h : ie_sh P i k) : k < 4 ∨ k = 13 ∨ k = 14 := by
  have h1 := ie_la_lt P i
  have h2 := ie_va_lt P i
  have h3 := ie_vb_lt P i
  rcases h with ⟨_, e⟩ | ⟨_, e⟩ | ⟨_, e⟩ <;> omega
theorem ie_own_sh {P : ie_P} {t i k : Nat} (ht : t < 3) (h : ie_own t k) : ¬ ie_sh P i k := by
  intro g
  have b := ie_sh_b g
  rcases h with e | e | e <;> omega
theorem ie_own_ne {t u k : Nat} (ht : t < 3) (hu : u < 3) (n : t ≠ u) (h : ie_own t k) : ¬ ie_own u k := by
  intro g
  rcases h with e | e | e <;> rcases g with f | f | f <;> omega
theorem ie_own_r (P : ie_P) (t i : Nat) : ie_own t (4 + t * 2 + ie_la P i) := by
  have h1 := ie_la_lt P i
  unfold ie_own
  omega
theorem ie_own_p (t : Nat) : ie_own t (10 + t) := Or.inr (Or.inr rfl)

theorem ie_mv_fr {P : ie_P} {c : ie_C} {t i k : Nat} (hr : k ≠ 4 + t * 2 + ie_la P i) (hs : ¬ (ie_sh P i k ∧ ie_wr P i)) : ie_mv P c t i k = c k := by
  unfold ie_mv
  unfold ie_sh ie_wr at hs
  by_cases h0 : ie_op P i = 0
  · rw [if_pos h0]
    exact pk_un hr
  rw [if_neg h0]
  by_cases h1 : ie_op P i = 1
  · rw [if_pos h1]
    exact pk_un (fun e => hs ⟨Or.inl ⟨Or.inr (Or.inl h1), e⟩, Or.inl h1⟩)
  rw [if_neg h1]
  by_cases h2 : ie_op P i = 2
  · rw [if_pos h2]
    exact pk_un hr
  rw [if_neg h2]
  by_cases h3 : ie_op P i = 3
  · rw [if_pos h3]
    exact pk_un (fun e => hs ⟨Or.inl ⟨Or.inr (Or.inr (Or.inl h3)), e⟩, Or.inr (Or.inl h3)⟩)
  rw [if_neg h3]
  by_cases h4 : ie_op P i = 4
  · rw [if_pos h4]
    exact pk_un (fun e => hs ⟨Or.inr (Or.inr ⟨Or.inl h4, e⟩), Or.inr (Or.inr (Or.inr (Or.inl h4)))⟩)
  rw [if_neg h4]
  by_cases h5 : ie_op P i = 5
  · rw [if_pos h5]
    by_cases hm : c (13 + ie_la P i) = nI t + 1
    · rw [if_pos hm]
      exact pk_un (fun e => hs ⟨Or.inr (Or.inr ⟨Or.inr h5, e⟩), Or.inr (Or.inr (Or.inr (Or.inr h5)))⟩)
    · rw [if_neg hm]
  rw [if_neg h5]
  by_cases h7 : ie_op P i = 7
  · rw [if_pos h7, pk_un (fun e => hs ⟨Or.inl ⟨Or.inr (Or.inr (Or.inr h7)), e⟩, Or.inr (Or.inr (Or.inl h7))⟩), pk_un hr]
  rw [if_neg h7]
theorem ie_mv_loc {P : ie_P} {c d : ie_C} {t i k : Nat} (hr : d (4 + t * 2 + ie_la P i) = c (4 + t * 2 + ie_la P i)) (hs : ∀ k, ie_sh P i k → d k = c k) (hk : d k = c k) : ie_mv P d t i k = ie_mv P c t i k := by
  unfold ie_mv
  by_cases h0 : ie_op P i = 0
  · rw [if_pos h0, if_pos h0]
    exact ie_upd2 hk (hs _ (Or.inl ⟨Or.inl h0, rfl⟩))
  rw [if_neg h0, if_neg h0]
  by_cases h1 : ie_op P i = 1
  · rw [if_pos h1, if_pos h1]
    exact ie_upd2 hk hr
  rw [if_neg h1, if_neg h1]
  by_cases h2 : ie_op P i = 2
  · rw [if_pos h2, if_pos h2]
    exact ie_upd2 hk (by rw [hr])
  rw [if_neg h2, if_neg h2]
  by_cases h3 : ie_op P i = 3
  · rw [if_pos h3, if_pos h3]
    exact ie_upd2 hk rfl
  rw [if_neg h3, if_neg h3]
  by_cases h4 : ie_op P i = 4
  · rw [if_pos h4, if_pos h4]
    exact ie_upd2 hk rfl
  rw [if_neg h4, if_neg h4]
  by_cases h5 : ie_op P i = 5
  · rw [if_pos h5, if_pos h5, hs _ (Or.inr (Or.inr ⟨Or.inr h5, rfl⟩))]
    by_cases hm : c (13 + ie_la P i) = nI t + 1
    · rw [if_pos hm, if_pos hm]
      exact ie_upd2 hk rfl
    · rw [if_neg hm, if_neg hm, hk]
  rw [if_neg h5, if_neg h5]
  by_cases h7 : ie_op P i = 7
  · rw [if_pos h7, if_pos h7]
    exact ie_upd2 (ie_upd2 hk (hs _ (Or.inl ⟨Or.inr (Or.inr (Or.inr h7)), rfl⟩))) hr
  rw [if_neg h7, if_neg h7, hk]
theorem ie_stp_fr {P : ie_P} {c : ie_C} {t k : Nat} (h : ¬ ie_own t k) (hs : ¬ (ie_sh P (ie_ix c t) k ∧ ie_wr P (ie_ix c t))) : ie_stp P c t k = c k := by
  have n1 : k ≠ 4 + t * 2 + ie_la P (ie_ix c t) := fun e => h (by rw [e]; exact ie_own_r P t (ie_ix c t))
  have n2 : k ≠ 10 + t := fun e => h (by rw [e]; exact ie_own_p t)
  unfold ie_stp
  rw [ie_mv_fr n1 hs]
  exact pk_un n2
theorem ie_ix_loc {c d : ie_C} {t : Nat} (ho : ∀ k, ie_own t k → d k = c k) : ie_ix d t = ie_ix c t := by
  unfold ie_ix ie_pc
  rw [ho _ (ie_own_p t)]
theorem ie_stp_loc {P : ie_P} {c d : ie_C} {t k : Nat} (ho : ∀ k, ie_own t k → d k = c k) (hs : ∀ k, ie_sh P (ie_ix c t) k → d k = c k) (hk : ie_own t k ∨ ie_sh P (ie_ix c t) k) : ie_stp P d t k = ie_stp P c t k := by
  have hp : ∀ j, d j = c j → ie_inc d t j = ie_inc c t j := fun j e => ie_upd2 e (by rw [ho _ (ie_own_p t)])
  unfold ie_stp
  rw [ie_ix_loc ho]
  exact ie_mv_loc (hp _ (ho _ (ie_own_r P t _))) (fun j g => hp j (hs j g)) (hp k (hk.elim (ho k) (hs k)))
theorem ie_go_loc {P : ie_P} {c d : ie_C} {t : Nat} (ho : ∀ k, ie_own t k → d k = c k) (hs : ∀ k, ie_sh P (ie_ix c t) k → d k = c k) : ie_go P d t = ie_go P c t := by
  unfold ie_go ie_has ie_goI
  rw [ie_ix_loc ho, show ie_pc d t = ie_pc c t by unfold ie_pc; rw [ho _ (ie_own_p t)]]
  by_cases h4 : ie_op P (ie_ix c t) = 4
  · rw [if_pos h4, if_pos h4, hs _ (Or.inr (Or.inr ⟨Or.inl h4, rfl⟩))]
  rw [if_neg h4, if_neg h4]
  by_cases h8 : ie_op P (ie_ix c t) = 8
  · rw [if_pos h8, if_pos h8, hs _ (Or.inr (Or.inl ⟨h8, rfl⟩))]
  rw [if_neg h8, if_neg h8]
theorem ie_ix_stp {P : ie_P} {c : ie_C} {t x : Nat} (ht : t < 3) (hx : x < 3) (n : x ≠ t) : ie_ix (ie_stp P c t) x = ie_ix c x := by
  unfold ie_ix ie_pc
  rw [ie_stp_fr (ie_own_ne hx ht n (ie_own_p x)) (fun g => ie_own_sh hx (ie_own_p x) g.1)]
theorem ie_ind_sep {P : ie_P} {i j : Nat} (h : ie_ind P i j = true) : ie_op P i ≠ 6 ∧ ie_op P j ≠ 6 ∧ ∀ k, ie_sh P i k → ie_sh P j k → ¬ ie_wr P i ∧ ¬ ie_wr P j := by
  unfold ie_ind at h
  by_cases h6 : ie_op P i = 6
  · rw [if_pos h6] at h
    exact absurd h (by decide)
  rw [if_neg h6] at h
  by_cases g6 : ie_op P j = 6
  · rw [if_pos g6] at h
    exact absurd h (by decide)
  rw [if_neg g6] at h
  refine ⟨h6, g6, fun k hi hj => ?_⟩
  have vbi := ie_vb_lt P i
  have vbj := ie_vb_lt P j
  have vai := ie_va_lt P i
  have vaj := ie_va_lt P j
  have key : ie_vr P i = k → ie_vr P j = k → k < 4 → (ie_op P i ≠ 4 ∧ ie_op P i ≠ 5) → (ie_op P j ≠ 4 ∧ ie_op P j ≠ 5) → ¬ ie_wr P i ∧ ¬ ie_wr P j := by
    intro e1 e2 hk n1 n2
    rw [if_neg (fun z => by have z1 := z.1; unfold ie_lk at z1; simp [n1.1, n1.2] at z1), if_neg (by omega), if_pos (by omega)] at h
    unfold ie_ww at h
    unfold ie_wr
    simp only [Bool.and_eq_true, Bool.not_eq_true', Bool.or_eq_false_iff, decide_eq_false_iff_not] at h
    exact ⟨fun z => by rcases z with z | z | z | z | z <;> simp_all, fun z => by rcases z with z | z | z | z | z <;> simp_all⟩
  have lock : ∀ i, (ie_op P i = 4 ∨ ie_op P i = 5) → ie_lk P i = true := by
    intro i z
    unfold ie_lk
    rcases z with z | z <;> simp [z]
  have var1 : ∀ i, (ie_op P i = 0 ∨ ie_op P i = 1 ∨ ie_op P i = 3 ∨ ie_op P i = 7) → ie_vr P i = ie_vb P i ∧ ie_op P i ≠ 4 ∧ ie_op P i ≠ 5 := by
    intro i z
    unfold ie_vr
    rw [if_pos z]
    refine ⟨rfl, ?_, ?_⟩ <;> (intro y; rw [y] at z; revert z; decide)
  have var2 : ∀ i, ie_op P i = 8 → ie_vr P i = ie_va P i ∧ ie_op P i ≠ 4 ∧ ie_op P i ≠ 5 := by
    intro i z
    unfold ie_vr
    rw [if_neg (by rw [z]; decide), if_pos z]
    refine ⟨rfl, ?_, ?_⟩ <;> (rw [z]; decide)
  rcases hi with ⟨o, e⟩ | ⟨o, e⟩ | ⟨o, e⟩ <;> rcases hj with ⟨q, f⟩ | ⟨q, f⟩ | ⟨q, f⟩
  · exact key (by rw [(var1 i o).1, e]) (by rw [(var1 j q).1, f]) (by omega) (var1 i o).2 (var1 j q).2
  · exact key (by rw [(var1 i o).1, e]) (by rw [(var2 j q).1, f]) (by omega) (var1 i o).2 (var2 j q).2
  · exact absurd e (by omega)
  · exact key (by rw [(var2 i o).1, e]) (by rw [(var1 j q).1, f]) (by omega) (var2 i o).2 (var1 j q).2
  · exact key (by rw [(var2 i o).1, e]) (by rw [(var2 j q).1, f]) (by omega) (var2 i o).2 (var2 j q).2
  · exact absurd e (by omega)
  · exact absurd e (by omega)
  · exact absurd e (by omega)
  · rw [if_pos ⟨lock i o, lock j q⟩] at h
    have z : ie_la P i = ie_la P j := by omega
    rw [z] at h
    simp at h
/-- what another thread's independent step leaves alone -/
theorem ie_ag {P : ie_P} {c : ie_C} {t u : Nat} (ht : t < 3) (hu : u < 3) (n : t ≠ u) (hs : ∀ k, ie_sh P (ie_ix c t) k → ¬ (ie_sh P (ie_ix c u) k ∧ ie_wr P (ie_ix c u))) :
    (∀ k, ie_own t k → ie_stp P c u k = c k) ∧ (∀ k, ie_sh P (ie_ix c t) k → ie_stp P c u k = c k) :=
  ⟨fun k h => ie_stp_fr (ie_own_ne ht hu n h) (fun g => ie_own_sh ht h g.1), fun k h => ie_stp_fr (fun g => ie_own_sh hu g h) (hs k h)⟩
theorem ie_comm {P : ie_P} {c : ie_C} {t u : Nat} (ht : t < 3) (hu : u < 3) (n : t ≠ u) (hi : ie_ind P (ie_ix c t) (ie_ix c u) = true) :
    ie_stp P (ie_stp P c u) t = ie_stp P (ie_stp P c t) u ∧ ie_go P (ie_stp P c u) t = ie_go P c t ∧ ie_go P (ie_stp P c t) u = ie_go P c u := by
  obtain ⟨_, _, sep⟩ := ie_ind_sep hi
  have n' : u ≠ t := fun e => n e.symm
  have s1 : ∀ k, ie_sh P (ie_ix c t) k → ¬ (ie_sh P (ie_ix c u) k ∧ ie_wr P (ie_ix c u)) := fun k h g => (sep k h g.1).2 g.2
  have s2 : ∀ k, ie_sh P (ie_ix c u) k → ¬ (ie_sh P (ie_ix c t) k ∧ ie_wr P (ie_ix c t)) := fun k h g => (sep k g.1 h).1 g.2
  obtain ⟨a1, a2⟩ := ie_ag ht hu n s1
  obtain ⟨b1, b2⟩ := ie_ag hu ht n' s2
  refine ⟨?_, ie_go_loc a1 a2, ie_go_loc b1 b2⟩
  have et : ie_ix (ie_stp P c u) t = ie_ix c t := ie_ix_stp hu ht n
  have eu : ie_ix (ie_stp P c t) u = ie_ix c u := ie_ix_stp ht hu n'
  funext k
  by_cases k1 : ie_own t k ∨ (ie_sh P (ie_ix c t) k ∧ ie_wr P (ie_ix c t))
  · have l : ie_stp P (ie_stp P c u) t k = ie_stp P c t k := ie_stp_loc a1 a2 (k1.elim Or.inl (fun z => Or.inr z.1))
    rw [l]
    refine (ie_stp_fr ?_ ?_).symm
    · exact k1.elim (fun z => ie_own_ne ht hu n z) (fun z g => ie_own_sh hu g z.1)
    · rw [eu]
      exact k1.elim (fun z g => ie_own_sh ht z g.1) (fun z => s1 k z.1)
  · have f1 : ie_stp P c t k = c k := ie_stp_fr (fun z => k1 (Or.inl z)) (fun z => k1 (Or.inr z))
    have r1 : ie_stp P (ie_stp P c u) t k = ie_stp P c u k := ie_stp_fr (fun z => k1 (Or.inl z)) (fun z => k1 (Or.inr (et ▸ z)))
    rw [r1]
    by_cases k2 : ie_own u k ∨ (ie_sh P (ie_ix c u) k ∧ ie_wr P (ie_ix c u))
    · exact (ie_stp_loc b1 b2 (k2.elim Or.inl (fun z => Or.inr z.1))).symm
    · rw [ie_stp_fr (fun z => k2 (Or.inl z)) (fun z => k2 (Or.inr z)), ie_stp_fr (fun z => k2 (Or.inl z)) (fun z => k2 (Or.inr (eu ▸ z))), f1]
theorem ie_bad_n {P : ie_P} {c : ie_C} {t : Nat} (h : ie_op P (ie_ix c t) ≠ 6) : ie_bad P c t = false := by
  unfold ie_bad ie_badI
  rw [decide_eq_false h]
  rfl
end
section
/-! runs, the search with sleep sets as a list of what it meets, and: every run's outcome is met -/
def ie_fin (P : ie_P) (c : ie_C) : Bool := !ie_has P c 0 && (!ie_has P c 1 && !ie_has P c 2)
def ie_run (P : ie_P) : List Nat → ie_C → ie_E → Prop
  | [] => fun c e => ie_fin P c = true ∧ e = (0, c)
  | t :: w => fun c e => t < 3 ∧ ie_go P c t = true ∧ ((ie_bad P c t = true ∧ w = [] ∧ e = (2 + t, c)) ∨ (ie_bad P c t = false ∧ ie_run P w (ie_stp P c t) e))
def ie_init (P : ie_P) : List Nat → ie_C → Nat → Prop
  | [] => fun _ _ => False
  | t :: w => fun c u => t = u ∨ (ie_ind P (ie_ix c u) (ie_ix c t) = true ∧ ie_init P w (ie_stp P c t) u)
def ie_slp (P : ie_P) (c : ie_C) (Z : Nat → Bool) (t u : Nat) : Bool :=
  !decide (u = t) && (ie_has P c u && ((Z u || (decide (u < t) && ie_go P c u)) && ie_ind P (ie_ix c u) (ie_ix c t)))
def ie_any (P : ie_P) (c : ie_C) : Bool := ie_go P c 0 || (ie_go P c 1 || ie_go P c 2)
def ie_head (P : ie_P) (c : ie_C) : List ie_E := if ie_any P c = true then [] else [(if ie_fin P c = true then 0 else 1, c)]
def ie_vis (P : ie_P) (F : ie_C → (Nat → Bool) → List ie_E) (c : ie_C) (Z : Nat → Bool) (t : Nat) : List ie_E :=
  if ie_go P c t = true ∧ Z t = false then (if ie_bad P c t = true then [(2 + t, c)] else F (ie_stp P c t) (ie_slp P c Z t)) else []
def ie_dfs (P : ie_P) : Nat → ie_C → (Nat → Bool) → List ie_E
  | 0 => fun _ _ => []
  | n + 1 => fun c Z => ie_head P c ++ (ie_vis P (ie_dfs P n) c Z 0 ++ (ie_vis P (ie_dfs P n) c Z 1 ++ ie_vis P (ie_dfs P n) c Z 2))
def ie_cv (P : ie_P) (F : ie_C → (Nat → Bool) → Nat) (c : ie_C) (Z : Nat → Bool) (t : Nat) : Nat :=
  if ie_go P c t = true ∧ Z t = false then (if ie_bad P c t = true then 1 else 1 + F (ie_stp P c t) (ie_slp P c Z t)) else 0
def ie_cost (P : ie_P) : Nat → ie_C → (Nat → Bool) → Nat
  | 0 => fun _ _ => 0
  | n + 1 => fun c Z => ie_cv P (ie_cost P n) c Z 0 + (ie_cv P (ie_cost P n) c Z 1 + (ie_cv P (ie_cost P n) c Z 2 + 1))
def ie_B : Nat → Nat
  | 0 => 0
  | n + 1 => 3 * ie_B n + 4
theorem ie_cv_le {P : ie_P} {F : ie_C → (Nat → Bool) → Nat} {b : Nat} (h : ∀ c Z, F c Z ≤ b) (c : ie_C) (Z : Nat → Bool) (t : Nat) : ie_cv P F c Z t ≤ b + 1 := by
  unfold ie_cv
  by_cases g : ie_go P c t = true ∧ Z t = false
  · rw [if_pos g]
    by_cases g2 : ie_bad P c t = true
    · rw [if_pos g2]
      omega
    · rw [if_neg g2]
      have := h (ie_stp P c t) (ie_slp P c Z t)
      omega
  · rw [if_neg g]
    omega
theorem ie_cost_le (P : ie_P) : ∀ n c Z, ie_cost P n c Z ≤ ie_B n := by
  intro n
  induction n with
  | zero => intro c Z; exact Nat.le_refl 0
  | succ n ih =>
    intro c Z
    show ie_cv P (ie_cost P n) c Z 0 + (ie_cv P (ie_cost P n) c Z 1 + (ie_cv P (ie_cost P n) c Z 2 + 1)) ≤ 3 * ie_B n + 4
    have h0 := ie_cv_le (P := P) ih c Z 0
    have h1 := ie_cv_le (P := P) ih c Z 1
    have h2 := ie_cv_le (P := P) ih c Z 2
    omega
theorem ie_fin_no {P : ie_P} {c : ie_C} (h : ie_fin P c = true) : ie_any P c = false := by
  unfold ie_fin at h
  unfold ie_any ie_go
  simp only [Bool.and_eq_true, Bool.not_eq_true'] at h
  rw [h.1, h.2.1, h.2.2]
  rfl
/-- a thread that can be brought to the front of a run is brought there -/
theorem ie_front {P : ie_P} {u : Nat} (hu : u < 3) : ∀ (w : List Nat) (c : ie_C) (e : ie_E), ie_run P w c e → ie_init P w c u →
    ∃ w', ie_run P (u :: w') c e ∧ w'.length + 1 = w.length ∧ ∀ x, x < 3 → ie_init P (u :: w') c x → ie_init P w c x := by
  intro w
  induction w with
  | nil => intro c e _ h; exact False.elim h
  | cons t w ih =>
    intro c e hr hi
    by_cases etu : t = u
    · subst etu
      exact ⟨w, hr, rfl, fun x _ h => h⟩
    have hi2 : ie_ind P (ie_ix c u) (ie_ix c t) = true ∧ ie_init P w (ie_stp P c t) u := hi.resolve_left etu
    obtain ⟨h1, h2⟩ := hi2
    obtain ⟨ht, hg, hc⟩ := hr
    have n : u ≠ t := fun z => etu z.symm
    obtain ⟨o1, o2, _⟩ := ie_ind_sep h1
    have hrun : ie_run P w (ie_stp P c t) e := by
      rcases hc with ⟨b, _, _⟩ | ⟨_, r⟩
      · rw [ie_bad_n o2] at b
        exact absurd b (by decide)
      · exact r
    obtain ⟨w1, r1, l1, f1⟩ := ih _ _ hrun h2
    obtain ⟨_, g1, c1⟩ := r1
    have ixu : ie_ix (ie_stp P c t) u = ie_ix c u := ie_ix_stp ht hu n
    have ixt : ie_ix (ie_stp P c u) t = ie_ix c t := ie_ix_stp hu ht etu
    have hrun1 : ie_run P w1 (ie_stp P (ie_stp P c t) u) e := by
      rcases c1 with ⟨b, _, _⟩ | ⟨_, r⟩
      · rw [ie_bad_n (by rw [ixu]; exact o1)] at b
        exact absurd b (by decide)
      · exact r
    obtain ⟨cm, gu, gt⟩ := ie_comm hu ht n h1
    refine ⟨t :: w1, ⟨hu, by rw [← gu]; exact g1, Or.inr ⟨ie_bad_n o1, ht, by rw [gt]; exact hg, Or.inr ⟨ie_bad_n (by rw [ixt]; exact o2), by rw [← cm]; exact hrun1⟩⟩⟩, ?_, ?_⟩
    · simp only [List.length_cons]
      omega
    · intro x hx hxi
      by_cases ext : x = t
      · exact Or.inl ext.symm
      by_cases exu : x = u
      · subst exu
        exact Or.inr ⟨h1, h2⟩
      obtain ⟨d1, d2⟩ := Or.resolve_left hxi (fun z => exu z.symm)
      obtain ⟨d3, d4⟩ := Or.resolve_left d2 (fun z => ext z.symm)
      rw [ie_ix_stp hu hx exu, ixt] at d3
      refine Or.inr ⟨d3, f1 x hx (Or.inr ⟨?_, ?_⟩)⟩
      · rw [ie_ix_stp ht hx ext, ixu]
        exact d1
      · rw [cm]
        exact d4
theorem ie_complete (P : ie_P) : ∀ (n : Nat) (w : List Nat) (c : ie_C) (Z : Nat → Bool) (e : ie_E), ie_run P w c e → w.length < n → (∀ u, u < 3 → Z u = true → ¬ ie_init P w c u) → e ∈ ie_dfs P n c Z := by
  intro n
  induction n with
  | zero => intro w c Z e _ h; exact absurd h (by omega)
  | succ n ih =>
    intro w c Z e hr hl hz
    show e ∈ ie_head P c ++ (ie_vis P (ie_dfs P n) c Z 0 ++ (ie_vis P (ie_dfs P n) c Z 1 ++ ie_vis P (ie_dfs P n) c Z 2))
    cases w with
    | nil =>
      obtain ⟨h1, h2⟩ := hr
      refine List.mem_append.mpr (Or.inl ?_)
      unfold ie_head
      rw [if_neg (by rw [ie_fin_no h1]; decide), if_pos h1, h2]
      exact List.mem_singleton.mpr rfl
    | cons t w =>
      obtain ⟨u, ⟨hu, hi⟩, hmin⟩ := pk_least (fun u => u < 3 ∧ ie_init P (t :: w) c u) ⟨t, hr.1, Or.inl rfl⟩
      obtain ⟨w', r', l', f'⟩ := ie_front hu (t :: w) c e hr hi
      have zu : Z u = false := by
        cases hzu : Z u with
        | false => rfl
        | true => exact absurd hi (hz u hu hzu)
      have hv : e ∈ ie_vis P (ie_dfs P n) c Z u := by
        unfold ie_vis
        obtain ⟨_, g, hc⟩ := r'
        rw [if_pos ⟨g, zu⟩]
        rcases hc with ⟨b, _, he⟩ | ⟨b, r⟩
        · rw [if_pos b, he]
          exact List.mem_singleton.mpr rfl
        · rw [if_neg (by rw [b]; decide)]
          refine ih w' _ _ e r (by omega) (fun x hx hs hxi => ?_)
          unfold ie_slp at hs
          simp only [Bool.and_eq_true, Bool.not_eq_true', Bool.or_eq_true, decide_eq_true_eq, decide_eq_false_iff_not] at hs
          obtain ⟨_, _, hor, hind⟩ := hs
          have hx2 : ie_init P (t :: w) c x := f' x hx (Or.inr ⟨hind, hxi⟩)
          rcases hor with hzx | ⟨hlt, _⟩
          · exact hz x hx hzx hx2
          · exact hmin x hlt ⟨hx, hx2⟩
      refine List.mem_append.mpr (Or.inr ?_)
      have h3 : u = 0 ∨ u = 1 ∨ u = 2 := by omega
      rcases h3 with h | h | h
      · rw [h] at hv
        exact List.mem_append.mpr (Or.inl hv)
      · rw [h] at hv
        exact List.mem_append.mpr (Or.inr (List.mem_append.mpr (Or.inl hv)))
      · rw [h] at hv
        exact List.mem_append.mpr (Or.inr (List.mem_append.mpr (Or.inr hv)))
end
section
/-! masks of three threads, slices of the cells, and the walks of the small methods -/
def ie_mk (S : Nat → Bool) : Nat := (S 0).toNat + (2 * (S 1).toNat + 4 * (S 2).toNat)
def ie_msk (S : Nat → Bool) : Int32 := nI (ie_mk S)
def ie_sl (a : Nat → Int32) (l : Nat) : ie_C := fun k => if k < 15 then a (l * 15 + k) else 0
theorem ie_sl_at {a : Nat → Int32} {l k : Nat} (h : k < 15) : ie_sl a l k = a (l * 15 + k) := if_pos h
theorem ie_sl_upd {a : Nat → Int32} {l k : Nat} {x : Int32} (h : k < 15) : ie_sl (upd a (l * 15 + k) x) l = upd (ie_sl a l) k x := by
  funext j
  by_cases e : j = k
  · rw [e, pk_us, ie_sl_at h, pk_us]
  · rw [pk_un e]
    unfold ie_sl
    by_cases hj : j < 15
    · rw [if_pos hj, if_pos hj, pk_un (by omega)]
    · rw [if_neg hj, if_neg hj]
theorem ie_sl_eq {a b : Nat → Int32} {l : Nat} (h : ∀ k, k < (l + 1) * 15 → b k = a k) : ie_sl b l = ie_sl a l := by
  funext j
  unfold ie_sl
  by_cases hj : j < 15
  · rw [if_pos hj, if_pos hj, h _ (by omega)]
  · rw [if_neg hj, if_neg hj]
def ie_wfP (P : ie_P) : Prop := ∀ t, t < 3 → P.1 t = nI (ie_sz P t) ∧ ie_sz P t ≤ 5
def ie_wf (P : ie_P) (c : ie_C) : Prop := ∀ t, t < 3 → c (10 + t) = nI (ie_pc c t) ∧ ie_pc c t ≤ ie_sz P t
theorem ie_i15 (l k : Nat) : nI l * 15 + nI k = nI (l * 15 + k) := by
  rw [show (15 : Int32) = nI 15 from rfl, pk_mul, nI_add]
theorem ie_l15 (l : Nat) : nI l * 15 = nI (l * 15) := pk_mul l 15
theorem ie_ix_lt {P : ie_P} {c : ie_C} {t : Nat} (hP : ie_wfP P) (ht : t < 3) (h : ie_has P c t = true) : ie_ix c t < 15 := by
  have h1 := (hP t ht).2
  have h2 : ie_pc c t < ie_sz P t := of_decide_eq_true h
  unfold ie_ix
  omega
theorem ie_w_next {post : Int32 → Prop} {rd cm st fa df lv lx lw ly se : Int32} {a1 a2 a3 a4 a5 a6 a7 a8 a9 a10 a11 a12 : Nat → Int32} {l t : Nat} (hP : ie_wfP (a1, a2, a3, a4)) (hc : ie_wf (a1, a2, a3, a4) (ie_sl a6 l)) (hl : l < 12) (ht : t < 3)
    (H1 : ie_has (a1, a2, a3, a4) (ie_sl a6 l) t = true → post (nI (ie_ix (ie_sl a6 l) t))) (H0 : ie_has (a1, a2, a3, a4) (ie_sl a6 l) t = false → post (-1)) :
    wpX_nextOf post (rd, cm, st, fa, df, lv, lx, lw, ly, se, a1, a2, a3, a4, a5, a6, a7, a8, a9, a10, a11, a12) (nI l) (nI t) := by
  unfold wpX_nextOf
  have e : nI l * 15 + 10 + nI t = nI (l * 15 + (10 + t)) := by
    rw [show (10 : Int32) = nI 10 from rfl, ie_i15, nI_add, Nat.add_assoc]
  have q := hc t ht
  have hp := (hP t ht).2
  have hc1 : a6 (l * 15 + (10 + t)) = nI (ie_pc (ie_sl a6 l) t) := by
    rw [← q.1, ie_sl_at (by omega)]
  have hs : a1 t = nI (ie_sz (a1, a2, a3, a4) t) := (hP t ht).1
  refine ⟨pk_in (l * 15 + (10 + t)) 180 (by omega) e, nm_r (e' := nI (ie_pc (ie_sl a6 l) t)) (by rw [pk_cl _ e (by omega)]; exact hc1) ⟨pk_in t 3 ht, ?_⟩⟩
  rw [nI_clamp (show t < 2 ^ 31 by omega), hs]
  refine pk_lt (ie_pc (ie_sl a6 l) t) (ie_sz (a1, a2, a3, a4) t) (fun z => ?_) (fun z => H0 (decide_eq_false (by omega))) rfl rfl (by omega) (by omega)
  have g := H1 (decide_eq_true z)
  have e2 : nI t * 5 + nI (ie_pc (ie_sl a6 l) t) = nI (ie_ix (ie_sl a6 l) t) := by
    rw [show (5 : Int32) = nI 5 from rfl, pk_mul, nI_add]
    rfl
  rw [e2]
  exact g
theorem ie_w_go {post : Int32 → Prop} {rd cm st fa df lv lx lw ly se : Int32} {a1 a2 a3 a4 a5 a6 a7 a8 a9 a10 a11 a12 : Nat → Int32} {l t : Nat} (hP : ie_wfP (a1, a2, a3, a4)) (hc : ie_wf (a1, a2, a3, a4) (ie_sl a6 l)) (hl : l < 12) (ht : t < 3)
    (H1 : ie_go (a1, a2, a3, a4) (ie_sl a6 l) t = true → post 1) (H0 : ie_go (a1, a2, a3, a4) (ie_sl a6 l) t = false → post 0) :
    wpX_canGo post (rd, cm, st, fa, df, lv, lx, lw, ly, se, a1, a2, a3, a4, a5, a6, a7, a8, a9, a10, a11, a12) (nI l) (nI t) := by
  unfold wpX_canGo
  refine ie_w_next hP hc hl ht (fun hh => ?_) (fun hh => br_f (by decide) (H0 (by unfold ie_go; rw [hh]; rfl)))
  have hi := ie_ix_lt hP ht hh
  have hgo : ie_go (a1, a2, a3, a4) (ie_sl a6 l) t = ie_goI (a1, a2, a3, a4) (ie_sl a6 l) (ie_ix (ie_sl a6 l) t) := by
    unfold ie_go
    rw [hh]
    rfl
  rw [hgo] at H1 H0
  revert H1 H0 hi
  generalize ie_ix (ie_sl a6 l) t = i
  intro H1 H0 hi
  refine br_t (nI_pos' (by omega)) (nm_r (ie_l15 l) ⟨pk_in i 15 hi, ?_⟩)
  rw [nI_clamp (show i < 2 ^ 31 by omega)]
  unfold ie_goI at H1 H0
  refine br_c (fun h4 => ⟨pk_in i 15 hi, ?_⟩) (fun h4 => ⟨pk_in i 15 hi, br_c (fun h8 => ⟨pk_in i 15 hi, ?_⟩) (fun h8 => ?_)⟩)
  · have la := ie_la_lt (a1, a2, a3, a4) i
    have e : nI (l * 15) + 13 + (a3 i &&& 1) = nI (l * 15 + (13 + ie_la (a1, a2, a3, a4) i)) := by
      rw [(ie_and1 (a3 i)).2, show (13 : Int32) = nI 13 from rfl, nI_add, nI_add, Nat.add_assoc]
      rfl
    have h4' : ie_op (a1, a2, a3, a4) i = 4 := h4
    rw [if_pos h4', ie_sl_at (by omega)] at H1 H0
    refine ⟨pk_in (l * 15 + (13 + ie_la (a1, a2, a3, a4) i)) 180 (by omega) e, ?_⟩
    rw [pk_cl _ e (by omega)]
    exact br_c (fun z => H1 (decide_eq_true z)) (fun z => H0 (decide_eq_false z))
  · have va := ie_va_lt (a1, a2, a3, a4) i
    have e : nI (l * 15) + (a3 i &&& 3) = nI (l * 15 + ie_va (a1, a2, a3, a4) i) := by
      rw [(ie_and3 (a3 i)).2, nI_add]
      rfl
    have h4' : ¬ ie_op (a1, a2, a3, a4) i = 4 := h4
    have h8' : ie_op (a1, a2, a3, a4) i = 8 := h8
    rw [if_neg h4', if_pos h8', ie_sl_at (by omega)] at H1 H0
    refine ⟨pk_in (l * 15 + ie_va (a1, a2, a3, a4) i) 180 (by omega) e, pk_in i 15 hi, ?_⟩
    rw [pk_cl _ e (by omega)]
    exact br_c (fun z => H1 (decide_eq_true z)) (fun z => H0 (decide_eq_false z))
  · have h4' : ¬ ie_op (a1, a2, a3, a4) i = 4 := h4
    have h8' : ¬ ie_op (a1, a2, a3, a4) i = 8 := h8
    rw [if_neg h4', if_neg h8'] at H1
    exact H1 rfl
theorem ie_able_s {post : Int32 → Prop} {rd cm st fa df lv lx lw ly se : Int32} {a1 a2 a3 a4 a5 a6 a7 a8 a9 a10 a11 a12 : Nat → Int32} {l t n : Nat} {x2 : Int32} (hP : ie_wfP (a1, a2, a3, a4)) (hc : ie_wf (a1, a2, a3, a4) (ie_sl a6 l)) (hl : l < 12) (ht : t < 3)
    (H1 : ie_go (a1, a2, a3, a4) (ie_sl a6 l) t = true → wX_able_4 post (nI l) rd cm st fa df lv lx lw ly se a1 a2 a3 a4 a5 a6 a7 a8 a9 a10 a11 a12 n (x2 ||| ((1 : Int32) <<< (nI t &&& 31))) (nI (t + 1)))
    (H0 : ie_go (a1, a2, a3, a4) (ie_sl a6 l) t = false → wX_able_4 post (nI l) rd cm st fa df lv lx lw ly se a1 a2 a3 a4 a5 a6 a7 a8 a9 a10 a11 a12 n x2 (nI (t + 1))) :
    wX_able_4 post (nI l) rd cm st fa df lv lx lw ly se a1 a2 a3 a4 a5 a6 a7 a8 a9 a10 a11 a12 (n + 1) x2 (nI t) :=
  pk_le 3 t (fun z => absurd z (by omega)) (fun _ => ie_w_go hP hc hl ht (fun h => br_f (by decide) (nm_e (nm_r (nI_1 t) (H1 h)))) (fun h => br_t rfl (nm_r (nI_1 t) (H0 h))))
theorem ie_mk3 : ∀ a b c : Bool, (if c then (if b then (if a then (0 : Int32) ||| ((1 : Int32) <<< (nI 0 &&& 31)) else 0) ||| ((1 : Int32) <<< (nI 1 &&& 31)) else (if a then (0 : Int32) ||| ((1 : Int32) <<< (nI 0 &&& 31)) else 0)) ||| ((1 : Int32) <<< (nI 2 &&& 31)) else (if b then (if a then (0 : Int32) ||| ((1 : Int32) <<< (nI 0 &&& 31)) else 0) ||| ((1 : Int32) <<< (nI 1 &&& 31)) else (if a then (0 : Int32) ||| ((1 : Int32) <<< (nI 0 &&& 31)) else 0))) = nI (a.toNat + (2 * b.toNat + 4 * c.toNat)) := by decide +kernel
theorem ie_msk3 {S : Nat → Bool} {x : Int32} {a b c : Bool} (ha : S 0 = a) (hb : S 1 = b) (hc : S 2 = c) (hx : x = nI (a.toNat + (2 * b.toNat + 4 * c.toNat))) : x = ie_msk S := by
  unfold ie_msk ie_mk
  rw [ha, hb, hc, hx]
theorem ie_w_able {post : Int32 → Prop} {rd cm st fa df lv lx lw ly se : Int32} {a1 a2 a3 a4 a5 a6 a7 a8 a9 a10 a11 a12 : Nat → Int32} {l : Nat} (hP : ie_wfP (a1, a2, a3, a4)) (hc : ie_wf (a1, a2, a3, a4) (ie_sl a6 l)) (hl : l < 12)
    (H : post (ie_msk (ie_go (a1, a2, a3, a4) (ie_sl a6 l)))) : wpX_able post (rd, cm, st, fa, df, lv, lx, lw, ly, se, a1, a2, a3, a4, a5, a6, a7, a8, a9, a10, a11, a12) (nI l) := by
  unfold wpX_able
  have f : ∀ x : Int32, x = ie_msk (ie_go (a1, a2, a3, a4) (ie_sl a6 l)) → wX_able_4 post (nI l) rd cm st fa df lv lx lw ly se a1 a2 a3 a4 a5 a6 a7 a8 a9 a10 a11 a12 1 x (nI 3) :=
    fun x hx => pk_le 3 3 (fun _ => by rw [hx]; exact H) (fun z => absurd z (by omega))
  refine ⟨4, ?_⟩
  refine ie_able_s (t := 0) hP hc hl (by omega) (fun h0 => ?_) (fun h0 => ?_) <;>
  refine ie_able_s (t := 1) hP hc hl (by omega) (fun h1 => ?_) (fun h1 => ?_) <;>
  refine ie_able_s (t := 2) hP hc hl (by omega) (fun h2 => ?_) (fun h2 => ?_) <;>
  exact f _ (ie_msk3 h0 h1 h2 (by decide))
theorem ie_fin_s {post : Int32 → Prop} {rd cm st fa df lv lx lw ly se : Int32} {a1 a2 a3 a4 a5 a6 a7 a8 a9 a10 a11 a12 : Nat → Int32} {l t n : Nat} (hP : ie_wfP (a1, a2, a3, a4)) (hc : ie_wf (a1, a2, a3, a4) (ie_sl a6 l)) (hl : l < 12) (ht : t < 3)
    (H1 : ie_has (a1, a2, a3, a4) (ie_sl a6 l) t = true → post 0)
    (H0 : ie_has (a1, a2, a3, a4) (ie_sl a6 l) t = false → wX_allFinished_2 post (nI l) rd cm st fa df lv lx lw ly se a1 a2 a3 a4 a5 a6 a7 a8 a9 a10 a11 a12 n (nI (t + 1))) :
    wX_allFinished_2 post (nI l) rd cm st fa df lv lx lw ly se a1 a2 a3 a4 a5 a6 a7 a8 a9 a10 a11 a12 (n + 1) (nI t) :=
  pk_le 3 t (fun z => absurd z (by omega)) (fun _ => ie_w_next hP hc hl ht
    (fun h => br_f (nI_pos (by have := ie_ix_lt hP ht h; omega)) (H1 h)) (fun h => br_t (by decide) (nm_r (nI_1 t) (H0 h))))
theorem ie_w_fin {post : Int32 → Prop} {rd cm st fa df lv lx lw ly se : Int32} {a1 a2 a3 a4 a5 a6 a7 a8 a9 a10 a11 a12 : Nat → Int32} {l : Nat} (hP : ie_wfP (a1, a2, a3, a4)) (hc : ie_wf (a1, a2, a3, a4) (ie_sl a6 l)) (hl : l < 12)
    (H1 : ie_fin (a1, a2, a3, a4) (ie_sl a6 l) = true → post 1) (H0 : ie_fin (a1, a2, a3, a4) (ie_sl a6 l) = false → post 0) : wpX_allFinished post (rd, cm, st, fa, df, lv, lx, lw, ly, se, a1, a2, a3, a4, a5, a6, a7, a8, a9, a10, a11, a12) (nI l) := by
  unfold wpX_allFinished
  refine ⟨4, ?_⟩
  unfold ie_fin at H1 H0
  refine ie_fin_s (t := 0) hP hc hl (by omega) (fun h0 => H0 (by rw [h0]; rfl)) (fun h0 => ?_)
  refine ie_fin_s (t := 1) hP hc hl (by omega) (fun h1 => H0 (by rw [h0, h1]; rfl)) (fun h1 => ?_)
  refine ie_fin_s (t := 2) hP hc hl (by omega) (fun h2 => H0 (by rw [h0, h1, h2]; rfl)) (fun h2 => ?_)
  exact pk_le 3 3 (fun _ => H1 (by rw [h0, h1, h2]; rfl)) (fun z => absurd z (by omega))
/-! independence -/
theorem ie_w_lock {post : Int32 → Prop} {rd cm st fa df lv lx lw ly se : Int32} {a1 a2 a3 a4 a5 a6 a7 a8 a9 a10 a11 a12 : Nat → Int32} {i : Nat} (hi : i < 15)
    (H1 : ie_lk (a1, a2, a3, a4) i = true → post 1) (H0 : ie_lk (a1, a2, a3, a4) i = false → post 0) : wpX_touchesLock post (rd, cm, st, fa, df, lv, lx, lw, ly, se, a1, a2, a3, a4, a5, a6, a7, a8, a9, a10, a11, a12) (nI i) := by
  unfold wpX_touchesLock
  rw [nI_clamp (show i < 2 ^ 31 by omega)]
  refine ⟨pk_in i 15 hi, br_c (fun h4 => H1 ?_) (fun h4 => ⟨pk_in i 15 hi, br_c (fun h5 => H1 ?_) (fun h5 => H0 ?_)⟩)⟩
  · exact (Bool.or_eq_true _ _).mpr (Or.inl (decide_eq_true h4))
  · exact (Bool.or_eq_true _ _).mpr (Or.inr (decide_eq_true h5))
  · exact Bool.or_eq_false_iff.mpr ⟨decide_eq_false h4, decide_eq_false h5⟩
theorem ie_w_writes {post : Int32 → Prop} {rd cm st fa df lv lx lw ly se : Int32} {a1 a2 a3 a4 a5 a6 a7 a8 a9 a10 a11 a12 : Nat → Int32} {i : Nat} (hi : i < 15)
    (H1 : ie_ww (a1, a2, a3, a4) i = true → post 1) (H0 : ie_ww (a1, a2, a3, a4) i = false → post 0) : wpX_writes post (rd, cm, st, fa, df, lv, lx, lw, ly, se, a1, a2, a3, a4, a5, a6, a7, a8, a9, a10, a11, a12) (nI i) := by
  unfold wpX_writes
  rw [nI_clamp (show i < 2 ^ 31 by omega)]
  refine ⟨pk_in i 15 hi, br_c (fun h4 => H1 ?_) (fun h4 => ⟨pk_in i 15 hi, br_c (fun h5 => H1 ?_) (fun h5 => ⟨pk_in i 15 hi, br_c (fun h6 => H1 ?_) (fun h6 => H0 ?_)⟩)⟩)⟩
  · exact (Bool.or_eq_true _ _).mpr (Or.inl (decide_eq_true h4))
  · exact (Bool.or_eq_true _ _).mpr (Or.inr ((Bool.or_eq_true _ _).mpr (Or.inl (decide_eq_true h5))))
  · exact (Bool.or_eq_true _ _).mpr (Or.inr ((Bool.or_eq_true _ _).mpr (Or.inr (decide_eq_true h6))))
  · exact Bool.or_eq_false_iff.mpr ⟨decide_eq_false h4, Bool.or_eq_false_iff.mpr ⟨decide_eq_false h5, decide_eq_false h6⟩⟩
def ie_vrI (P : ie_P) (i : Nat) : Int32 := if ie_vr P i = 9 then -1 else nI (ie_vr P i)
theorem ie_w_var {post : Int32 → Prop} {rd cm st fa df lv lx lw ly se : Int32} {a1 a2 a3 a4 a5 a6 a7 a8 a9 a10 a11 a12 : Nat → Int32} {i : Nat} (hi : i < 15) (H : post (ie_vrI (a1, a2, a3, a4) i)) : wpX_variableOf post (rd, cm, st, fa, df, lv, lx, lw, ly, se, a1, a2, a3, a4, a5, a6, a7, a8, a9, a10, a11, a12) (nI i) := by
  unfold wpX_variableOf
  rw [nI_clamp (show i < 2 ^ 31 by omega)]
  have vb := ie_vb_lt (a1, a2, a3, a4) i
  have va := ie_va_lt (a1, a2, a3, a4) i
  have e1 : a4 i &&& 3 = nI (ie_vb (a1, a2, a3, a4) i) := (ie_and3 (a4 i)).2
  have e2 : a3 i &&& 3 = nI (ie_va (a1, a2, a3, a4) i) := (ie_and3 (a3 i)).2
  have hb : (a2 i = 0 ∨ a2 i = 1 ∨ a2 i = 3 ∨ a2 i = 7) → post (a4 i &&& 3) := by
    intro z
    have z' : ie_vr (a1, a2, a3, a4) i = ie_vb (a1, a2, a3, a4) i := if_pos z
    unfold ie_vrI at H
    rw [z', if_neg (by omega)] at H
    rw [e1]
    exact H
  refine ⟨pk_in i 15 hi, nm_e ?_⟩
  refine br_c (fun h => ⟨pk_in i 15 hi, hb (Or.inl h)⟩) (fun h0 => ?_)
  refine br_c (fun h => ⟨pk_in i 15 hi, hb (Or.inr (Or.inl h))⟩) (fun h1 => ?_)
  refine br_c (fun h => ⟨pk_in i 15 hi, hb (Or.inr (Or.inr (Or.inl h)))⟩) (fun h3 => ?_)
  refine br_c (fun h => ⟨pk_in i 15 hi, hb (Or.inr (Or.inr (Or.inr h)))⟩) (fun h7 => ?_)
  have z : ¬ (ie_op (a1, a2, a3, a4) i = 0 ∨ ie_op (a1, a2, a3, a4) i = 1 ∨ ie_op (a1, a2, a3, a4) i = 3 ∨ ie_op (a1, a2, a3, a4) i = 7) := fun z => z.elim h0 (fun z => z.elim h1 (fun z => z.elim h3 h7))
  refine br_c (fun h => ⟨pk_in i 15 hi, ?_⟩) (fun h8 => ?_)
  · have z' : ie_vr (a1, a2, a3, a4) i = ie_va (a1, a2, a3, a4) i := by
      unfold ie_vr
      rw [if_neg z]
      exact if_pos h
    unfold ie_vrI at H
    rw [z', if_neg (by omega)] at H
    rw [e2]
    exact H
  · have z' : ie_vr (a1, a2, a3, a4) i = 9 := by
      unfold ie_vr
      rw [if_neg z]
      exact if_neg h8
    unfold ie_vrI at H
    rw [if_pos z'] at H
    exact H
theorem ie_vr_le (P : ie_P) (i : Nat) : ie_vr P i ≤ 9 := by
  have vb := ie_vb_lt P i
  have va := ie_va_lt P i
  unfold ie_vr
  by_cases h : ie_op P i = 0 ∨ ie_op P i = 1 ∨ ie_op P i = 3 ∨ ie_op P i = 7
  · rw [if_pos h]
    omega
  · rw [if_neg h]
    by_cases h8 : ie_op P i = 8
    · rw [if_pos h8]
      omega
    · rw [if_neg h8]
      omega
theorem ie_w_ind71 {post : Int32 → Prop} {rd cm st fa df lv lx lw ly se : Int32} {a1 a2 a3 a4 a5 a6 a7 a8 a9 a10 a11 a12 : Nat → Int32} {i j : Nat} (hi : i < 15) (hj : j < 15)
    (H1 : (if ie_vr (a1, a2, a3, a4) i = 9 then true else if ie_vr (a1, a2, a3, a4) i = ie_vr (a1, a2, a3, a4) j then (!ie_ww (a1, a2, a3, a4) i && !ie_ww (a1, a2, a3, a4) j) else true) = true → post 1)
    (H0 : (if ie_vr (a1, a2, a3, a4) i = 9 then true else if ie_vr (a1, a2, a3, a4) i = ie_vr (a1, a2, a3, a4) j then (!ie_ww (a1, a2, a3, a4) i && !ie_ww (a1, a2, a3, a4) j) else true) = false → post 0) :
    wX_independent_71 post (nI i) (nI j) rd cm st fa df lv lx lw ly se a1 a2 a3 a4 a5 a6 a7 a8 a9 a10 a11 a12 := by
  unfold wX_independent_71
  refine ie_w_var hi (ie_w_var hj ?_)
  have li := ie_vr_le (a1, a2, a3, a4) i
  have lj := ie_vr_le (a1, a2, a3, a4) j
  by_cases h9 : ie_vr (a1, a2, a3, a4) i = 9
  · rw [if_pos h9] at H1
    unfold ie_vrI
    rw [if_pos h9]
    exact br_t (by decide) (H1 rfl)
  rw [if_neg h9] at H1 H0
  have ei : ie_vrI (a1, a2, a3, a4) i = nI (ie_vr (a1, a2, a3, a4) i) := if_neg h9
  rw [ei]
  refine br_f (nI_pos (by omega)) ?_
  by_cases he : ie_vr (a1, a2, a3, a4) i = ie_vr (a1, a2, a3, a4) j
  · have ej : ie_vrI (a1, a2, a3, a4) j = nI (ie_vr (a1, a2, a3, a4) i) := by
      unfold ie_vrI
      rw [← he]
      exact if_neg h9
    rw [ej]
    rw [if_pos he] at H1 H0
    refine br_t rfl (ie_w_writes hi (fun w1 => ?_) (fun w1 => ?_))
    · refine ie_w_writes hj (fun w2 => br_f (by decide) (H0 (by rw [w1]; rfl))) (fun w2 => br_f (by decide) (H0 (by rw [w1]; rfl)))
    · refine ie_w_writes hj (fun w2 => br_t rfl (br_f (by decide) (H0 (by rw [w1, w2]; rfl)))) (fun w2 => br_t rfl (br_t rfl (H1 (by rw [w1, w2]; rfl))))
  · rw [if_neg he] at H1
    refine br_f ?_ (H1 rfl)
    unfold ie_vrI
    by_cases g9 : ie_vr (a1, a2, a3, a4) j = 9
    · rw [if_pos g9]
      intro z
      have n := nI_pos (n := ie_vr (a1, a2, a3, a4) i) (by omega)
      rw [z] at n
      exact n (by decide)
    · rw [if_neg g9, nI_eq (by omega) (by omega)]
      exact he
theorem ie_w_ind {post : Int32 → Prop} {rd cm st fa df lv lx lw ly se : Int32} {a1 a2 a3 a4 a5 a6 a7 a8 a9 a10 a11 a12 : Nat → Int32} {i j : Nat} (hi : i < 15) (hj : j < 15)
    (H1 : ie_ind (a1, a2, a3, a4) i j = true → post 1) (H0 : ie_ind (a1, a2, a3, a4) i j = false → post 0) : wpX_independent post (rd, cm, st, fa, df, lv, lx, lw, ly, se, a1, a2, a3, a4, a5, a6, a7, a8, a9, a10, a11, a12) (nI i) (nI j) := by
  unfold wpX_independent
  rw [nI_clamp (show i < 2 ^ 31 by omega), nI_clamp (show j < 2 ^ 31 by omega)]
  unfold ie_ind at H1 H0
  refine ⟨pk_in i 15 hi, br_c (fun h => H0 (if_pos h)) (fun h6 => ⟨pk_in j 15 hj, br_c (fun h => H0 ?_) (fun g6 => ?_)⟩)⟩
  · rw [if_neg (show ¬ ie_op (a1, a2, a3, a4) i = 6 from h6)]
    exact if_pos h
  rw [if_neg (show ¬ ie_op (a1, a2, a3, a4) i = 6 from h6), if_neg (show ¬ ie_op (a1, a2, a3, a4) j = 6 from g6)] at H1 H0
  refine ie_w_lock hi (fun l1 => ie_w_lock hj (fun l2 => ?_) (fun l2 => ?_)) (fun l1 => ie_w_lock hj (fun l2 => ?_) (fun l2 => ?_))
  · rw [if_pos ⟨l1, l2⟩] at H1 H0
    have e1 : a3 i &&& 1 = nI (ie_la (a1, a2, a3, a4) i) := (ie_and1 (a3 i)).2
    have e2 : a3 j &&& 1 = nI (ie_la (a1, a2, a3, a4) j) := (ie_and1 (a3 j)).2
    have b1 := ie_la_lt (a1, a2, a3, a4) i
    have b2 := ie_la_lt (a1, a2, a3, a4) j
    refine br_f (by decide) (br_f (by decide) ⟨pk_in i 15 hi, pk_in j 15 hj, ?_⟩)
    rw [e1, e2]
    exact pk_eq (ie_la (a1, a2, a3, a4) i) (ie_la (a1, a2, a3, a4) j) (fun z => H0 (by rw [decide_eq_true z]; rfl)) (fun z => H1 (by rw [decide_eq_false z]; rfl)) rfl rfl (by omega) (by omega)
  · rw [if_neg (fun z => by rw [l2] at z; exact absurd z.2 (by decide))] at H1 H0
    exact br_f (by decide) (br_t rfl (ie_w_ind71 hi hj H1 H0))
  · rw [if_neg (fun z => by rw [l1] at z; exact absurd z.1 (by decide))] at H1 H0
    exact br_t rfl (ie_w_ind71 hi hj H1 H0)
  · rw [if_neg (fun z => by rw [l1] at z; exact absurd z.1 (by decide))] at H1 H0
    exact br_t rfl (ie_w_ind71 hi hj H1 H0)
end
section
/-! what was found, against the list of what the search has met; noteEnd -/
def ie_res (E : List ie_E) (cm st fa df : Int32) (V W : Nat) (lx ly se : Int32) (a11 a12 : Nat → Int32) : Prop :=
  ((cm = 0 ∧ ¬ ∃ c : ie_C, ((0, c) : ie_E) ∈ E) ∨ (cm = 1 ∧ ∃ c : ie_C, ((0, c) : ie_E) ∈ E)) ∧
  ((st = 0 ∧ ¬ ∃ c : ie_C, ((1, c) : ie_E) ∈ E) ∨ (st = 1 ∧ ∃ c : ie_C, ((1, c) : ie_E) ∈ E)) ∧
  ((se = 0 ∧ ¬ ∃ c : ie_C, ((0, c) : ie_E) ∈ E ∧ c V = lx ∧ c W = ly) ∨ (se = 1 ∧ ∃ c : ie_C, ((0, c) : ie_E) ∈ E ∧ c V = lx ∧ c W = ly)) ∧
  (∃ S : Nat → Bool, fa = ie_msk S ∧ ∀ t, t < 3 → (S t = true ↔ ∃ c : ie_C, ((2 + t, c) : ie_E) ∈ E)) ∧
  (∀ k, k < 10 → cm = 1 → (∃ c : ie_C, ((0, c) : ie_E) ∈ E ∧ c k = a11 k) ∧ (∃ c : ie_C, ((0, c) : ie_E) ∈ E ∧ c k = a12 k) ∧ ∀ c : ie_C, ((0, c) : ie_E) ∈ E → a11 k ≤ c k ∧ c k ≤ a12 k) ∧
  (E.length ≤ 1 → df = 0)
theorem ie_mem_ne {E : List ie_E} {a m : Nat} {c d : ie_C} (h : a ≠ m) : ((a, c) : ie_E) ∈ E ++ [(m, d)] ↔ ((a, c) : ie_E) ∈ E := by
  rw [List.mem_append, List.mem_singleton]
  exact ⟨fun z => z.elim id (fun y => absurd (congrArg Prod.fst y) h), Or.inl⟩
theorem ie_mem_eq {E : List ie_E} {m : Nat} {c d : ie_C} : ((m, c) : ie_E) ∈ E ++ [(m, d)] ↔ ((m, c) : ie_E) ∈ E ∨ c = d := by
  rw [List.mem_append, List.mem_singleton]
  exact ⟨fun z => z.elim Or.inl (fun y => Or.inr (congrArg Prod.snd y)), fun z => z.elim Or.inl (fun y => Or.inr (by rw [y]))⟩
theorem ie_ex_ne {E : List ie_E} {a m : Nat} {d : ie_C} {Q : ie_C → Prop} (h : a ≠ m) : (∃ c : ie_C, ((a, c) : ie_E) ∈ E ++ [(m, d)] ∧ Q c) ↔ (∃ c : ie_C, ((a, c) : ie_E) ∈ E ∧ Q c) :=
  ⟨fun ⟨c, g, q⟩ => ⟨c, (ie_mem_ne h).mp g, q⟩, fun ⟨c, g, q⟩ => ⟨c, (ie_mem_ne h).mpr g, q⟩⟩
theorem ie_ex0_ne {E : List ie_E} {a m : Nat} {d : ie_C} (h : a ≠ m) : (∃ c : ie_C, ((a, c) : ie_E) ∈ E ++ [(m, d)]) ↔ (∃ c : ie_C, ((a, c) : ie_E) ∈ E) :=
  ⟨fun ⟨c, g⟩ => ⟨c, (ie_mem_ne h).mp g⟩, fun ⟨c, g⟩ => ⟨c, (ie_mem_ne h).mpr g⟩⟩
theorem ie_last (E : List ie_E) (m : Nat) (c : ie_C) : ((m, c) : ie_E) ∈ E ++ [(m, c)] := ie_mem_eq.mpr (Or.inr rfl)
theorem ie_len_snoc {E : List ie_E} {x : ie_E} (h : (E ++ [x]).length ≤ 1) : E = [] := by
  cases E with
  | nil => rfl
  | cons y l =>
    simp only [List.cons_append, List.length_cons, List.length_append, List.length_nil] at h
    exact absurd h (by omega)
theorem ie_res_stick {E : List ie_E} {cm st fa df lx ly se : Int32} {V W : Nat} {a11 a12 : Nat → Int32} (c : ie_C) (h : ie_res E cm st fa df V W lx ly se a11 a12) :
    ie_res (E ++ [(1, c)]) cm 1 fa df V W lx ly se a11 a12 := by
  obtain ⟨h1, h2, h3, ⟨S, s1, s2⟩, h5, h6⟩ := h
  refine ⟨?_, Or.inr ⟨rfl, c, ie_last E 1 c⟩, ?_, ⟨S, s1, fun t ht => ?_⟩, fun k hk e => ?_, fun z => ?_⟩
  · rw [ie_ex0_ne (by omega)]
    exact h1
  · rw [ie_ex_ne (by omega)]
    exact h3
  · rw [ie_ex0_ne (by omega)]
    exact s2 t ht
  · obtain ⟨g1, g2, g3⟩ := h5 k hk e
    rw [ie_ex_ne (by omega), ie_ex_ne (by omega)]
    exact ⟨g1, g2, fun d hd => g3 d ((ie_mem_ne (by omega)).mp hd)⟩
  · rw [ie_len_snoc z] at h6
    exact h6 (Nat.zero_le 1)
theorem ie_msk_c {S T : Nat → Bool} (h : ∀ u, u < 3 → S u = T u) : ie_msk S = ie_msk T := by
  unfold ie_msk ie_mk
  rw [h 0 (by omega), h 1 (by omega), h 2 (by omega)]
theorem ie_d_or : ∀ a b c d e f : Bool, nI (a.toNat + (2 * b.toNat + 4 * c.toNat)) ||| nI (d.toNat + (2 * e.toNat + 4 * f.toNat)) = nI ((a || d).toNat + (2 * (b || e).toNat + 4 * (c || f).toNat)) := by decide +kernel
theorem ie_d_an : ∀ a b c d e f : Bool, nI (a.toNat + (2 * b.toNat + 4 * c.toNat)) &&& (nI (d.toNat + (2 * e.toNat + 4 * f.toNat)) ^^^ (-1)) = nI ((a && !d).toNat + (2 * (b && !e).toNat + 4 * (c && !f).toNat)) := by decide +kernel
theorem ie_d_0 : ∀ a b c : Bool, nI (a.toNat + (2 * b.toNat + 4 * c.toNat)) = 0 ↔ (a || (b || c)) = false := by decide +kernel
theorem ie_d_bit : ∀ a b c : Bool, (((nI (a.toNat + (2 * b.toNat + 4 * c.toNat)) >>> (nI 0 &&& 31)) &&& 1) = 1 ↔ a = true) ∧ (((nI (a.toNat + (2 * b.toNat + 4 * c.toNat)) >>> (nI 1 &&& 31)) &&& 1) = 1 ↔ b = true) ∧ (((nI (a.toNat + (2 * b.toNat + 4 * c.toNat)) >>> (nI 2 &&& 31)) &&& 1) = 1 ↔ c = true) := by decide +kernel
theorem ie_d_one : ((1 : Int32) <<< (nI 0 &&& 31) = nI (true.toNat + (2 * false.toNat + 4 * false.toNat))) ∧ ((1 : Int32) <<< (nI 1 &&& 31) = nI (false.toNat + (2 * true.toNat + 4 * false.toNat))) ∧ ((1 : Int32) <<< (nI 2 &&& 31) = nI (false.toNat + (2 * false.toNat + 4 * true.toNat))) := by decide +kernel
theorem ie_msk_or (S T : Nat → Bool) : ie_msk S ||| ie_msk T = ie_msk (fun u => S u || T u) := ie_d_or _ _ _ _ _ _
theorem ie_msk_an (S T : Nat → Bool) : ie_msk S &&& (ie_msk T ^^^ (-1)) = ie_msk (fun u => S u && !T u) := ie_d_an _ _ _ _ _ _
theorem ie_msk_0 (S : Nat → Bool) : ie_msk S = 0 ↔ (S 0 || (S 1 || S 2)) = false := ie_d_0 _ _ _
theorem ie_msk_bit (S : Nat → Bool) {t : Nat} (ht : t < 3) : ((ie_msk S >>> (nI t &&& 31)) &&& 1) = 1 ↔ S t = true := by
  have q := ie_d_bit (S 0) (S 1) (S 2)
  have h3 : t = 0 ∨ t = 1 ∨ t = 2 := by omega
  rcases h3 with e | e | e <;> subst e
  · exact q.1
  · exact q.2.1
  · exact q.2.2
theorem ie_msk_one {t : Nat} (ht : t < 3) : (1 : Int32) <<< (nI t &&& 31) = ie_msk (fun u => decide (u = t)) := by
  have q := ie_d_one
  have h3 : t = 0 ∨ t = 1 ∨ t = 2 := by omega
  rcases h3 with e | e | e <;> subst e
  · exact q.1
  · exact q.2.1
  · exact q.2.2
theorem ie_res_fail {E : List ie_E} {cm st fa df lx ly se : Int32} {V W : Nat} {a11 a12 : Nat → Int32} (c : ie_C) {t : Nat} (ht : t < 3) (h : ie_res E cm st fa df V W lx ly se a11 a12) :
    ie_res (E ++ [(2 + t, c)]) cm st (fa ||| ((1 : Int32) <<< (nI t &&& 31))) df V W lx ly se a11 a12 := by
  obtain ⟨h1, h2, h3, ⟨S, s1, s2⟩, h5, h6⟩ := h
  refine ⟨?_, ?_, ?_, ⟨fun u => S u || decide (u = t), by rw [s1, ie_msk_one ht, ie_msk_or], fun u hu => ?_⟩, fun k hk e => ?_, fun z => ?_⟩
  · rw [ie_ex0_ne (by omega)]
    exact h1
  · rw [ie_ex0_ne (by omega)]
    exact h2
  · rw [ie_ex_ne (by omega)]
    exact h3
  · by_cases e : u = t
    · subst e
      exact ⟨fun _ => ⟨c, ie_last E _ c⟩, fun _ => by show (S u || decide (u = u)) = true; rw [decide_eq_true (rfl : u = u), Bool.or_true]⟩
    · rw [ie_ex0_ne (by omega), ← s2 u hu]
      show (S u || decide (u = t)) = true ↔ S u = true
      rw [decide_eq_false e, Bool.or_false]
  · obtain ⟨g1, g2, g3⟩ := h5 k hk e
    rw [ie_ex_ne (by omega), ie_ex_ne (by omega)]
    exact ⟨g1, g2, fun d hd => g3 d ((ie_mem_ne (by omega)).mp hd)⟩
  · rw [ie_len_snoc z] at h6
    exact h6 (Nat.zero_le 1)
def ie_lo (cm x y : Int32) : Int32 := if cm = 0 then x else if y ≤ x then y else x
def ie_hi (cm x y : Int32) : Int32 := if cm = 0 then x else if x ≤ y then y else x
theorem ie_le_tr {a b c : Int32} (h : a ≤ b) (g : b ≤ c) : a ≤ c := Int32.le_iff_toInt_le.mpr (Int.le_trans (Int32.le_iff_toInt_le.mp h) (Int32.le_iff_toInt_le.mp g))
theorem ie_le_rf (a : Int32) : a ≤ a := Int32.le_iff_toInt_le.mpr (Int.le_refl _)
theorem ie_nle {a b : Int32} (h : ¬ a ≤ b) : b ≤ a := by
  rw [Int32.le_iff_toInt_le] at h ⊢
  omega
theorem ie_res_end {E : List ie_E} {cm st fa df lx ly se : Int32} {V W : Nat} {a11 a12 : Nat → Int32} (c : ie_C) (h : ie_res E cm st fa df V W lx ly se a11 a12)
    {df' se' : Int32} {a11' a12' : Nat → Int32} (hd : cm = 0 → df' = df) (hs : se' = if c V = lx ∧ c W = ly then 1 else se) (hk : ∀ k, k < 10 → a11' k = ie_lo cm (c k) (a11 k) ∧ a12' k = ie_hi cm (c k) (a12 k)) :
    ie_res (E ++ [(0, c)]) 1 st fa df' V W lx ly se' a11' a12' := by
  obtain ⟨h1, h2, h3, ⟨S, s1, s2⟩, h5, h6⟩ := h
  refine ⟨Or.inr ⟨rfl, c, ie_last E 0 c⟩, ?_, ?_, ⟨S, s1, fun t ht => ?_⟩, fun k hk10 _ => ?_, fun z => ?_⟩
  · rw [ie_ex0_ne (by omega)]
    exact h2
  · rw [hs]
    by_cases q : c V = lx ∧ c W = ly
    · rw [if_pos q]
      exact Or.inr ⟨rfl, c, ie_last E 0 c, q⟩
    · rw [if_neg q]
      rcases h3 with ⟨e, n⟩ | ⟨e, d, m, g⟩
      · refine Or.inl ⟨e, fun ⟨d, m, g⟩ => ?_⟩
        rcases ie_mem_eq.mp m with m | m
        · exact n ⟨d, m, g⟩
        · subst m
          exact q g
      · exact Or.inr ⟨e, d, List.mem_append.mpr (Or.inl m), g⟩
  · rw [ie_ex0_ne (by omega)]
    exact s2 t ht
  · obtain ⟨k1, k2⟩ := hk k hk10
    rw [k1, k2]
    unfold ie_lo ie_hi
    rcases h1 with ⟨e, n⟩ | ⟨e, _⟩
    · rw [if_pos e, if_pos e]
      refine ⟨⟨c, ie_last E 0 c, rfl⟩, ⟨c, ie_last E 0 c, rfl⟩, fun d m => ?_⟩
      rcases ie_mem_eq.mp m with m | m
      · exact absurd ⟨d, m⟩ n
      · subst m
        exact ⟨ie_le_rf _, ie_le_rf _⟩
    · obtain ⟨⟨d1, m1, e1⟩, ⟨d2, m2, e2⟩, g3⟩ := h5 k hk10 e
      have n0 : ¬ cm = 0 := by
        rw [e]
        decide
      rw [if_neg n0, if_neg n0]
      have L : ∀ d : ie_C, ((0, d) : ie_E) ∈ E ++ [(0, c)] → (if a11 k ≤ c k then a11 k else c k) ≤ d k := by
        intro d m
        by_cases q : a11 k ≤ c k
        · rw [if_pos q]
          rcases ie_mem_eq.mp m with m | m
          · exact (g3 d m).1
          · subst m
            exact q
        · rw [if_neg q]
          rcases ie_mem_eq.mp m with m | m
          · exact ie_le_tr (ie_nle q) (g3 d m).1
          · subst m
            exact ie_le_rf _
      have R : ∀ d : ie_C, ((0, d) : ie_E) ∈ E ++ [(0, c)] → d k ≤ (if c k ≤ a12 k then a12 k else c k) := by
        intro d m
        by_cases q : c k ≤ a12 k
        · rw [if_pos q]
          rcases ie_mem_eq.mp m with m | m
          · exact (g3 d m).2
          · subst m
            exact q
        · rw [if_neg q]
          rcases ie_mem_eq.mp m with m | m
          · exact ie_le_tr (g3 d m).2 (ie_nle q)
          · subst m
            exact ie_le_rf _
      refine ⟨?_, ?_, fun d m => ⟨L d m, R d m⟩⟩
      · by_cases q : a11 k ≤ c k
        · rw [if_pos q]
          exact ⟨d1, List.mem_append.mpr (Or.inl m1), e1⟩
        · rw [if_neg q]
          exact ⟨c, ie_last E 0 c, rfl⟩
      · by_cases q : c k ≤ a12 k
        · rw [if_pos q]
          exact ⟨d2, List.mem_append.mpr (Or.inl m2), e2⟩
        · rw [if_neg q]
          exact ⟨c, ie_last E 0 c, rfl⟩
  · have z' := ie_len_snoc z
    subst z'
    have e : cm = 0 := h1.elim (fun q => q.1) (fun q => absurd q.2 (fun ⟨d, m⟩ => absurd m List.not_mem_nil))
    rw [hd e]
    exact h6 (Nat.zero_le 1)
/-! noteEnd -/
theorem ie_n149 {post : St1 → Prop} {J : Int32 → (Nat → Int32) → (Nat → Int32) → (Nat → Int32) → (Nat → Int32) → (Nat → Int32) → (Nat → Int32) → (Nat → Int32) → (Nat → Int32) → (Nat → Int32) → (Nat → Int32) → (Nat → Int32) → (Nat → Int32) → Prop}
    {x2 x : Int32} {rd cm st fa df lv lx lw ly se : Int32} {a1 a2 a3 a4 a5 a6 a7 a8 a9 a10 a11 a12 : Nat → Int32} {i : Nat} (hi : i < 10) (H : ∀ b : Nat → Int32, b i = ie_hi cm x (a12 i) → (∀ k, k ≠ i → b k = a12 k) → J (nI (i + 1)) a1 a2 a3 a4 a5 a6 a7 a8 a9 a10 a11 b) :
    wX_noteEnd_149 post J x2 (nI i) x rd cm st fa df lv lx lw ly se a1 a2 a3 a4 a5 a6 a7 a8 a9 a10 a11 a12 := by
  unfold wX_noteEnd_149
  rw [nI_clamp (show i < 2 ^ 31 by omega)]
  unfold ie_hi at H
  refine br_c (fun h => ⟨pk_in i 10 hi, nm_e (nm_r (nI_1 i) (H _ (by rw [pk_us, if_pos h]) (fun k n => pk_un n)))⟩) (fun h => ⟨pk_in i 10 hi, ?_⟩)
  exact br_c (fun g => nm_r (nI_1 i) (H a12 (by rw [if_neg h, if_pos g]) (fun k n => rfl))) (fun g => ⟨pk_in i 10 hi, nm_e (nm_r (nI_1 i) (H _ (by rw [pk_us, if_neg h, if_neg g]) (fun k n => pk_un n)))⟩)
theorem ie_n141 {post : St1 → Prop} {J : Int32 → (Nat → Int32) → (Nat → Int32) → (Nat → Int32) → (Nat → Int32) → (Nat → Int32) → (Nat → Int32) → (Nat → Int32) → (Nat → Int32) → (Nat → Int32) → (Nat → Int32) → (Nat → Int32) → (Nat → Int32) → Prop}
    {x2 x : Int32} {rd cm st fa df lv lx lw ly se : Int32} {a1 a2 a3 a4 a5 a6 a7 a8 a9 a10 a11 a12 : Nat → Int32} {i : Nat} (hi : i < 10) (H : ∀ b : Nat → Int32, b i = ie_hi cm x (a12 i) → (∀ k, k ≠ i → b k = a12 k) → J (nI (i + 1)) a1 a2 a3 a4 a5 a6 a7 a8 a9 a10 (upd a11 i x) b) :
    wX_noteEnd_141 post J x2 (nI i) x rd cm st fa df lv lx lw ly se a1 a2 a3 a4 a5 a6 a7 a8 a9 a10 a11 a12 := by
  unfold wX_noteEnd_141
  rw [nI_clamp (show i < 2 ^ 31 by omega)]
  exact ⟨pk_in i 10 hi, nm_e (ie_n149 hi H)⟩
theorem ie_n107 {post : St1 → Prop} {rd cm st fa df lv lx lw ly se : Int32} {a1 a2 a3 a4 a5 a6 a7 a8 a9 a10 a11 a12 : Nat → Int32} {l : Nat} (hl : l < 12)
    (H : ∀ b11 b12 : Nat → Int32, (∀ k, k < 10 → b11 k = ie_lo cm (ie_sl a6 l k) (a11 k) ∧ b12 k = ie_hi cm (ie_sl a6 l k) (a12 k)) → post (rd, 1, st, fa, df, lv, lx, lw, ly, se, a1, a2, a3, a4, a5, a6, a7, a8, a9, a10, b11, b12)) :
    ∃ n, wX_noteEnd_107 post (nI (l * 15)) rd cm st fa df lv lx lw ly se n 0 a1 a2 a3 a4 a5 a6 a7 a8 a9 a10 a11 a12 := by
  refine pk_loop (σ := (Nat → Int32) × (Nat → Int32)) (fun n i s => wX_noteEnd_107 post (nI (l * 15)) rd cm st fa df lv lx lw ly se n (nI i) a1 a2 a3 a4 a5 a6 a7 a8 a9 a10 s.1 s.2)
    (fun i s => (∀ k, k < i → s.1 k = ie_lo cm (ie_sl a6 l k) (a11 k) ∧ s.2 k = ie_hi cm (ie_sl a6 l k) (a12 k)) ∧ (∀ k, i ≤ k → s.1 k = a11 k ∧ s.2 k = a12 k)) 10 0 (a11, a12) (by omega)
    ⟨fun k hk => absurd hk (by omega), fun k _ => ⟨rfl, rfl⟩⟩
    (fun n s h => pk_le 10 10 (fun _ => H s.1 s.2 h.1) (fun z => absurd z (by omega))) ?_
  intro n i s hi h hw
  obtain ⟨h1, h2⟩ := h
  have e : nI (l * 15) + nI i = nI (l * 15 + i) := nI_add _ _
  have ec : a6 (nI (l * 15) + nI i).toNatClampNeg = ie_sl a6 l i := by
    rw [pk_cl (l * 15 + i) e (by omega), ie_sl_at (by omega)]
  obtain ⟨o1, o2⟩ := h2 i (Nat.le_refl i)
  have fin : ∀ b11 b12 : Nat → Int32, b11 i = ie_lo cm (ie_sl a6 l i) (a11 i) → (∀ k, k ≠ i → b11 k = s.1 k) → b12 i = ie_hi cm (ie_sl a6 l i) (a12 i) → (∀ k, k ≠ i → b12 k = s.2 k) →
      wX_noteEnd_107 post (nI (l * 15)) rd cm st fa df lv lx lw ly se n (nI (i + 1)) a1 a2 a3 a4 a5 a6 a7 a8 a9 a10 b11 b12 := by
    intro b11 b12 q1 q2 q3 q4
    refine hw (b11, b12) ⟨fun k hk => ?_, fun k hk => ?_⟩
    · by_cases ek : k = i
      · rw [ek]
        exact ⟨q1, q3⟩
      · show b11 k = _ ∧ b12 k = _
        rw [q2 k ek, q4 k ek]
        exact h1 k (by omega)
    · show b11 k = _ ∧ b12 k = _
      rw [q2 k (by omega), q4 k (by omega)]
      exact h2 k (by omega)
  refine pk_le 10 i (fun z => absurd z (by omega)) (fun _ => ⟨pk_in (l * 15 + i) 180 (by omega) e, nm_r ec ?_⟩)
  refine br_c (fun hcm => ie_n141 hi (fun b q1 q2 => fin _ b ?_ (fun k n => pk_un n) (by rw [q1, o2]) q2)) (fun hcm => ⟨pk_in i 10 hi, ?_⟩)
  · rw [pk_us]
    unfold ie_lo
    rw [if_pos hcm]
  rw [nI_clamp (show i < 2 ^ 31 by omega)]
  refine br_c (fun g => ie_n149 hi (fun b q1 q2 => fin s.1 b ?_ (fun k n => rfl) (by rw [q1, o2]) q2)) (fun g => ie_n141 hi (fun b q1 q2 => fin _ b ?_ (fun k n => pk_un n) (by rw [q1, o2]) q2))
  · unfold ie_lo
    rw [o1] at g ⊢
    rw [if_neg hcm, if_pos g]
  · rw [pk_us]
    unfold ie_lo
    rw [o1] at g
    rw [if_neg hcm, if_neg g]
theorem ie_n48 {post : St1 → Prop} {rd cm st fa df lv lx lw ly se : Int32} {a1 a2 a3 a4 a5 a6 a7 a8 a9 a10 a11 a12 : Nat → Int32} {l : Nat} (hl : l < 12)
    (H : ∀ (df' : Int32) (b10 b11 b12 : Nat → Int32), (cm = 0 → df' = df) → (∀ k, k < 10 → b11 k = ie_lo cm (ie_sl a6 l k) (a11 k) ∧ b12 k = ie_hi cm (ie_sl a6 l k) (a12 k)) → post (rd, 1, st, fa, df', lv, lx, lw, ly, se, a1, a2, a3, a4, a5, a6, a7, a8, a9, b10, b11, b12)) :
    ∃ n, wX_noteEnd_48 post (nI (l * 15)) rd cm st fa lv lx lw ly se n 0 df a1 a2 a3 a4 a5 a6 a7 a8 a9 a10 a11 a12 := by
  refine pk_loop (σ := Int32 × (Nat → Int32)) (fun n i s => wX_noteEnd_48 post (nI (l * 15)) rd cm st fa lv lx lw ly se n (nI i) s.1 a1 a2 a3 a4 a5 a6 a7 a8 a9 s.2 a11 a12)
    (fun i s => cm = 0 → s.1 = df) 4 0 (df, a10) (by omega) (fun _ => rfl)
    (fun n s h => pk_le 4 4 (fun _ => ie_n107 hl (fun b11 b12 q => H s.1 s.2 b11 b12 h q)) (fun z => absurd z (by omega))) ?_
  intro n i s hi h hw
  have e : nI (l * 15) + nI i = nI (l * 15 + i) := nI_add _ _
  refine pk_le 4 i (fun z => absurd z (by omega)) (fun _ => br_c (fun hcm => ⟨pk_in (l * 15 + i) 180 (by omega) e, pk_in i 4 hi, nm_e (nm_r (nI_1 i) (hw (s.1, upd s.2 (nI i).toNatClampNeg (a6 (nI (l * 15) + nI i).toNatClampNeg)) h))⟩) (fun hcm => ⟨pk_in (l * 15 + i) 180 (by omega) e, pk_in i 4 hi, ?_⟩))
  exact br_c (fun _ => nm_r (nI_1 i) (hw (s.1, s.2) h)) (fun _ => nm_r (nI_1 i) (hw (1, s.2) (fun z => absurd z hcm)))
theorem ie_w_note {post : St1 → Prop} {rd cm st fa df lv lx lw ly se : Int32} {a1 a2 a3 a4 a5 a6 a7 a8 a9 a10 a11 a12 : Nat → Int32} {l V W : Nat} (hl : l < 12) (hV : V < 10) (hW : W < 10) (elv : lv = nI V) (elw : lw = nI W)
    (H : ∀ (df' se' : Int32) (b10 b11 b12 : Nat → Int32), (cm = 0 → df' = df) → (se' = if ie_sl a6 l V = lx ∧ ie_sl a6 l W = ly then 1 else se) →
      (∀ k, k < 10 → b11 k = ie_lo cm (ie_sl a6 l k) (a11 k) ∧ b12 k = ie_hi cm (ie_sl a6 l k) (a12 k)) → post (rd, 1, st, fa, df', lv, lx, lw, ly, se', a1, a2, a3, a4, a5, a6, a7, a8, a9, b10, b11, b12)) :
    wpX_noteEnd post (rd, cm, st, fa, df, lv, lx, lw, ly, se, a1, a2, a3, a4, a5, a6, a7, a8, a9, a10, a11, a12) (nI l) := by
  unfold wpX_noteEnd
  have e1 : nI (l * 15) + lv = nI (l * 15 + V) := by
    rw [elv, nI_add]
  have e2 : nI (l * 15) + lw = nI (l * 15 + W) := by
    rw [elw, nI_add]
  have f1 := ie_sl_at (a := a6) (l := l) (show V < 15 by omega)
  have f2 := ie_sl_at (a := a6) (l := l) (show W < 15 by omega)
  refine nm_r (ie_l15 l) ⟨pk_in (l * 15 + V) 180 (by omega) e1, ?_⟩
  rw [pk_cl _ e1 (by omega), pk_cl _ e2 (by omega), ← f1, ← f2]
  refine br_c (fun h1 => ⟨pk_in (l * 15 + W) 180 (by omega) e2, br_c (fun h2 => ?_) (fun h2 => ?_)⟩) (fun h1 => ?_)
  · exact ie_n48 hl (fun df' b10 b11 b12 q1 q2 => H df' 1 b10 b11 b12 q1 (by rw [if_pos ⟨h1, h2⟩]) q2)
  · exact ie_n48 hl (fun df' b10 b11 b12 q1 q2 => H df' se b10 b11 b12 q1 (by rw [if_neg (fun z => h2 z.2)]) q2)
  · exact ie_n48 hl (fun df' b10 b11 b12 q1 q2 => H df' se b10 b11 b12 q1 (by rw [if_neg (fun z => h1 z.1)]) q2)
end
section
/-! a level begun; sleepers, perform -/
theorem ie_w_open {post : St1 → Prop} {rd cm st fa df lv lx lw ly se : Int32} {a1 a2 a3 a4 a5 a6 a7 a8 a9 a10 a11 a12 : Nat → Int32} {l V W : Nat} {E : List ie_E} {Z : Nat → Bool} (hP : ie_wfP (a1, a2, a3, a4)) (hc : ie_wf (a1, a2, a3, a4) (ie_sl a6 l)) (hl : l < 12) (hV : V < 10) (hW : W < 10) (elv : lv = nI V) (elw : lw = nI W)
    (hz : a7 l = ie_msk Z) (hr : ie_res E cm st fa df V W lx ly se a11 a12)
    (H : ∀ (cm' st' df' se' : Int32) (b10 b11 b12 : Nat → Int32), ie_res (E ++ ie_head (a1, a2, a3, a4) (ie_sl a6 l)) cm' st' fa df' V W lx ly se' b11 b12 →
      post (rd, cm', st', fa, df', lv, lx, lw, ly, se', a1, a2, a3, a4, a5, a6, a7, upd a8 l (ie_msk (fun t => ie_go (a1, a2, a3, a4) (ie_sl a6 l) t && !Z t)), upd a9 l 0, b10, b11, b12)) :
    wpX_open post (rd, cm, st, fa, df, lv, lx, lw, ly, se, a1, a2, a3, a4, a5, a6, a7, a8, a9, a10, a11, a12) (nI l) := by
  unfold wpX_open
  refine ie_w_able hP hc hl ⟨pk_in l 12 hl, ?_⟩
  rw [nI_clamp (show l < 2 ^ 31 by omega), hz, ie_msk_an]
  refine nm_e ⟨pk_in l 12 hl, pk_in l 12 hl, nm_e ?_⟩
  unfold ie_head at H
  refine br_c (fun h => ?_) (fun h => ?_)
  · have h' : ie_any (a1, a2, a3, a4) (ie_sl a6 l) = false := (ie_msk_0 _).mp h
    rw [if_neg (by rw [h']; decide)] at H
    refine ie_w_fin hP hc hl (fun f => br_f (by decide) ?_) (fun f => br_t rfl ?_)
    · rw [if_pos f] at H
      exact ie_w_note hl hV hW elv elw (fun df' se' b10 b11 b12 q1 q2 q3 => H 1 st df' se' b10 b11 b12 (ie_res_end _ hr q1 q2 q3))
    · rw [if_neg (by rw [f]; decide)] at H
      exact H cm 1 df se a10 a11 a12 (ie_res_stick _ hr)
  · have h' : ie_any (a1, a2, a3, a4) (ie_sl a6 l) = true := by
      cases q : ie_any (a1, a2, a3, a4) (ie_sl a6 l) with
      | false => exact absurd ((ie_msk_0 _).mpr q) h
      | true => rfl
    rw [if_pos h', List.append_nil] at H
    exact H cm st df se a10 a11 a12 hr
def ie_cnd (P : ie_P) (c : ie_C) (Z T : Nat → Bool) (t u : Nat) : Bool := !decide (u = t) && (ie_has P c u && ((Z u || T u) && ie_ind P (ie_ix c u) (ie_ix c t)))
theorem ie_slp_s {post : Int32 → Prop} {rd cm st fa df lv lx lw ly se : Int32} {a1 a2 a3 a4 a5 a6 a7 a8 a9 a10 a11 a12 : Nat → Int32} {l t u n : Nat} {x4 : Int32} {Z T : Nat → Bool} (hP : ie_wfP (a1, a2, a3, a4)) (hc : ie_wf (a1, a2, a3, a4) (ie_sl a6 l)) (hl : l < 12) (ht : t < 3) (hu : u < 3)
    (hh : ie_has (a1, a2, a3, a4) (ie_sl a6 l) t = true) (hz : a7 l = ie_msk Z) (hT : a9 l = ie_msk T)
    (H1 : ie_cnd (a1, a2, a3, a4) (ie_sl a6 l) Z T t u = true → wX_sleepers_13 post (nI l) (nI t) (nI (ie_ix (ie_sl a6 l) t)) rd cm st fa df lv lx lw ly se a1 a2 a3 a4 a5 a6 a7 a8 a9 a10 a11 a12 n (x4 ||| ((1 : Int32) <<< (nI u &&& 31))) (nI (u + 1)))
    (H0 : ie_cnd (a1, a2, a3, a4) (ie_sl a6 l) Z T t u = false → wX_sleepers_13 post (nI l) (nI t) (nI (ie_ix (ie_sl a6 l) t)) rd cm st fa df lv lx lw ly se a1 a2 a3 a4 a5 a6 a7 a8 a9 a10 a11 a12 n x4 (nI (u + 1))) :
    wX_sleepers_13 post (nI l) (nI t) (nI (ie_ix (ie_sl a6 l) t)) rd cm st fa df lv lx lw ly se a1 a2 a3 a4 a5 a6 a7 a8 a9 a10 a11 a12 (n + 1) x4 (nI u) := by
  unfold ie_cnd at H1 H0
  refine pk_le 3 u (fun z => absurd z (by omega)) (fun _ => ie_w_next hP hc hl hu (fun g => ?_) (fun g => ?_))
  · refine pk_eq u t (fun e => nm_r (nI_1 u) (H0 (by rw [decide_eq_true e]; rfl))) (fun e => ?_) rfl rfl (by omega) (by omega)
    rw [decide_eq_false e, g] at H1 H0
    refine br_f (nI_pos (by have := ie_ix_lt hP hu g; omega)) ⟨pk_in l 12 hl, pk_in l 12 hl, ?_⟩
    rw [nI_clamp (show l < 2 ^ 31 by omega), hz, hT, ie_msk_or]
    refine ek_if (ie_msk_bit _ hu) (fun b => ?_) (fun b => nm_r (nI_1 u) (H0 ?_))
    · have b' : (Z u || T u) = true := b
      rw [b'] at H1 H0
      exact ie_w_ind (ie_ix_lt hP hu g) (ie_ix_lt hP ht hh) (fun q => br_f (by decide) (nm_e (nm_r (nI_1 u) (H1 (by rw [q]; rfl))))) (fun q => br_t rfl (nm_r (nI_1 u) (H0 (by rw [q]; rfl))))
    · have b' : (Z u || T u) = false := by
        cases q : (Z u || T u) with
        | false => rfl
        | true => exact absurd q b
      rw [b']
      rfl
  · refine pk_eq u t (fun e => nm_r (nI_1 u) (H0 (by rw [g, Bool.false_and, Bool.and_false]))) (fun e => br_t (by decide) (nm_r (nI_1 u) (H0 (by rw [g, Bool.false_and, Bool.and_false])))) rfl rfl (by omega) (by omega)
theorem ie_w_slp {post : Int32 → Prop} {rd cm st fa df lv lx lw ly se : Int32} {a1 a2 a3 a4 a5 a6 a7 a8 a9 a10 a11 a12 : Nat → Int32} {l t : Nat} {Z T : Nat → Bool} (hP : ie_wfP (a1, a2, a3, a4)) (hc : ie_wf (a1, a2, a3, a4) (ie_sl a6 l)) (hl : l < 12) (ht : t < 3)
    (hh : ie_has (a1, a2, a3, a4) (ie_sl a6 l) t = true) (hz : a7 l = ie_msk Z) (hT : a9 l = ie_msk T) (H : post (ie_msk (ie_cnd (a1, a2, a3, a4) (ie_sl a6 l) Z T t))) : wpX_sleepers post (rd, cm, st, fa, df, lv, lx, lw, ly, se, a1, a2, a3, a4, a5, a6, a7, a8, a9, a10, a11, a12) (nI l) (nI t) := by
  unfold wpX_sleepers
  refine ie_w_next hP hc hl ht (fun _ => ?_) (fun q => absurd q (by rw [hh]; decide))
  have f : ∀ x : Int32, x = ie_msk (ie_cnd (a1, a2, a3, a4) (ie_sl a6 l) Z T t) → wX_sleepers_13 post (nI l) (nI t) (nI (ie_ix (ie_sl a6 l) t)) rd cm st fa df lv lx lw ly se a1 a2 a3 a4 a5 a6 a7 a8 a9 a10 a11 a12 1 x (nI 3) :=
    fun x hx => pk_le 3 3 (fun _ => by rw [hx]; exact H) (fun z => absurd z (by omega))
  refine ⟨4, ?_⟩
  refine ie_slp_s (u := 0) hP hc hl ht (by omega) hh hz hT (fun h0 => ?_) (fun h0 => ?_) <;>
  refine ie_slp_s (u := 1) hP hc hl ht (by omega) hh hz hT (fun h1 => ?_) (fun h1 => ?_) <;>
  refine ie_slp_s (u := 2) hP hc hl ht (by omega) hh hz hT (fun h2 => ?_) (fun h2 => ?_) <;>
  exact f _ (ie_msk3 h0 h1 h2 (by decide))
/-! perform -/
theorem ie_mv_none {P : ie_P} {c : ie_C} {t i : Nat} (h0 : ie_op P i ≠ 0) (h1 : ie_op P i ≠ 1) (h2 : ie_op P i ≠ 2) (h3 : ie_op P i ≠ 3) (h4 : ie_op P i ≠ 4) (h5 : ie_op P i ≠ 5) (h7 : ie_op P i ≠ 7) : ie_mv P c t i = c := by
  unfold ie_mv
  rw [if_neg h0, if_neg h1, if_neg h2, if_neg h3, if_neg h4, if_neg h5, if_neg h7]
theorem ie_mv_0 {P : ie_P} {c : ie_C} {t i : Nat} (h : ie_op P i = 0) : ie_mv P c t i = upd c (4 + t * 2 + ie_la P i) (c (ie_vb P i)) := by
  unfold ie_mv
  rw [if_pos h]
theorem ie_mv_1 {P : ie_P} {c : ie_C} {t i : Nat} (h : ie_op P i = 1) : ie_mv P c t i = upd c (ie_vb P i) (c (4 + t * 2 + ie_la P i)) := by
  unfold ie_mv
  rw [if_neg (by rw [h]; decide), if_pos h]
theorem ie_mv_2 {P : ie_P} {c : ie_C} {t i : Nat} (h : ie_op P i = 2) : ie_mv P c t i = upd c (4 + t * 2 + ie_la P i) (c (4 + t * 2 + ie_la P i) + ie_bb P i) := by
  unfold ie_mv
  rw [if_neg (by rw [h]; decide), if_neg (by rw [h]; decide), if_pos h]
theorem ie_mv_3 {P : ie_P} {c : ie_C} {t i : Nat} (h : ie_op P i = 3) : ie_mv P c t i = upd c (ie_vb P i) (ie_aa P i) := by
  unfold ie_mv
  rw [if_neg (by rw [h]; decide), if_neg (by rw [h]; decide), if_neg (by rw [h]; decide), if_pos h]
theorem ie_mv_4 {P : ie_P} {c : ie_C} {t i : Nat} (h : ie_op P i = 4) : ie_mv P c t i = upd c (13 + ie_la P i) (nI t + 1) := by
  unfold ie_mv
  rw [if_neg (by rw [h]; decide), if_neg (by rw [h]; decide), if_neg (by rw [h]; decide), if_neg (by rw [h]; decide), if_pos h]
theorem ie_mv_5 {P : ie_P} {c : ie_C} {t i : Nat} (h : ie_op P i = 5) : ie_mv P c t i = if c (13 + ie_la P i) = nI t + 1 then upd c (13 + ie_la P i) 0 else c := by
  unfold ie_mv
  rw [if_neg (by rw [h]; decide), if_neg (by rw [h]; decide), if_neg (by rw [h]; decide), if_neg (by rw [h]; decide), if_neg (by rw [h]; decide), if_pos h]
theorem ie_mv_7 {P : ie_P} {c : ie_C} {t i : Nat} (h : ie_op P i = 7) : ie_mv P c t i = upd (upd c (4 + t * 2 + ie_la P i) (c (ie_vb P i))) (ie_vb P i) (c (4 + t * 2 + ie_la P i)) := by
  unfold ie_mv
  rw [if_neg (by rw [h]; decide), if_neg (by rw [h]; decide), if_neg (by rw [h]; decide), if_neg (by rw [h]; decide), if_neg (by rw [h]; decide), if_neg (by rw [h]; decide), if_pos h]
theorem ie_upd_lo {a : Nat → Int32} {b k j : Nat} {x : Int32} (h : j < b * 15) : upd a (b * 15 + k) x j = a j := pk_un (by omega)
theorem ie_w_perf {post : Int32 → St1 → Prop} {rd cm st fa df lv lx lw ly se : Int32} {a1 a2 a3 a4 a5 a6 a7 a8 a9 a10 a11 a12 : Nat → Int32} {b t i : Nat} (hb : b < 12) (ht : t < 3) (hi : i < 15)
    (H1 : ie_badI (a1, a2, a3, a4) (ie_sl a6 b) t i = false → ∀ a : Nat → Int32, (∀ k, k < b * 15 → a k = a6 k) → ie_sl a b = ie_mv (a1, a2, a3, a4) (ie_inc (ie_sl a6 b) t) t i → post 1 (rd, cm, st, fa, df, lv, lx, lw, ly, se, a1, a2, a3, a4, a5, a, a7, a8, a9, a10, a11, a12))
    (H0 : ie_badI (a1, a2, a3, a4) (ie_sl a6 b) t i = true → ∀ a : Nat → Int32, (∀ k, k < b * 15 → a k = a6 k) → post 0 (rd, cm, st, fa, df, lv, lx, lw, ly, se, a1, a2, a3, a4, a5, a, a7, a8, a9, a10, a11, a12)) :
    wpX_perform post (rd, cm, st, fa, df, lv, lx, lw, ly, se, a1, a2, a3, a4, a5, a6, a7, a8, a9, a10, a11, a12) (nI b) (nI t) (nI i) := by
  unfold wpX_perform
  dsimp only
  rw [nI_clamp (show i < 2 ^ 31 by omega)]
  have la := ie_la_lt (a1, a2, a3, a4) i
  have vb := ie_vb_lt (a1, a2, a3, a4) i
  have el : a3 i &&& 1 = nI (ie_la (a1, a2, a3, a4) i) := (ie_and1 (a3 i)).2
  have ev : a4 i &&& 3 = nI (ie_vb (a1, a2, a3, a4) i) := (ie_and3 (a4 i)).2
  rw [el, ev]
  have eR : nI (b * 15) + 4 + nI t * 2 + nI (ie_la (a1, a2, a3, a4) i) = nI (b * 15 + (4 + t * 2 + ie_la (a1, a2, a3, a4) i)) := by
    rw [show (4 : Int32) = nI 4 from rfl, show (2 : Int32) = nI 2 from rfl, pk_mul, nI_add, nI_add, nI_add]
    congr 1
    omega
  have eV : nI (b * 15) + nI (ie_vb (a1, a2, a3, a4) i) = nI (b * 15 + ie_vb (a1, a2, a3, a4) i) := nI_add _ _
  have eM : nI (b * 15) + 13 + nI (ie_la (a1, a2, a3, a4) i) = nI (b * 15 + (13 + ie_la (a1, a2, a3, a4) i)) := by
    rw [show (13 : Int32) = nI 13 from rfl, nI_add, nI_add, Nat.add_assoc]
  have eP : nI (b * 15) + 10 + nI t = nI (b * 15 + (10 + t)) := by
    rw [show (10 : Int32) = nI 10 from rfl, nI_add, nI_add, Nat.add_assoc]
  refine nm_r (ie_l15 b) ⟨pk_in i 15 hi, nm_r eR ⟨pk_in i 15 hi, nm_r eV ⟨pk_in i 15 hi, nm_r eM ?_⟩⟩⟩
  rw [eP, nI_clamp (show b * 15 + (10 + t) < 2 ^ 31 by omega), nI_clamp (show b * 15 + (4 + t * 2 + ie_la (a1, a2, a3, a4) i) < 2 ^ 31 by omega), nI_clamp (show b * 15 + ie_vb (a1, a2, a3, a4) i < 2 ^ 31 by omega), nI_clamp (show b * 15 + (13 + ie_la (a1, a2, a3, a4) i) < 2 ^ 31 by omega)]
  refine ⟨pk_in (b * 15 + (10 + t)) 180 (by omega), pk_in (b * 15 + (10 + t)) 180 (by omega), ?_⟩
  have es : ie_sl (upd a6 (b * 15 + (10 + t)) (a6 (b * 15 + (10 + t)) + 1)) b = ie_inc (ie_sl a6 b) t := by
    unfold ie_inc
    rw [ie_sl_upd (by omega), ie_sl_at (show 10 + t < 15 by omega)]
  have fr : ∀ k, k < b * 15 → upd a6 (b * 15 + (10 + t)) (a6 (b * 15 + (10 + t)) + 1) k = a6 k := fun k hk => ie_upd_lo hk
  have er : ie_sl a6 b (4 + t * 2 + ie_la (a1, a2, a3, a4) i) = ie_inc (ie_sl a6 b) t (4 + t * 2 + ie_la (a1, a2, a3, a4) i) := (pk_un (by omega)).symm
  unfold ie_badI at H1 H0
  rw [er, ← es] at H1 H0
  revert H1 H0 fr
  generalize upd a6 (b * 15 + (10 + t)) (a6 (b * 15 + (10 + t)) + 1) = A
  intro H1 H0 fr
  have aR := ie_sl_at (a := A) (l := b) (show 4 + t * 2 + ie_la (a1, a2, a3, a4) i < 15 by omega)
  have aV := ie_sl_at (a := A) (l := b) (show ie_vb (a1, a2, a3, a4) i < 15 by omega)
  have aM := ie_sl_at (a := A) (l := b) (show 13 + ie_la (a1, a2, a3, a4) i < 15 by omega)
  have iR : vp_in (nI (b * 15 + (4 + t * 2 + ie_la (a1, a2, a3, a4) i))) 180 := vp_in_nI (by omega) (by decide)
  have iV : vp_in (nI (b * 15 + ie_vb (a1, a2, a3, a4) i)) 180 := vp_in_nI (by omega) (by decide)
  have iM : vp_in (nI (b * 15 + (13 + ie_la (a1, a2, a3, a4) i))) 180 := vp_in_nI (by omega) (by decide)
  have ii : vp_in (nI i) 15 := pk_in i 15 hi
  have F : ∀ a : Nat → Int32, ie_op (a1, a2, a3, a4) i ≠ 6 → (∀ k, k < b * 15 → a k = A k) → ie_sl a b = ie_mv (a1, a2, a3, a4) (ie_sl A b) t i → post 1 (rd, cm, st, fa, df, lv, lx, lw, ly, se, a1, a2, a3, a4, a5, a, a7, a8, a9, a10, a11, a12) := by
    intro a n6 q1 q2
    exact H1 (by rw [decide_eq_false n6]; rfl) a (fun k hk => by rw [q1 k hk, fr k hk]) q2
  refine nm_e ⟨ii, nm_r (e' := ie_op (a1, a2, a3, a4) i) rfl ?_⟩
  refine br_c (fun h => ?_) (fun hn => br_c (fun h => ?_) (fun hm => ?_))
  · have nn : ∀ x : Int32, ¬ x < 0 → ie_op (a1, a2, a3, a4) i ≠ x := fun x hx e => hx (e ▸ h)
    exact F A (nn 6 (by decide)) (fun k _ => rfl) (ie_mv_none (nn 0 (by decide)) (nn 1 (by decide)) (nn 2 (by decide)) (nn 3 (by decide)) (nn 4 (by decide)) (nn 5 (by decide)) (nn 7 (by decide))).symm
  · have nn : ∀ x : Int32, ¬ 7 < x → ie_op (a1, a2, a3, a4) i ≠ x := fun x hx e => hx (e ▸ h)
    exact F A (nn 6 (by decide)) (fun k _ => rfl) (ie_mv_none (nn 0 (by decide)) (nn 1 (by decide)) (nn 2 (by decide)) (nn 3 (by decide)) (nn 4 (by decide)) (nn 5 (by decide)) (nn 7 (by decide))).symm
  refine br_c (fun h => ⟨iV, iR, nm_e (F _ (by rw [h]; decide) (fun k hk => ie_upd_lo hk) ?_)⟩) (fun h0 => ?_)
  · rw [ie_mv_0 h, ie_sl_upd (by omega), aV]
  refine br_c (fun h => ⟨iR, iV, nm_e (F _ (by rw [h]; decide) (fun k hk => ie_upd_lo hk) ?_)⟩) (fun h1 => ?_)
  · rw [ie_mv_1 h, ie_sl_upd (by omega), aR]
  refine br_c (fun h => ⟨iR, ii, iR, nm_e (F _ (by rw [h]; decide) (fun k hk => ie_upd_lo hk) ?_)⟩) (fun h2 => ?_)
  · rw [ie_mv_2 h, ie_sl_upd (by omega), aR]
    rfl
  refine br_c (fun h => ⟨ii, iV, nm_e (F _ (by rw [h]; decide) (fun k hk => ie_upd_lo hk) ?_)⟩) (fun h3 => ?_)
  · rw [ie_mv_3 h, ie_sl_upd (by omega)]
    rfl
  refine br_c (fun h => ⟨iM, nm_e (F _ (by rw [h]; decide) (fun k hk => ie_upd_lo hk) ?_)⟩) (fun h4 => ?_)
  · rw [ie_mv_4 h, ie_sl_upd (by omega)]
  refine br_c (fun h => ⟨iM, br_c (fun g => ⟨iM, nm_e (F _ (by rw [h]; decide) (fun k hk => ie_upd_lo hk) ?_)⟩) (fun g => F _ (by rw [h]; decide) (fun k hk => rfl) ?_)⟩) (fun h5 => ?_)
  · rw [ie_mv_5 h, aM, if_pos g, ie_sl_upd (by omega)]
  · rw [ie_mv_5 h, aM, if_neg g]
  refine br_c (fun h => ⟨iR, ii, br_c (fun g => ?_) (fun g => ?_)⟩) (fun h6 => ?_)
  · have g' : ie_sl A b (4 + t * 2 + ie_la (a1, a2, a3, a4) i) = ie_bb (a1, a2, a3, a4) i := by
      rw [aR]
      exact g
    refine H1 (by rw [decide_eq_true g', Bool.not_true, Bool.and_false]) A fr (ie_mv_none ?_ ?_ ?_ ?_ ?_ ?_ ?_).symm <;> (rw [h]; decide)
  · have g' : ¬ ie_sl A b (4 + t * 2 + ie_la (a1, a2, a3, a4) i) = ie_bb (a1, a2, a3, a4) i := by
      rw [aR]
      exact g
    exact H0 (by rw [decide_eq_true h, decide_eq_false g']; rfl) A fr
  refine br_c (fun h => ?_) (fun _ => True.intro)
  unfold wpX_swap
  rw [nI_clamp (show b * 15 + (4 + t * 2 + ie_la (a1, a2, a3, a4) i) < 2 ^ 31 by omega), nI_clamp (show b * 15 + ie_vb (a1, a2, a3, a4) i < 2 ^ 31 by omega)]
  refine ⟨iR, nm_e ⟨iV, iR, nm_e ⟨iV, nm_e (F _ (by rw [h]; decide) (fun k hk => ?_) ?_)⟩⟩⟩
  · exact (ie_upd_lo hk).trans (ie_upd_lo hk)
  · rw [ie_mv_7 h, ie_sl_upd (by omega), ie_sl_upd (by omega), aR, aV]
end
section
/-! the places move on; descend -/
def ie_rem (P : ie_P) (c : ie_C) : Nat := (ie_sz P 0 - ie_pc c 0) + ((ie_sz P 1 - ie_pc c 1) + (ie_sz P 2 - ie_pc c 2))
theorem ie_pc_stp {P : ie_P} {c : ie_C} {t : Nat} (hP : ie_wfP P) (hc : ie_wf P c) (ht : t < 3) (hh : ie_has P c t = true) : ie_stp P c t (10 + t) = nI (ie_pc c t + 1) ∧ ie_pc (ie_stp P c t) t = ie_pc c t + 1 := by
  have h1 : ie_pc c t < ie_sz P t := of_decide_eq_true hh
  have h2 := (hP t ht).2
  have la := ie_la_lt P (ie_ix c t)
  have e : ie_stp P c t (10 + t) = nI (ie_pc c t + 1) := by
    unfold ie_stp
    rw [ie_mv_fr (by omega) (fun g => ie_own_sh ht (ie_own_p t) g.1)]
    unfold ie_inc
    rw [pk_us, (hc t ht).1, nI_1]
  refine ⟨e, ?_⟩
  have e2 : ie_pc (ie_stp P c t) t = (ie_stp P c t (10 + t)).toNatClampNeg := rfl
  rw [e2, e, nI_clamp (by omega)]
theorem ie_pc_oth {P : ie_P} {c : ie_C} {t u : Nat} (ht : t < 3) (hu : u < 3) (n : u ≠ t) : ie_stp P c t (10 + u) = c (10 + u) :=
  ie_stp_fr (ie_own_ne hu ht n (ie_own_p u)) (fun g => ie_own_sh hu (ie_own_p u) g.1)
theorem ie_pc_oth' {P : ie_P} {c : ie_C} {t u : Nat} (ht : t < 3) (hu : u < 3) (n : u ≠ t) : ie_pc (ie_stp P c t) u = ie_pc c u := by
  unfold ie_pc
  rw [ie_pc_oth ht hu n]
theorem ie_wf_stp {P : ie_P} {c : ie_C} {t : Nat} (hP : ie_wfP P) (hc : ie_wf P c) (ht : t < 3) (hh : ie_has P c t = true) : ie_wf P (ie_stp P c t) := by
  have h1 : ie_pc c t < ie_sz P t := of_decide_eq_true hh
  obtain ⟨e1, e2⟩ := ie_pc_stp hP hc ht hh
  intro u hu
  by_cases n : u = t
  · rw [n, e1, e2]
    exact ⟨rfl, h1⟩
  · rw [ie_pc_oth ht hu n, ie_pc_oth' ht hu n]
    exact hc u hu
theorem ie_rem_stp {P : ie_P} {c : ie_C} {t : Nat} (hP : ie_wfP P) (hc : ie_wf P c) (ht : t < 3) (hh : ie_has P c t = true) : ie_rem P (ie_stp P c t) + 1 = ie_rem P c := by
  have h1 : ie_pc c t < ie_sz P t := of_decide_eq_true hh
  obtain ⟨_, e2⟩ := ie_pc_stp hP hc ht hh
  unfold ie_rem
  have h3 : t = 0 ∨ t = 1 ∨ t = 2 := by omega
  rcases h3 with e | e | e <;> subst e
  · rw [e2, ie_pc_oth' (u := 1) ht (by omega) (by omega), ie_pc_oth' (u := 2) ht (by omega) (by omega)]
    omega
  · rw [e2, ie_pc_oth' (u := 0) ht (by omega) (by omega), ie_pc_oth' (u := 2) ht (by omega) (by omega)]
    omega
  · rw [e2, ie_pc_oth' (u := 0) ht (by omega) (by omega), ie_pc_oth' (u := 1) ht (by omega) (by omega)]
    omega
theorem ie_go_has {P : ie_P} {c : ie_C} {t : Nat} (h : ie_go P c t = true) : ie_has P c t = true := ((Bool.and_eq_true _ _).mp h).1
theorem ie_w_53 {post : Int32 → St1 → Prop} {rd cm st fa df lv lx lw ly se : Int32} {a1 a2 a3 a4 a5 a6 a7 a8 a9 a10 a11 a12 : Nat → Int32} {l t V W : Nat} {E : List ie_E} {Z : Nat → Bool} (hP : ie_wfP (a1, a2, a3, a4)) (hc : ie_wf (a1, a2, a3, a4) (ie_sl a6 l)) (hl : l + 1 < 12) (ht : t < 3)
    (hV : V < 10) (hW : W < 10) (elv : lv = nI V) (elw : lw = nI W) (hh : ie_has (a1, a2, a3, a4) (ie_sl a6 l) t = true) (hz : a7 (l + 1) = ie_msk Z) (hr : ie_res E cm st fa df V W lx ly se a11 a12)
    (H0 : ie_bad (a1, a2, a3, a4) (ie_sl a6 l) t = true → ∀ (a : Nat → Int32) (fa' : Int32), (∀ k, k < (l + 1) * 15 → a k = a6 k) → ie_res (E ++ [(2 + t, ie_sl a6 l)]) cm st fa' df V W lx ly se a11 a12 → post (nI l) (rd, cm, st, fa', df, lv, lx, lw, ly, se, a1, a2, a3, a4, a5, a, a7, a8, a9, a10, a11, a12))
    (H1 : ie_bad (a1, a2, a3, a4) (ie_sl a6 l) t = false → ∀ (a : Nat → Int32) (cm' st' df' se' : Int32) (b10 b11 b12 : Nat → Int32), (∀ k, k < (l + 1) * 15 → a k = a6 k) → ie_sl a (l + 1) = ie_stp (a1, a2, a3, a4) (ie_sl a6 l) t →
      ie_res (E ++ ie_head (a1, a2, a3, a4) (ie_stp (a1, a2, a3, a4) (ie_sl a6 l) t)) cm' st' fa df' V W lx ly se' b11 b12 →
      post (nI (l + 1)) (rd, cm', st', fa, df', lv, lx, lw, ly, se', a1, a2, a3, a4, a5, a, a7, upd a8 (l + 1) (ie_msk (fun u => ie_go (a1, a2, a3, a4) (ie_stp (a1, a2, a3, a4) (ie_sl a6 l) t) u && !Z u)), upd a9 (l + 1) 0, b10, b11, b12)) :
    ∃ n, wX_descend_53 post (nI l) (nI t) (nI (l + 1)) (nI (ie_ix (ie_sl a6 l) t)) rd cm st fa df lv lx lw ly se n 0 a1 a2 a3 a4 a5 a6 a7 a8 a9 a10 a11 a12 := by
  refine pk_loop (σ := Nat → Int32) (fun n i s => wX_descend_53 post (nI l) (nI t) (nI (l + 1)) (nI (ie_ix (ie_sl a6 l) t)) rd cm st fa df lv lx lw ly se n (nI i) a1 a2 a3 a4 a5 s a7 a8 a9 a10 a11 a12)
    (fun i s => (∀ k, k < (l + 1) * 15 → s k = a6 k) ∧ (∀ k, k < i → s ((l + 1) * 15 + k) = a6 (l * 15 + k))) 15 0 a6 (by omega)
    ⟨fun k _ => rfl, fun k hk => absurd hk (by omega)⟩ ?_ ?_
  · intro n s h
    obtain ⟨h1, h2⟩ := h
    have es : ie_sl s (l + 1) = ie_sl a6 l := by
      funext k
      unfold ie_sl
      by_cases hk : k < 15
      · rw [if_pos hk, if_pos hk, h2 k hk]
      · rw [if_neg hk, if_neg hk]
    refine pk_le 15 15 (fun _ => ?_) (fun z => absurd z (by omega))
    refine ie_w_perf hl ht (ie_ix_lt hP ht hh) (fun hb a f1 f2 => ?_) (fun hb a f1 => ?_)
    · rw [es] at hb f2
      have f2' : ie_sl a (l + 1) = ie_stp (a1, a2, a3, a4) (ie_sl a6 l) t := f2
      refine br_f (by decide) (ie_w_open (V := V) (W := W) (E := E) (Z := Z) hP (by rw [f2']; exact ie_wf_stp hP hc ht hh) hl hV hW elv elw hz hr (fun cm' st' df' se' b10 b11 b12 q => ?_))
      rw [f2'] at q ⊢
      exact H1 hb a cm' st' df' se' b10 b11 b12 (fun k hk => by rw [f1 k hk, h1 k hk]) f2' q
    · rw [es] at hb
      exact br_t rfl (nm_e (H0 hb a _ (fun k hk => by rw [f1 k hk, h1 k hk]) (ie_res_fail _ ht hr)))
  · intro n i s hi h hw
    obtain ⟨h1, h2⟩ := h
    have e1 : nI l * 15 + nI i = nI (l * 15 + i) := ie_i15 l i
    have e2 : nI (l + 1) * 15 + nI i = nI ((l + 1) * 15 + i) := ie_i15 (l + 1) i
    refine pk_le 15 i (fun z => absurd z (by omega)) (fun _ => ⟨pk_in _ 180 (by omega) e1, pk_in _ 180 (by omega) e2, nm_e (nm_r (nI_1 i) (hw _ ?_))⟩)
    rw [pk_cl _ e1 (by omega), pk_cl _ e2 (by omega)]
    refine ⟨fun k hk => ?_, fun k hk => ?_⟩
    · rw [pk_un (by omega), h1 k hk]
    · by_cases e : k = i
      · rw [e, pk_us, h1 _ (by omega)]
      · rw [pk_un (by omega), h2 k (by omega)]
theorem ie_w_desc {post : Int32 → St1 → Prop} {rd cm st fa df lv lx lw ly se : Int32} {a1 a2 a3 a4 a5 a6 a7 a8 a9 a10 a11 a12 : Nat → Int32} {l t V W : Nat} {E : List ie_E} {Z T Q : Nat → Bool} (hP : ie_wfP (a1, a2, a3, a4)) (hc : ie_wf (a1, a2, a3, a4) (ie_sl a6 l)) (hl : l + 1 < 12) (ht : t < 3)
    (hV : V < 10) (hW : W < 10) (elv : lv = nI V) (elw : lw = nI W) (hh : ie_has (a1, a2, a3, a4) (ie_sl a6 l) t = true) (hz : a7 l = ie_msk Z) (hT : a9 l = ie_msk T) (hQ : a8 l = ie_msk Q) (hr : ie_res E cm st fa df V W lx ly se a11 a12)
    (H0 : ie_bad (a1, a2, a3, a4) (ie_sl a6 l) t = true → ∀ (a : Nat → Int32) (fa' : Int32), (∀ k, k < (l + 1) * 15 → a k = a6 k) → ie_res (E ++ [(2 + t, ie_sl a6 l)]) cm st fa' df V W lx ly se a11 a12 →
      post (nI l) (rd, cm, st, fa', df, lv, lx, lw, ly, se, a1, a2, a3, a4, a5, a, upd a7 (l + 1) (ie_msk (ie_cnd (a1, a2, a3, a4) (ie_sl a6 l) Z T t)), upd a8 l (ie_msk (fun u => Q u && !decide (u = t))), upd a9 l (ie_msk (fun u => T u || decide (u = t))), a10, a11, a12))
    (H1 : ie_bad (a1, a2, a3, a4) (ie_sl a6 l) t = false → ∀ (a : Nat → Int32) (cm' st' df' se' : Int32) (b10 b11 b12 : Nat → Int32), (∀ k, k < (l + 1) * 15 → a k = a6 k) → ie_sl a (l + 1) = ie_stp (a1, a2, a3, a4) (ie_sl a6 l) t →
      ie_res (E ++ ie_head (a1, a2, a3, a4) (ie_stp (a1, a2, a3, a4) (ie_sl a6 l) t)) cm' st' fa df' V W lx ly se' b11 b12 →
      post (nI (l + 1)) (rd, cm', st', fa, df', lv, lx, lw, ly, se', a1, a2, a3, a4, a5, a, upd a7 (l + 1) (ie_msk (ie_cnd (a1, a2, a3, a4) (ie_sl a6 l) Z T t)), upd (upd a8 l (ie_msk (fun u => Q u && !decide (u = t)))) (l + 1) (ie_msk (fun u => ie_go (a1, a2, a3, a4) (ie_stp (a1, a2, a3, a4) (ie_sl a6 l) t) u && !ie_cnd (a1, a2, a3, a4) (ie_sl a6 l) Z T t u)), upd (upd a9 l (ie_msk (fun u => T u || decide (u = t)))) (l + 1) 0, b10, b11, b12)) :
    wpX_descend post (rd, cm, st, fa, df, lv, lx, lw, ly, se, a1, a2, a3, a4, a5, a6, a7, a8, a9, a10, a11, a12) (nI l) (nI t) := by
  unfold wpX_descend
  refine nm_r (nI_1 l) (ie_w_slp hP hc (by omega) ht hh hz hT ⟨pk_in (l + 1) 12 hl, ?_⟩)
  rw [nI_clamp (show l + 1 < 2 ^ 31 by omega), nI_clamp (show l < 2 ^ 31 by omega), hT, hQ, ie_msk_one ht, ie_msk_or, ie_msk_an]
  have il : vp_in (nI l) 12 := pk_in l 12 (by omega)
  refine nm_e ⟨il, il, nm_e ⟨il, il, nm_e ?_⟩⟩
  refine ie_w_next hP hc (by omega) ht (fun _ => ?_) (fun q => absurd q (by rw [hh]; decide))
  exact ie_w_53 (V := V) (W := W) (E := E) (Z := ie_cnd (a1, a2, a3, a4) (ie_sl a6 l) Z T t) hP hc hl ht hV hW elv elw hh pk_us hr H0 H1
end
section
/-! the search's loop walks the tree -/
def ie_kids (P : ie_P) : Nat → ie_C → (Nat → Bool) → List ie_E
  | 0 => fun _ _ => []
  | n + 1 => fun c Z => ie_vis P (ie_dfs P n) c Z 0 ++ (ie_vis P (ie_dfs P n) c Z 1 ++ ie_vis P (ie_dfs P n) c Z 2)
theorem ie_dfs_kids {P : ie_P} {n : Nat} (h : 0 < n) (c : ie_C) (Z : Nat → Bool) : ie_dfs P n c Z = ie_head P c ++ ie_kids P n c Z := by
  cases n with
  | zero => exact absurd h (by omega)
  | succ n => rfl
def ie_fr (l : Nat) (a6 a7 a8 a9 b6 b7 b8 b9 : Nat → Int32) : Prop := (∀ k, k < (l + 1) * 15 → b6 k = a6 k) ∧ (∀ k, k < l + 1 → b7 k = a7 k) ∧ (∀ k, k < l → b8 k = a8 k) ∧ (∀ k, k < l → b9 k = a9 k)
theorem ie_fr_rf (l : Nat) (a6 a7 a8 a9 : Nat → Int32) : ie_fr l a6 a7 a8 a9 a6 a7 a8 a9 := ⟨fun _ _ => rfl, fun _ _ => rfl, fun _ _ => rfl, fun _ _ => rfl⟩
theorem ie_fr_tr {l : Nat} {a6 a7 a8 a9 b6 b7 b8 b9 c6 c7 c8 c9 : Nat → Int32} (h : ie_fr l a6 a7 a8 a9 b6 b7 b8 b9) (g : ie_fr l b6 b7 b8 b9 c6 c7 c8 c9) : ie_fr l a6 a7 a8 a9 c6 c7 c8 c9 :=
  ⟨fun k hk => by rw [g.1 k hk, h.1 k hk], fun k hk => by rw [g.2.1 k hk, h.2.1 k hk], fun k hk => by rw [g.2.2.1 k hk, h.2.2.1 k hk], fun k hk => by rw [g.2.2.2 k hk, h.2.2.2 k hk]⟩
def ie_ph (P : ie_P) (c : ie_C) (Z : Nat → Bool) (j t : Nat) : Bool := decide (j ≤ t) && (ie_go P c t && !Z t)
def ie_pt (P : ie_P) (c : ie_C) (Z : Nat → Bool) (j t : Nat) : Bool := decide (t < j) && (ie_go P c t && !Z t)
def ie_at (P : ie_P) (l : Nat) (c : ie_C) (Z : Nat → Bool) (j : Nat) (a6 a7 a8 a9 : Nat → Int32) : Prop :=
  ie_sl a6 l = c ∧ a7 l = ie_msk Z ∧ a8 l = ie_msk (ie_ph P c Z j) ∧ a9 l = ie_msk (ie_pt P c Z j)
theorem ie_d_low : ∀ a b c : Bool, ((nI (a.toNat + (2 * b.toNat + 4 * c.toNat)) &&& 1) = 1 ↔ a = true) ∧ ((nI (a.toNat + (2 * b.toNat + 4 * c.toNat)) &&& 2) = 2 ↔ b = true) := by decide +kernel
theorem ie_w_low {post : Int32 → Prop} {S : Nat → Bool} {j : Nat} (hj : j < 3) (h1 : S j = true) (h0 : ∀ u, u < j → S u = false) (H : post (nI j)) : wpX_lowest post () (ie_msk S) := by
  unfold wpX_lowest
  have q := ie_d_low (S 0) (S 1) (S 2)
  have h3 : j = 0 ∨ j = 1 ∨ j = 2 := by omega
  rcases h3 with e | e | e <;> subst e
  · exact br_t (q.1.mpr h1) H
  · exact br_f (fun z => by have := q.1.mp z; rw [h0 0 (by omega)] at this; exact absurd this (by decide)) (br_t (q.2.mpr h1) H)
  · exact br_f (fun z => by have := q.1.mp z; rw [h0 0 (by omega)] at this; exact absurd this (by decide)) (br_f (fun z => by have := q.2.mp z; rw [h0 1 (by omega)] at this; exact absurd this (by decide)) H)
theorem ie_w_low0 {post : Int32 → Prop} {x : Int32} (H : ∀ r, post r) : wpX_lowest post () x := br_c (fun _ => H _) (fun _ => br_c (fun _ => H _) (fun _ => H _))
def ie_TR (a1 a2 a3 a4 a5 : Nat → Int32) (rd lv lx lw ly : Int32) (V W : Nat) (post : St1 → Prop) (n : Nat) : Prop :=
  ∀ (l x F : Nat) (c : ie_C) (Z : Nat → Bool) (E : List ie_E) (cm st fa df se : Int32) (a6 a7 a8 a9 a10 a11 a12 : Nat → Int32),
    ie_wf (a1, a2, a3, a4) c → ie_rem (a1, a2, a3, a4) c < n → l + n ≤ 12 → x + ie_cost (a1, a2, a3, a4) n c Z ≤ 200000 → ie_at (a1, a2, a3, a4) l c Z 0 a6 a7 a8 a9 → ie_res E cm st fa df V W lx ly se a11 a12 →
    (∀ (cm' st' fa' df' se' : Int32) (b6 b7 b8 b9 b10 b11 b12 : Nat → Int32), ie_fr l a6 a7 a8 a9 b6 b7 b8 b9 → ie_res (E ++ ie_kids (a1, a2, a3, a4) n c Z) cm' st' fa' df' V W lx ly se' b11 b12 →
      wX_search_51 post F (nI l + (-1)) (nI (x + ie_cost (a1, a2, a3, a4) n c Z)) rd cm' st' fa' df' lv lx lw ly se' a1 a2 a3 a4 a5 b6 b7 b8 b9 b10 b11 b12) →
    wX_search_51 post (F + ie_cost (a1, a2, a3, a4) n c Z) (nI l) (nI x) rd cm st fa df lv lx lw ly se a1 a2 a3 a4 a5 a6 a7 a8 a9 a10 a11 a12
/-- one turn of the loop at a thread that is to be tried -/
theorem ie_turn {post : St1 → Prop} {rd cm st fa df lv lx lw ly se : Int32} {a1 a2 a3 a4 a5 a6 a7 a8 a9 a10 a11 a12 : Nat → Int32} {l x n j V W : Nat} {c : ie_C} {Z : Nat → Bool} {E : List ie_E} (hP : ie_wfP (a1, a2, a3, a4)) (hV : V < 10) (hW : W < 10) (elv : lv = nI V) (elw : lw = nI W)
    (hc : ie_wf (a1, a2, a3, a4) c) (hl : l + 1 < 12) (hx : x < 200000) (hj : j < 3) (ha : ie_at (a1, a2, a3, a4) l c Z j a6 a7 a8 a9) (hr : ie_res E cm st fa df V W lx ly se a11 a12) (hg : ie_go (a1, a2, a3, a4) c j = true) (hz : Z j = false)
    (H0 : ie_bad (a1, a2, a3, a4) c j = true → ∀ (fa' : Int32) (b6 b7 b8 b9 : Nat → Int32), ie_fr l a6 a7 a8 a9 b6 b7 b8 b9 → ie_at (a1, a2, a3, a4) l c Z (j + 1) b6 b7 b8 b9 → ie_res (E ++ [(2 + j, c)]) cm st fa' df V W lx ly se a11 a12 →
      wX_search_51 post n (nI l) (nI (x + 1)) rd cm st fa' df lv lx lw ly se a1 a2 a3 a4 a5 b6 b7 b8 b9 a10 a11 a12)
    (H1 : ie_bad (a1, a2, a3, a4) c j = false → ∀ (cm' st' df' se' : Int32) (b6 b7 b8 b9 b10 b11 b12 : Nat → Int32), ie_fr l a6 a7 a8 a9 b6 b7 b8 b9 → ie_at (a1, a2, a3, a4) l c Z (j + 1) b6 b7 b8 b9 → ie_at (a1, a2, a3, a4) (l + 1) (ie_stp (a1, a2, a3, a4) c j) (ie_slp (a1, a2, a3, a4) c Z j) 0 b6 b7 b8 b9 →
      ie_res (E ++ ie_head (a1, a2, a3, a4) (ie_stp (a1, a2, a3, a4) c j)) cm' st' fa df' V W lx ly se' b11 b12 →
      wX_search_51 post n (nI (l + 1)) (nI (x + 1)) rd cm' st' fa df' lv lx lw ly se' a1 a2 a3 a4 a5 b6 b7 b8 b9 b10 b11 b12) :
    wX_search_51 post (n + 1) (nI l) (nI x) rd cm st fa df lv lx lw ly se a1 a2 a3 a4 a5 a6 a7 a8 a9 a10 a11 a12 := by
  obtain ⟨s1, s2, s3, s4⟩ := ha
  subst s1
  have hh := ie_go_has hg
  have pj : ie_ph (a1, a2, a3, a4) (ie_sl a6 l) Z j j = true := by
    unfold ie_ph
    rw [hg, hz, decide_eq_true (Nat.le_refl j)]
    rfl
  have pl : ∀ u, u < j → ie_ph (a1, a2, a3, a4) (ie_sl a6 l) Z j u = false := by
    intro u hu
    unfold ie_ph
    rw [decide_eq_false (by omega)]
    rfl
  have e8 : ∀ u, u < 3 → (ie_ph (a1, a2, a3, a4) (ie_sl a6 l) Z j u && !decide (u = j)) = ie_ph (a1, a2, a3, a4) (ie_sl a6 l) Z (j + 1) u := by
    intro u _
    unfold ie_ph
    by_cases e : u = j
    · rw [decide_eq_true e, decide_eq_false (show ¬ j + 1 ≤ u by omega), Bool.not_true, Bool.and_false, Bool.false_and]
    · rw [decide_eq_false e, Bool.not_false, Bool.and_true]
      by_cases q : j ≤ u
      · rw [decide_eq_true q, decide_eq_true (show j + 1 ≤ u by omega)]
      · rw [decide_eq_false q, decide_eq_false (show ¬ j + 1 ≤ u by omega)]
  have e9 : ∀ u, u < 3 → (ie_pt (a1, a2, a3, a4) (ie_sl a6 l) Z j u || decide (u = j)) = ie_pt (a1, a2, a3, a4) (ie_sl a6 l) Z (j + 1) u := by
    intro u _
    unfold ie_pt
    by_cases e : u = j
    · rw [e, hg, hz, decide_eq_true (rfl : j = j), decide_eq_true (show j < j + 1 by omega), Bool.or_true]
      rfl
    · rw [decide_eq_false e, Bool.or_false]
      by_cases q : u < j
      · rw [decide_eq_true q, decide_eq_true (show u < j + 1 by omega)]
      · rw [decide_eq_false q, decide_eq_false (show ¬ u < j + 1 by omega)]
  have e7 : ∀ u, u < 3 → ie_cnd (a1, a2, a3, a4) (ie_sl a6 l) Z (ie_pt (a1, a2, a3, a4) (ie_sl a6 l) Z j) j u = ie_slp (a1, a2, a3, a4) (ie_sl a6 l) Z j u := by
    intro u _
    unfold ie_cnd ie_slp ie_pt
    cases Z u <;> simp
  have m7 : ie_msk (ie_cnd (a1, a2, a3, a4) (ie_sl a6 l) Z (ie_pt (a1, a2, a3, a4) (ie_sl a6 l) Z j) j) = ie_msk (ie_slp (a1, a2, a3, a4) (ie_sl a6 l) Z j) := ie_msk_c e7
  have m8 := ie_msk_c e8
  have m9 := ie_msk_c e9
  have n0 : ¬ ie_msk (ie_ph (a1, a2, a3, a4) (ie_sl a6 l) Z j) = 0 := by
    intro z
    have z' := (ie_msk_0 _).mp z
    have h3 : j = 0 ∨ j = 1 ∨ j = 2 := by omega
    rcases h3 with e | e | e <;> subst e <;> rw [pj] at z' <;> simp at z'
  refine pk_le 200000 x (fun z => absurd z (by omega)) (fun _ => br_f (nI_pos (by omega)) ⟨pk_in l 12 (by omega), ?_⟩)
  rw [nI_clamp (show l < 2 ^ 31 by omega)]
  refine nm_r s3 (ie_w_low hj pj pl (br_f n0 ?_))
  refine ie_w_desc (V := V) (W := W) (E := E) hP hc hl hj hV hW elv elw hh s2 s4 s3 hr (fun hb a fa' f q => nm_r (nI_1 x) ?_) (fun hb a cm' st' df' se' b10 b11 b12 f e q => nm_r (nI_1 x) ?_)
  · refine H0 hb fa' _ _ _ _ ⟨f, fun k hk => pk_un (by omega), fun k hk => pk_un (by omega), fun k hk => pk_un (by omega)⟩ ⟨ie_sl_eq f, ?_, ?_, ?_⟩ q
    · rw [pk_un (by omega)]
      exact s2
    · rw [pk_us]
      exact m8
    · rw [pk_us]
      exact m9
  · refine H1 hb cm' st' df' se' _ _ _ _ _ _ _ ⟨f, fun k hk => pk_un (by omega), fun k hk => ?_, fun k hk => ?_⟩ ⟨ie_sl_eq f, ?_, ?_, ?_⟩ ⟨e, ?_, ?_, ?_⟩ q
    · rw [pk_un (by omega), pk_un (by omega)]
    · rw [pk_un (by omega), pk_un (by omega)]
    · rw [pk_un (by omega)]
      exact s2
    · rw [pk_un (by omega), pk_us]
      exact m8
    · rw [pk_un (by omega), pk_us]
      exact m9
    · rw [pk_us]
      exact m7
    · rw [pk_us]
      refine ie_msk_c (fun u hu => ?_)
      unfold ie_ph
      rw [e7 u hu, decide_eq_true (Nat.zero_le u), Bool.true_and]
    · rw [pk_us]
      refine (ie_msk_c (S := ie_pt (a1, a2, a3, a4) (ie_stp (a1, a2, a3, a4) (ie_sl a6 l) j) (ie_slp (a1, a2, a3, a4) (ie_sl a6 l) Z j) 0) (T := fun _ => false) (fun u _ => ?_)).symm
      unfold ie_pt
      rw [decide_eq_false (show ¬ u < 0 by omega)]
      rfl
theorem ie_visit {post : St1 → Prop} {rd cm st fa df lv lx lw ly se : Int32} {a1 a2 a3 a4 a5 a6 a7 a8 a9 a10 a11 a12 : Nat → Int32} {l x n j V W F : Nat} {c : ie_C} {Z : Nat → Bool} {E : List ie_E} (hP : ie_wfP (a1, a2, a3, a4)) (hV : V < 10) (hW : W < 10) (elv : lv = nI V) (elw : lw = nI W)
    (IH : ie_TR a1 a2 a3 a4 a5 rd lv lx lw ly V W post n) (hc : ie_wf (a1, a2, a3, a4) c) (hm : ie_rem (a1, a2, a3, a4) c < n + 1) (hl : l + (n + 1) ≤ 12) (hx : x + ie_cv (a1, a2, a3, a4) (ie_cost (a1, a2, a3, a4) n) c Z j ≤ 200000) (hj : j < 3)
    (ha : ie_at (a1, a2, a3, a4) l c Z j a6 a7 a8 a9) (hr : ie_res E cm st fa df V W lx ly se a11 a12)
    (K : ∀ (cm' st' fa' df' se' : Int32) (b6 b7 b8 b9 b10 b11 b12 : Nat → Int32), ie_fr l a6 a7 a8 a9 b6 b7 b8 b9 → ie_at (a1, a2, a3, a4) l c Z (j + 1) b6 b7 b8 b9 → ie_res (E ++ ie_vis (a1, a2, a3, a4) (ie_dfs (a1, a2, a3, a4) n) c Z j) cm' st' fa' df' V W lx ly se' b11 b12 →
      wX_search_51 post F (nI l) (nI (x + ie_cv (a1, a2, a3, a4) (ie_cost (a1, a2, a3, a4) n) c Z j)) rd cm' st' fa' df' lv lx lw ly se' a1 a2 a3 a4 a5 b6 b7 b8 b9 b10 b11 b12) :
    wX_search_51 post (F + ie_cv (a1, a2, a3, a4) (ie_cost (a1, a2, a3, a4) n) c Z j) (nI l) (nI x) rd cm st fa df lv lx lw ly se a1 a2 a3 a4 a5 a6 a7 a8 a9 a10 a11 a12 := by
  by_cases h : ie_go (a1, a2, a3, a4) c j = true ∧ Z j = false
  · obtain ⟨hg, hz⟩ := h
    have hh := ie_go_has hg
    have hrem := ie_rem_stp hP hc hj hh
    have hl' : l + 1 < 12 := by omega
    cases hb : ie_bad (a1, a2, a3, a4) c j with
    | true =>
      have ev : ie_vis (a1, a2, a3, a4) (ie_dfs (a1, a2, a3, a4) n) c Z j = [(2 + j, c)] := by
        unfold ie_vis
        rw [if_pos ⟨hg, hz⟩, if_pos hb]
      have ec : ie_cv (a1, a2, a3, a4) (ie_cost (a1, a2, a3, a4) n) c Z j = 1 := by
        unfold ie_cv
        rw [if_pos ⟨hg, hz⟩, if_pos hb]
      rw [ev, ec] at K
      rw [ec] at hx ⊢
      refine ie_turn hP hV hW elv elw hc hl' (by omega) hj ha hr hg hz (fun _ fa' b6 b7 b8 b9 f1 f2 f3 => K cm st fa' df se b6 b7 b8 b9 a10 a11 a12 f1 f2 f3) (fun q => absurd q (by rw [hb]; decide))
    | false =>
      have ev : ie_vis (a1, a2, a3, a4) (ie_dfs (a1, a2, a3, a4) n) c Z j = ie_head (a1, a2, a3, a4) (ie_stp (a1, a2, a3, a4) c j) ++ ie_kids (a1, a2, a3, a4) n (ie_stp (a1, a2, a3, a4) c j) (ie_slp (a1, a2, a3, a4) c Z j) := by
        unfold ie_vis
        rw [if_pos ⟨hg, hz⟩, if_neg (by rw [hb]; decide)]
        exact ie_dfs_kids (by omega) _ _
      have ec : ie_cv (a1, a2, a3, a4) (ie_cost (a1, a2, a3, a4) n) c Z j = 1 + ie_cost (a1, a2, a3, a4) n (ie_stp (a1, a2, a3, a4) c j) (ie_slp (a1, a2, a3, a4) c Z j) := by
        unfold ie_cv
        rw [if_pos ⟨hg, hz⟩, if_neg (by rw [hb]; decide)]
      rw [ev, ec] at K
      rw [ec] at hx ⊢
      rw [← List.append_assoc] at K
      rw [show F + (1 + ie_cost (a1, a2, a3, a4) n (ie_stp (a1, a2, a3, a4) c j) (ie_slp (a1, a2, a3, a4) c Z j)) = (F + ie_cost (a1, a2, a3, a4) n (ie_stp (a1, a2, a3, a4) c j) (ie_slp (a1, a2, a3, a4) c Z j)) + 1 by omega]
      refine ie_turn hP hV hW elv elw hc hl' (by omega) hj ha hr hg hz (fun q => absurd q (by rw [hb]; decide)) (fun _ cm' st' df' se' b6 b7 b8 b9 b10 b11 b12 f1 f2 f3 f4 => ?_)
      refine IH (l + 1) (x + 1) F _ _ _ cm' st' fa df' se' b6 b7 b8 b9 b10 b11 b12 (ie_wf_stp hP hc hj hh) (by omega) (by omega) (by omega) f3 f4 (fun cm2 st2 fa2 df2 se2 d6 d7 d8 d9 d10 d11 d12 g1 g2 => ?_)
      rw [pk_m1, show x + 1 + ie_cost (a1, a2, a3, a4) n (ie_stp (a1, a2, a3, a4) c j) (ie_slp (a1, a2, a3, a4) c Z j) = x + (1 + ie_cost (a1, a2, a3, a4) n (ie_stp (a1, a2, a3, a4) c j) (ie_slp (a1, a2, a3, a4) c Z j)) by omega]
      have g' : ie_fr l b6 b7 b8 b9 d6 d7 d8 d9 := ⟨fun k hk => g1.1 k (by omega), fun k hk => g1.2.1 k (by omega), fun k hk => g1.2.2.1 k (by omega), fun k hk => g1.2.2.2 k (by omega)⟩
      refine K cm2 st2 fa2 df2 se2 d6 d7 d8 d9 d10 d11 d12 (ie_fr_tr f1 g') ⟨?_, ?_, ?_, ?_⟩ g2
      · rw [ie_sl_eq g'.1]
        exact f2.1
      · rw [g'.2.1 l (by omega)]
        exact f2.2.1
      · rw [g1.2.2.1 l (by omega)]
        exact f2.2.2.1
      · rw [g1.2.2.2 l (by omega)]
        exact f2.2.2.2
  · have ev : ie_vis (a1, a2, a3, a4) (ie_dfs (a1, a2, a3, a4) n) c Z j = [] := by
      unfold ie_vis
      rw [if_neg h]
    have ec : ie_cv (a1, a2, a3, a4) (ie_cost (a1, a2, a3, a4) n) c Z j = 0 := by
      unfold ie_cv
      rw [if_neg h]
    rw [ev, ec] at K
    rw [ec]
    rw [List.append_nil] at K
    have nj : (ie_go (a1, a2, a3, a4) c j && !Z j) = false := by
      cases q1 : ie_go (a1, a2, a3, a4) c j with
      | false => rfl
      | true =>
        cases q2 : Z j with
        | true => rfl
        | false => exact absurd ⟨q1, q2⟩ h
    refine K cm st fa df se a6 a7 a8 a9 a10 a11 a12 (ie_fr_rf l a6 a7 a8 a9) ⟨ha.1, ha.2.1, ?_, ?_⟩ hr
    · rw [ha.2.2.1]
      refine ie_msk_c (fun u _ => ?_)
      unfold ie_ph
      by_cases e : u = j
      · rw [e, nj, Bool.and_false, Bool.and_false]
      · by_cases q : j ≤ u
        · rw [decide_eq_true q, decide_eq_true (show j + 1 ≤ u by omega)]
        · rw [decide_eq_false q, decide_eq_false (show ¬ j + 1 ≤ u by omega)]
    · rw [ha.2.2.2]
      refine ie_msk_c (fun u _ => ?_)
      unfold ie_pt
      by_cases e : u = j
      · rw [e, nj, Bool.and_false, Bool.and_false]
      · by_cases q : u < j
        · rw [decide_eq_true q, decide_eq_true (show u < j + 1 by omega)]
        · rw [decide_eq_false q, decide_eq_false (show ¬ u < j + 1 by omega)]
theorem ie_pop {post : St1 → Prop} {rd cm st fa df lv lx lw ly se : Int32} {a1 a2 a3 a4 a5 a6 a7 a8 a9 a10 a11 a12 : Nat → Int32} {l x n : Nat} {c : ie_C} {Z : Nat → Bool} (hl : l < 12) (hx : x < 200000) (ha : ie_at (a1, a2, a3, a4) l c Z 3 a6 a7 a8 a9)
    (K : wX_search_51 post n (nI l + (-1)) (nI (x + 1)) rd cm st fa df lv lx lw ly se a1 a2 a3 a4 a5 a6 a7 a8 a9 a10 a11 a12) : wX_search_51 post (n + 1) (nI l) (nI x) rd cm st fa df lv lx lw ly se a1 a2 a3 a4 a5 a6 a7 a8 a9 a10 a11 a12 := by
  have z : a8 l = 0 := by
    rw [ha.2.2.1, ie_msk_0]
    unfold ie_ph
    rfl
  refine pk_le 200000 x (fun z => absurd z (by omega)) (fun _ => br_f (nI_pos (by omega)) ⟨pk_in l 12 hl, ?_⟩)
  rw [nI_clamp (show l < 2 ^ 31 by omega)]
  exact nm_r z (ie_w_low0 (fun r => br_t rfl (nm_e (nm_r (nI_1 x) K))))
theorem ie_tree {a1 a2 a3 a4 a5 : Nat → Int32} {rd lv lx lw ly : Int32} {V W : Nat} {post : St1 → Prop} (hP : ie_wfP (a1, a2, a3, a4)) (hV : V < 10) (hW : W < 10) (elv : lv = nI V) (elw : lw = nI W) :
    ∀ n, ie_TR a1 a2 a3 a4 a5 rd lv lx lw ly V W post n := by
  intro n
  induction n with
  | zero => intro l x F c Z E cm st fa df se a6 a7 a8 a9 a10 a11 a12 _ h; exact absurd h (by omega)
  | succ n IH =>
    intro l x F c Z E cm st fa df se a6 a7 a8 a9 a10 a11 a12 hc hm hl hx ha hr K
    have ec : ie_cost (a1, a2, a3, a4) (n + 1) c Z = ie_cv (a1, a2, a3, a4) (ie_cost (a1, a2, a3, a4) n) c Z 0 + (ie_cv (a1, a2, a3, a4) (ie_cost (a1, a2, a3, a4) n) c Z 1 + (ie_cv (a1, a2, a3, a4) (ie_cost (a1, a2, a3, a4) n) c Z 2 + 1)) := rfl
    have ek : ie_kids (a1, a2, a3, a4) (n + 1) c Z = ie_vis (a1, a2, a3, a4) (ie_dfs (a1, a2, a3, a4) n) c Z 0 ++ (ie_vis (a1, a2, a3, a4) (ie_dfs (a1, a2, a3, a4) n) c Z 1 ++ ie_vis (a1, a2, a3, a4) (ie_dfs (a1, a2, a3, a4) n) c Z 2) := rfl
    rw [ek, ← List.append_assoc, ← List.append_assoc] at K
    rw [ec] at hx K ⊢
    rw [show F + (ie_cv (a1, a2, a3, a4) (ie_cost (a1, a2, a3, a4) n) c Z 0 + (ie_cv (a1, a2, a3, a4) (ie_cost (a1, a2, a3, a4) n) c Z 1 + (ie_cv (a1, a2, a3, a4) (ie_cost (a1, a2, a3, a4) n) c Z 2 + 1))) = (((F + 1) + ie_cv (a1, a2, a3, a4) (ie_cost (a1, a2, a3, a4) n) c Z 2) + ie_cv (a1, a2, a3, a4) (ie_cost (a1, a2, a3, a4) n) c Z 1) + ie_cv (a1, a2, a3, a4) (ie_cost (a1, a2, a3, a4) n) c Z 0 by omega]
    refine ie_visit (j := 0) hP hV hW elv elw IH hc hm hl (by omega) (by omega) ha hr (fun cm1 st1 fa1 df1 se1 d6 d7 d8 d9 d10 d11 d12 f1 g1 r1 => ?_)
    refine ie_visit (j := 1) hP hV hW elv elw IH hc hm hl (by omega) (by omega) g1 r1 (fun cm2 st2 fa2 df2 se2 e6 e7 e8 e9 e10 e11 e12 f2 g2 r2 => ?_)
    refine ie_visit (j := 2) hP hV hW elv elw IH hc hm hl (by omega) (by omega) g2 r2 (fun cm3 st3 fa3 df3 se3 h6 h7 h8 h9 h10 h11 h12 f3 g3 r3 => ?_)
    refine ie_pop (by omega) (by omega) g3 ?_
    have w := K cm3 st3 fa3 df3 se3 h6 h7 h8 h9 h10 h11 h12 (ie_fr_tr f1 (ie_fr_tr f2 f3)) r3
    rw [show x + ie_cv (a1, a2, a3, a4) (ie_cost (a1, a2, a3, a4) n) c Z 0 + ie_cv (a1, a2, a3, a4) (ie_cost (a1, a2, a3, a4) n) c Z 1 + ie_cv (a1, a2, a3, a4) (ie_cost (a1, a2, a3, a4) n) c Z 2 + 1 = x + (ie_cv (a1, a2, a3, a4) (ie_cost (a1, a2, a3, a4) n) c Z 0 + (ie_cv (a1, a2, a3, a4) (ie_cost (a1, a2, a3, a4) n) c Z 1 + (ie_cv (a1, a2, a3, a4) (ie_cost (a1, a2, a3, a4) n) c Z 2 + 1))) by omega]
    exact w
end
section
/-! explore and the questions -/
def ie_c0 : ie_C := fun _ => 0
def ie_Z0 : Nat → Bool := fun _ => false
def ie_ev (P : ie_P) : List ie_E := ie_dfs P 8 ie_c0 ie_Z0
def ie_tot (P : ie_P) : Nat := ie_sz P 0 + (ie_sz P 1 + ie_sz P 2)
theorem ie_pc0 (t : Nat) : ie_pc ie_c0 t = 0 := sb_cl0
theorem ie_wf0 (P : ie_P) : ie_wf P ie_c0 := by
  intro t _
  rw [ie_pc0]
  exact ⟨rfl, Nat.zero_le _⟩
theorem ie_rem0 (P : ie_P) : ie_rem P ie_c0 = ie_tot P := by
  unfold ie_rem ie_tot
  rw [ie_pc0, ie_pc0, ie_pc0]
  rfl
theorem ie_res0 (V W : Nat) (x y : Int32) (a11 a12 : Nat → Int32) : ie_res [] 0 0 0 0 V W x y 0 a11 a12 := by
  refine ⟨Or.inl ⟨rfl, fun ⟨c, m⟩ => absurd m List.not_mem_nil⟩, Or.inl ⟨rfl, fun ⟨c, m⟩ => absurd m List.not_mem_nil⟩, Or.inl ⟨rfl, fun ⟨c, m, _⟩ => absurd m List.not_mem_nil⟩,
    ⟨fun _ => false, rfl, fun t _ => ⟨fun z => absurd z Bool.false_ne_true, fun ⟨c, m⟩ => absurd m List.not_mem_nil⟩⟩, fun k _ z => absurd z (by decide), fun _ => rfl⟩
theorem ie_B8 : ie_B 8 = 13120 := rfl
theorem ie_w_search {post : St1 → Prop} {rd cm st fa df lv lx lw ly se : Int32} {a1 a2 a3 a4 a5 a6 a7 a8 a9 a10 a11 a12 : Nat → Int32} {V W : Nat} (hP : ie_wfP (a1, a2, a3, a4)) (hs : ie_tot (a1, a2, a3, a4) ≤ 7) (h5 : ∀ k, k < 4 → a5 k = 0) (hV : V < 10) (hW : W < 10) (elv : lv = nI V) (elw : lw = nI W)
    (hr : ie_res [] cm st fa df V W lx ly se a11 a12)
    (H : ∀ (cm' st' fa' df' se' : Int32) (b6 b7 b8 b9 b10 b11 b12 : Nat → Int32), ie_res (ie_ev (a1, a2, a3, a4)) cm' st' fa' df' V W lx ly se' b11 b12 →
      post (rd, cm', st', fa', df', lv, lx, lw, ly, se', a1, a2, a3, a4, a5, b6, b7, b8, b9, b10, b11, b12)) :
    wpX_search post (rd, cm, st, fa, df, lv, lx, lw, ly, se, a1, a2, a3, a4, a5, a6, a7, a8, a9, a10, a11, a12) := by
  unfold wpX_search
  refine pk_loop (σ := Nat → Int32) (fun n i s => wX_search_2 post rd cm st fa df lv lx lw ly se n (nI i) a1 a2 a3 a4 a5 s a7 a8 a9 a10 a11 a12) (fun i s => ∀ k, k < i → s k = 0) 15 0 a6 (by omega) (fun k hk => absurd hk (by omega)) ?_ ?_
  · intro n s h
    have es : ie_sl s 0 = ie_c0 := by
      funext k
      unfold ie_sl ie_c0
      by_cases hk : k < 15
      · rw [if_pos hk]
        exact h _ (by omega)
      · rw [if_neg hk]
    refine pk_le 15 15 (fun _ => nm_e ?_) (fun z => absurd z (by omega))
    refine ie_w_open (l := 0) (V := V) (W := W) (E := []) (Z := ie_Z0) hP (by rw [es]; exact ie_wf0 _) (by omega) hV hW elv elw pk_us hr (fun cm' st' df' se' b10 b11 b12 q => ?_)
    rw [es] at q ⊢
    have cl := ie_cost_le (a1, a2, a3, a4) 8 ie_c0 ie_Z0
    rw [ie_B8] at cl
    refine ⟨1 + ie_cost (a1, a2, a3, a4) 8 ie_c0 ie_Z0, ?_⟩
    refine ie_tree hP hV hW elv elw 8 0 0 1 ie_c0 ie_Z0 _ cm' st' fa df' se' _ _ _ _ b10 b11 b12 (ie_wf0 _) (by rw [ie_rem0]; omega) (by omega) (by omega) ⟨es, pk_us, ?_, ?_⟩ q ?_
    · rw [pk_us]
      refine ie_msk_c (fun u _ => ?_)
      unfold ie_ph
      rw [decide_eq_true (Nat.zero_le u), Bool.true_and]
    · rw [pk_us]
      refine (ie_msk_c (S := ie_pt (a1, a2, a3, a4) ie_c0 ie_Z0 0) (T := fun _ => false) (fun u _ => ?_)).symm
      unfold ie_pt
      rw [decide_eq_false (show ¬ u < 0 by omega)]
      rfl
    · intro cm2 st2 fa2 df2 se2 d6 d7 d8 d9 d10 d11 d12 _ q2
      have q3 : ie_res (ie_ev (a1, a2, a3, a4)) cm2 st2 fa2 df2 V W lx ly se2 d11 d12 := by
        unfold ie_ev
        rw [ie_dfs_kids (by omega)]
        exact q2
      have fin := H cm2 st2 fa2 df2 se2 d6 d7 d8 d9 d10 d11 d12 q3
      exact pk_le 200000 (0 + ie_cost (a1, a2, a3, a4) 8 ie_c0 ie_Z0) (fun _ => fin) (fun _ => br_t (by decide) fin)
  · intro n i s hi h hw
    have up : ∀ x : Int32, x = 0 → ∀ k, k < i + 1 → upd s i x k = 0 := by
      intro x hx k hk
      by_cases e : k = i
      · rw [e, pk_us, hx]
      · rw [pk_un e]
        exact h k (by omega)
    refine pk_le 15 i (fun z => absurd z (by omega)) (fun _ => pk_le 4 i (fun z => ⟨pk_in i 180 (by omega), nm_e (nm_r (nI_1 i) (hw _ ?_))⟩) (fun z => ⟨pk_in i 4 z, pk_in i 180 (by omega), nm_e (nm_r (nI_1 i) (hw _ ?_))⟩))
    · rw [nI_clamp (show i < 2 ^ 31 by omega)]
      exact up 0 rfl
    · rw [nI_clamp (show i < 2 ^ 31 by omega)]
      exact up _ (h5 i z)
theorem ie_w_expl {post : St1 → Prop} {rd cm st fa df lv lx lw ly se : Int32} {a1 a2 a3 a4 a5 a6 a7 a8 a9 a10 a11 a12 : Nat → Int32} {V W : Nat} {x y : Int32} (hP : ie_wfP (a1, a2, a3, a4)) (hs : ie_tot (a1, a2, a3, a4) ≤ 7) (h5 : ∀ k, k < 4 → a5 k = 0) (hV : V < 10) (hW : W < 10)
    (H : ∀ (cm' st' fa' df' se' : Int32) (b6 b7 b8 b9 b10 b11 b12 : Nat → Int32), ie_res (ie_ev (a1, a2, a3, a4)) cm' st' fa' df' V W x y se' b11 b12 →
      post (1, cm', st', fa', df', nI V, x, nI W, y, se', a1, a2, a3, a4, a5, b6, b7, b8, b9, b10, b11, b12)) :
    wpX_explore post (rd, cm, st, fa, df, lv, lx, lw, ly, se, a1, a2, a3, a4, a5, a6, a7, a8, a9, a10, a11, a12) (nI V) x (nI W) y := by
  unfold wpX_explore
  exact ie_w_search hP hs h5 hV hW rfl rfl (ie_res0 V W x y a11 a12) (fun cm' st' fa' df' se' b6 b7 b8 b9 b10 b11 b12 q => H cm' st' fa' df' se' b6 b7 b8 b9 b10 b11 b12 q)
/-- an object that holds the program P -/
def ie_OK (P : ie_P) (u : St1) : Prop := match u with
  | (rd, cm, st, fa, df, lv, lx, lw, ly, se, a1, a2, a3, a4, a5, a6, a7, a8, a9, a10, a11, a12) => (a1, a2, a3, a4) = P ∧ (∀ k, k < 4 → a5 k = 0) ∧ (rd = 0 ∨ ∃ V W : Nat, ie_res (ie_ev P) cm st fa df V W lx ly se a11 a12)
theorem ie_w_prep {post : St1 → Prop} {rd cm st fa df lv lx lw ly se : Int32} {a1 a2 a3 a4 a5 a6 a7 a8 a9 a10 a11 a12 : Nat → Int32} {P : ie_P} (hP : ie_wfP P) (hs : ie_tot P ≤ 7) (hk : ie_OK P (rd, cm, st, fa, df, lv, lx, lw, ly, se, a1, a2, a3, a4, a5, a6, a7, a8, a9, a10, a11, a12))
    (H : ∀ (xrd xcm xst xfa xdf xlv xlx xlw xly xse : Int32) (xa1 xa2 xa3 xa4 xa5 xa6 xa7 xa8 xa9 xa10 xa11 xa12 : Nat → Int32) (V W : Nat), ie_OK P (xrd, xcm, xst, xfa, xdf, xlv, xlx, xlw, xly, xse, xa1, xa2, xa3, xa4, xa5, xa6, xa7, xa8, xa9, xa10, xa11, xa12) → ie_res (ie_ev P) xcm xst xfa xdf V W xlx xly xse xa11 xa12 → post (xrd, xcm, xst, xfa, xdf, xlv, xlx, xlw, xly, xse, xa1, xa2, xa3, xa4, xa5, xa6, xa7, xa8, xa9, xa10, xa11, xa12)) : wpX_prepare post (rd, cm, st, fa, df, lv, lx, lw, ly, se, a1, a2, a3, a4, a5, a6, a7, a8, a9, a10, a11, a12) := by
  obtain ⟨e, h5, h⟩ := hk
  unfold wpX_prepare
  refine br_c (fun z => ?_) (fun z => ?_)
  · subst e
    exact ie_w_expl (V := 0) (W := 0) hP hs h5 (by omega) (by omega) (fun cm' st' fa' df' se' b6 b7 b8 b9 b10 b11 b12 q => H _ _ _ _ _ _ _ _ _ _ _ _ _ _ _ _ _ _ _ _ _ _ 0 0 ⟨rfl, h5, Or.inr ⟨0, 0, q⟩⟩ q)
  · obtain ⟨V, W, q⟩ := h.resolve_left z
    exact H _ _ _ _ _ _ _ _ _ _ _ _ _ _ _ _ _ _ _ _ _ _ V W ⟨e, h5, Or.inr ⟨V, W, q⟩⟩ q
def ie_ends (P : ie_P) : Prop := ∃ c : ie_C, ((0, c) : ie_E) ∈ ie_ev P
def ie_stuck (P : ie_P) : Prop := ∃ c : ie_C, ((1, c) : ie_E) ∈ ie_ev P
def ie_fails (P : ie_P) (t : Nat) : Prop := ∃ c : ie_C, ((2 + t, c) : ie_E) ∈ ie_ev P
theorem ie_01 {A B : Prop} {x : Int32} (h : (x = 0 ∧ ¬ A) ∨ (x = 1 ∧ A)) (f : x = 0 → ¬ A → B) (g : x = 1 → A → B) : B := h.elim (fun q => f q.1 q.2) (fun q => g q.1 q.2)
theorem ie_nb0 : narrow .boolean (.int 0) = .int 0 := by rfl
theorem ie_nb1 : narrow .boolean (.int 1) = .int 1 := by rfl
theorem ie_w_settled {post : Int32 → St1 → Prop} {u : St1} {P : ie_P} (hP : ie_wfP P) (hs : ie_tot P ≤ 7) (hk : ie_OK P u)
    (H1 : ∀ v, ie_OK P v → ie_ends P → ¬ ie_stuck P → (∀ t, t < 3 → ¬ ie_fails P t) → post 1 v)
    (H0 : ∀ v, ie_OK P v → ((ie_ev P).length ≤ 1 → ie_ends P → ¬ ie_stuck P → ∃ t, t < 3 ∧ ie_fails P t) → post 0 v) : wpX_settled post u := by
  obtain ⟨urd, ucm, ust, ufa, udf, ulv, ulx, ulw, uly, use, ua1, ua2, ua3, ua4, ua5, ua6, ua7, ua8, ua9, ua10, ua11, ua12⟩ := u
  unfold wpX_settled
  refine ie_w_prep hP hs hk ?_
  intro xrd xcm xst xfa xdf xlv xlx xlw xly xse xa1 xa2 xa3 xa4 xa5 xa6 xa7 xa8 xa9 xa10 xa11 xa12 V W hk' q
  obtain ⟨q1, q2, q3, ⟨S, s1, s2⟩, q5, q6⟩ := q
  have n1 : ¬ (1 : Int32) = 0 := by decide
  refine ie_01 q1 (fun e n => br_t e (H0 _ hk' (fun _ z => absurd z n))) (fun e n => br_f (by rw [e]; exact n1) ?_)
  refine ie_01 q2 (fun e2 n2 => br_t e2 ?_) (fun e2 n2 => br_f (by rw [e2]; exact n1) (H0 _ hk' (fun _ _ z => absurd n2 z)))
  refine br_c (fun z => ?_) (fun z => H0 _ hk' (fun _ _ _ => ?_))
  · have z' := (ie_msk_0 S).mp (by rw [← s1]; exact z)
    have nf : ∀ t, t < 3 → ¬ ie_fails P t := by
      intro t ht g
      have g' := (s2 t ht).mpr g
      have h3 : t = 0 ∨ t = 1 ∨ t = 2 := by omega
      rcases h3 with e | e | e <;> subst e <;> rw [g'] at z' <;> simp at z'
    exact br_c (fun _ => H1 _ hk' n n2 nf) (fun w => H0 _ hk' (fun l _ _ => absurd (q6 l) w))
  · have z' : ¬ (S 0 || (S 1 || S 2)) = false := fun w => z (by rw [s1]; exact (ie_msk_0 S).mpr w)
    by_cases g0 : S 0 = true
    · exact ⟨0, by omega, (s2 0 (by omega)).mp g0⟩
    by_cases g1 : S 1 = true
    · exact ⟨1, by omega, (s2 1 (by omega)).mp g1⟩
    by_cases g2 : S 2 = true
    · exact ⟨2, by omega, (s2 2 (by omega)).mp g2⟩
    simp only [Bool.not_eq_true] at g0 g1 g2
    exact absurd (by rw [g0, g1, g2]; rfl) z'
theorem ie_w_stick {post : Int32 → St1 → Prop} {u : St1} {P : ie_P} (hP : ie_wfP P) (hs : ie_tot P ≤ 7) (hk : ie_OK P u)
    (H1 : ∀ v, ie_OK P v → ie_stuck P → post 1 v) (H0 : ∀ v, ie_OK P v → ¬ ie_stuck P → post 0 v) : wpX_canStick post u := by
  obtain ⟨urd, ucm, ust, ufa, udf, ulv, ulx, ulw, uly, use, ua1, ua2, ua3, ua4, ua5, ua6, ua7, ua8, ua9, ua10, ua11, ua12⟩ := u
  unfold wpX_canStick
  refine ie_w_prep hP hs hk ?_
  intro xrd xcm xst xfa xdf xlv xlx xlw xly xse xa1 xa2 xa3 xa4 xa5 xa6 xa7 xa8 xa9 xa10 xa11 xa12 V W hk' q
  refine ie_01 q.2.1 (fun e n => ?_) (fun e n => ?_) <;> subst e
  · exact ⟨ie_nb0, H0 _ hk' n⟩
  · exact ⟨ie_nb1, H1 _ hk' n⟩
theorem ie_w_compl {post : Int32 → St1 → Prop} {u : St1} {P : ie_P} (hP : ie_wfP P) (hs : ie_tot P ≤ 7) (hk : ie_OK P u)
    (H1 : ∀ v, ie_OK P v → ie_ends P → post 1 v) (H0 : ∀ v, ie_OK P v → ¬ ie_ends P → post 0 v) : wpX_canComplete post u := by
  obtain ⟨urd, ucm, ust, ufa, udf, ulv, ulx, ulw, uly, use, ua1, ua2, ua3, ua4, ua5, ua6, ua7, ua8, ua9, ua10, ua11, ua12⟩ := u
  unfold wpX_canComplete
  refine ie_w_prep hP hs hk ?_
  intro xrd xcm xst xfa xdf xlv xlx xlw xly xse xa1 xa2 xa3 xa4 xa5 xa6 xa7 xa8 xa9 xa10 xa11 xa12 V W hk' q
  refine ie_01 q.1 (fun e n => ?_) (fun e n => ?_) <;> subst e
  · exact ⟨ie_nb0, H0 _ hk' n⟩
  · exact ⟨ie_nb1, H1 _ hk' n⟩
theorem ie_w_bt {post : Int32 → Prop} {t : Nat} (ht : t < 3) (H : post 0) : wpX_badThread post () (nI t) :=
  br_f (nI_pos (by omega)) (br_t (nI_lt (b := 3) ht (by decide)) H)
theorem ie_w_bv {post : Int32 → Prop} {v : Nat} (hv : v < 4) (H : post 0) : wpX_badVariable post () (nI v) :=
  br_f (nI_pos (by omega)) (br_t (nI_le (b := 3) (by omega) (by decide)) H)
theorem ie_w_fail {post : Int32 → St1 → Prop} {u : St1} {P : ie_P} {t : Nat} (ht : t < 3) (hP : ie_wfP P) (hs : ie_tot P ≤ 7) (hk : ie_OK P u)
    (H1 : ∀ v, ie_OK P v → ie_fails P t → post 1 v) (H0 : ∀ v, ie_OK P v → ¬ ie_fails P t → post 0 v) : wpX_canFail post u (nI t) := by
  obtain ⟨urd, ucm, ust, ufa, udf, ulv, ulx, ulw, uly, use, ua1, ua2, ua3, ua4, ua5, ua6, ua7, ua8, ua9, ua10, ua11, ua12⟩ := u
  unfold wpX_canFail
  refine ie_w_bt ht (br_t rfl (ie_w_prep hP hs hk ?_))
  intro xrd xcm xst xfa xdf xlv xlx xlw xly xse xa1 xa2 xa3 xa4 xa5 xa6 xa7 xa8 xa9 xa10 xa11 xa12 V W hk' q
  obtain ⟨_, _, _, ⟨S, s1, s2⟩, _, _⟩ := q
  subst s1
  exact ek_if (ie_msk_bit S ht) (fun z => H1 _ hk' ((s2 t ht).mp z)) (fun z => H0 _ hk' (fun w => z ((s2 t ht).mpr w)))
theorem ie_w_end2 {post : Int32 → St1 → Prop} {u : St1} {P : ie_P} {v w : Nat} {x y : Int32} (hv : v < 4) (hw : w < 4) (hP : ie_wfP P) (hs : ie_tot P ≤ 7) (hk : ie_OK P u)
    (H1 : ∀ v', ie_OK P v' → (∃ c : ie_C, ((0, c) : ie_E) ∈ ie_ev P ∧ c v = x ∧ c w = y) → post 1 v') (H0 : ∀ v', ie_OK P v' → (¬ ∃ c : ie_C, ((0, c) : ie_E) ∈ ie_ev P ∧ c v = x ∧ c w = y) → post 0 v') :
    wpX_canEndBoth post u (nI v) x (nI w) y := by
  obtain ⟨urd, ucm, ust, ufa, udf, ulv, ulx, ulw, uly, use, ua1, ua2, ua3, ua4, ua5, ua6, ua7, ua8, ua9, ua10, ua11, ua12⟩ := u
  obtain ⟨e, h5, h⟩ := hk
  subst e
  unfold wpX_canEndBoth
  refine ie_w_bv hv (br_t rfl (ie_w_bv hw (br_t rfl (ie_w_expl (V := v) (W := w) hP hs h5 (by omega) (by omega) (fun cm' st' fa' df' se' b6 b7 b8 b9 b10 b11 b12 q => ?_)))))
  have q3 := q.2.2.1
  refine ie_01 q3 (fun e n => ?_) (fun e n => ?_) <;> subst e
  · exact ⟨ie_nb0, H0 _ ⟨rfl, h5, Or.inr ⟨v, w, q⟩⟩ n⟩
  · exact ⟨ie_nb1, H1 _ ⟨rfl, h5, Or.inr ⟨v, w, q⟩⟩ n⟩
theorem ie_w_end {post : Int32 → St1 → Prop} {u : St1} {P : ie_P} {v : Nat} {x : Int32} (hv : v < 4) (hP : ie_wfP P) (hs : ie_tot P ≤ 7) (hk : ie_OK P u)
    (H1 : ∀ v', ie_OK P v' → (∃ c : ie_C, ((0, c) : ie_E) ∈ ie_ev P ∧ c v = x) → post 1 v') (H0 : ∀ v', ie_OK P v' → (¬ ∃ c : ie_C, ((0, c) : ie_E) ∈ ie_ev P ∧ c v = x) → post 0 v') :
    wpX_canEnd post u (nI v) x := by
  obtain ⟨urd, ucm, ust, ufa, udf, ulv, ulx, ulw, uly, use, ua1, ua2, ua3, ua4, ua5, ua6, ua7, ua8, ua9, ua10, ua11, ua12⟩ := u
  obtain ⟨e, h5, h⟩ := hk
  subst e
  unfold wpX_canEnd
  refine ie_w_bv hv (br_t rfl (ie_w_expl (V := v) (W := v) hP hs h5 (by omega) (by omega) (fun cm' st' fa' df' se' b6 b7 b8 b9 b10 b11 b12 q => ?_)))
  have q3 := q.2.2.1
  refine ie_01 q3 (fun e n => ?_) (fun e n => ?_) <;> subst e
  · exact ⟨ie_nb0, H0 _ ⟨rfl, h5, Or.inr ⟨v, v, q⟩⟩ (fun ⟨c, m, g⟩ => n ⟨c, m, g, g⟩)⟩
  · exact ⟨ie_nb1, H1 _ ⟨rfl, h5, Or.inr ⟨v, v, q⟩⟩ (let ⟨c, m, g, _⟩ := n; ⟨c, m, g⟩)⟩
def ie_min (P : ie_P) (k : Nat) (m : Int32) : Prop := (∃ c : ie_C, ((0, c) : ie_E) ∈ ie_ev P ∧ c k = m) ∧ ∀ c : ie_C, ((0, c) : ie_E) ∈ ie_ev P → m ≤ c k
def ie_max (P : ie_P) (k : Nat) (m : Int32) : Prop := (∃ c : ie_C, ((0, c) : ie_E) ∈ ie_ev P ∧ c k = m) ∧ ∀ c : ie_C, ((0, c) : ie_E) ∈ ie_ev P → c k ≤ m
theorem ie_w_least {post : Int32 → St1 → Prop} {u : St1} {P : ie_P} {v : Nat} (hv : v < 4) (hP : ie_wfP P) (hs : ie_tot P ≤ 7) (hk : ie_OK P u)
    (H1 : ∀ v' m, ie_OK P v' → ie_min P v m → post m v') (H0 : ∀ v', ie_OK P v' → ¬ ie_ends P → post (-2147483647) v') : wpX_least post u (nI v) := by
  obtain ⟨urd, ucm, ust, ufa, udf, ulv, ulx, ulw, uly, use, ua1, ua2, ua3, ua4, ua5, ua6, ua7, ua8, ua9, ua10, ua11, ua12⟩ := u
  unfold wpX_least
  refine ie_w_bv hv (br_t rfl (ie_w_prep hP hs hk ?_))
  intro xrd xcm xst xfa xdf xlv xlx xlw xly xse xa1 xa2 xa3 xa4 xa5 xa6 xa7 xa8 xa9 xa10 xa11 xa12 V W hk' q
  obtain ⟨q1, _, _, _, q5, _⟩ := q
  refine ie_01 q1 (fun e n => br_t e (H0 _ hk' n)) (fun e n => br_f (by rw [e]; decide) ⟨pk_in v 10 (by omega), ?_⟩)
  obtain ⟨g1, _, g3⟩ := q5 v (by omega) e
  rw [nI_clamp (show v < 2 ^ 31 by omega)]
  exact H1 _ _ hk' ⟨g1, fun c m => (g3 c m).1⟩
theorem ie_w_great {post : Int32 → St1 → Prop} {u : St1} {P : ie_P} {v : Nat} (hv : v < 4) (hP : ie_wfP P) (hs : ie_tot P ≤ 7) (hk : ie_OK P u)
    (H1 : ∀ v' m, ie_OK P v' → ie_max P v m → post m v') (H0 : ∀ v', ie_OK P v' → ¬ ie_ends P → post (-2147483647) v') : wpX_greatest post u (nI v) := by
  obtain ⟨urd, ucm, ust, ufa, udf, ulv, ulx, ulw, uly, use, ua1, ua2, ua3, ua4, ua5, ua6, ua7, ua8, ua9, ua10, ua11, ua12⟩ := u
  unfold wpX_greatest
  refine ie_w_bv hv (br_t rfl (ie_w_prep hP hs hk ?_))
  intro xrd xcm xst xfa xdf xlv xlx xlw xly xse xa1 xa2 xa3 xa4 xa5 xa6 xa7 xa8 xa9 xa10 xa11 xa12 V W hk' q
  obtain ⟨q1, _, _, _, q5, _⟩ := q
  refine ie_01 q1 (fun e n => br_t e (H0 _ hk' n)) (fun e n => br_f (by rw [e]; decide) ⟨pk_in v 10 (by omega), ?_⟩)
  obtain ⟨_, g2, g3⟩ := q5 v (by omega) e
  rw [nI_clamp (show v < 2 ^ 31 by omega)]
  exact H1 _ _ hk' ⟨g2, fun c m => (g3 c m).2⟩
theorem ie_w_reg {post : Int32 → St1 → Prop} {u : St1} {P : ie_P} {t r : Nat} (ht : t < 3) (hr : r < 2) (hP : ie_wfP P) (hs : ie_tot P ≤ 7) (hk : ie_OK P u)
    (H1 : ∀ v' m, ie_OK P v' → ie_min P (4 + t * 2 + r) m → post m v') (H0 : ∀ v', ie_OK P v' → ¬ ie_ends P → post (-2147483647) v') : wpX_leastRegister post u (nI t) (nI r) := by
  obtain ⟨urd, ucm, ust, ufa, udf, ulv, ulx, ulw, uly, use, ua1, ua2, ua3, ua4, ua5, ua6, ua7, ua8, ua9, ua10, ua11, ua12⟩ := u
  unfold wpX_leastRegister
  refine ie_w_bt ht (br_t rfl (ie_w_prep hP hs hk ?_))
  intro xrd xcm xst xfa xdf xlv xlx xlw xly xse xa1 xa2 xa3 xa4 xa5 xa6 xa7 xa8 xa9 xa10 xa11 xa12 V W hk' q
  obtain ⟨q1, _, _, _, q5, _⟩ := q
  have er : nI r &&& 1 = nI r := by
    have h2 : r = 0 ∨ r = 1 := by omega
    rcases h2 with e | e <;> subst e <;> decide
  have ei : 4 + nI t * 2 + (nI r &&& 1) = nI (4 + t * 2 + r) := by
    rw [er, show (4 : Int32) = nI 4 from rfl, show (2 : Int32) = nI 2 from rfl, pk_mul, nI_add, nI_add]
  refine ie_01 q1 (fun e n => br_t e (H0 _ hk' n)) (fun e n => br_f (by rw [e]; decide) ⟨pk_in (4 + t * 2 + r) 10 (by omega) ei, ?_⟩)
  obtain ⟨g1, _, g3⟩ := q5 (4 + t * 2 + r) (by omega) e
  rw [pk_cl _ ei (by omega)]
  exact H1 _ _ hk' ⟨g1, fun c m => (g3 c m).1⟩
/-! emit -/
theorem ie_w_emit {post : Int32 → St1 → Prop} {rd cm st fa df lv lx lw ly se : Int32} {a1 a2 a3 a4 a5 a6 a7 a8 a9 a10 a11 a12 : Nat → Int32} {t o : Nat} {a b : Int32} (hP : ie_wfP (a1, a2, a3, a4)) (ht : t < 3) (ho : o ≤ 8) (hs : ie_tot (a1, a2, a3, a4) ≤ 9)
    (H1 : ie_sz (a1, a2, a3, a4) t < 5 → post (nI (ie_sz (a1, a2, a3, a4) t + 1)) (0, cm, st, fa, df, lv, lx, lw, ly, se, upd a1 t (nI (ie_sz (a1, a2, a3, a4) t + 1)), upd a2 (t * 5 + ie_sz (a1, a2, a3, a4) t) (nI o), upd a3 (t * 5 + ie_sz (a1, a2, a3, a4) t) a, upd a4 (t * 5 + ie_sz (a1, a2, a3, a4) t) b, a5, a6, a7, a8, a9, a10, a11, a12))
    (H0 : ie_sz (a1, a2, a3, a4) t = 5 → post (-3) (rd, cm, st, fa, df, lv, lx, lw, ly, se, a1, a2, a3, a4, a5, a6, a7, a8, a9, a10, a11, a12)) : wpX_emit post (rd, cm, st, fa, df, lv, lx, lw, ly, se, a1, a2, a3, a4, a5, a6, a7, a8, a9, a10, a11, a12) (nI t) (nI o) a b := by
  unfold wpX_emit
  have p0 : a1 0 = nI (ie_sz (a1, a2, a3, a4) 0) := (hP 0 (by omega)).1
  have p1 : a1 1 = nI (ie_sz (a1, a2, a3, a4) 1) := (hP 1 (by omega)).1
  have p2 : a1 2 = nI (ie_sz (a1, a2, a3, a4) 2) := (hP 2 (by omega)).1
  have pt : a1 t = nI (ie_sz (a1, a2, a3, a4) t) := (hP t ht).1
  have lt := (hP t ht).2
  have it : vp_in (nI t) 3 := pk_in t 3 ht
  refine ie_w_bt ht (br_t rfl (br_f (nI_pos (by omega)) (br_t (nI_le (b := 8) ho (by decide)) ⟨it, ?_⟩)))
  rw [nI_clamp (show t < 2 ^ 31 by omega)]
  have e1 : a1 0 + a1 1 + a1 2 = nI (ie_tot (a1, a2, a3, a4)) := by
    rw [p0, p1, p2, nI_add, nI_add]
    unfold ie_tot
    rw [Nat.add_assoc]
  have e2 : nI t * 5 + a1 t = nI (t * 5 + ie_sz (a1, a2, a3, a4) t) := by
    rw [pt, show (5 : Int32) = nI 5 from rfl, pk_mul, nI_add]
  rw [e1, e2]
  refine pk_le 5 (ie_sz (a1, a2, a3, a4) t) (fun z => H0 (by omega)) (fun z => ?_) rfl pt (by omega) (by omega)
  refine br_t (nI_lt (b := 10) (by omega) (by decide)) ⟨it, nm_e ?_⟩
  have ii : vp_in (nI (t * 5 + ie_sz (a1, a2, a3, a4) t)) 15 := vp_in_nI (by omega) (by decide)
  rw [nI_clamp (show t * 5 + ie_sz (a1, a2, a3, a4) t < 2 ^ 31 by omega)]
  refine ⟨ii, nm_e ⟨ii, nm_e ⟨ii, nm_e ⟨it, it, nm_r (e' := upd a1 t (nI (ie_sz (a1, a2, a3, a4) t + 1))) (by rw [pt, nI_1]) ⟨it, ?_⟩⟩⟩⟩⟩
  rw [pk_us]
  exact H1 z
end
section
/-! one thread alone: the first object of the law -/
theorem ie_single_dfs {P : ie_P} (hP : ie_wfP P) (h0 : ie_sz P 0 = 0) (h2 : ie_sz P 2 = 0) : ∀ (n : Nat) (c : ie_C) (Z : Nat → Bool), ie_wf P c → ie_rem P c < n → Z 1 = false →
    ∃ (m : Nat) (d : ie_C), ie_dfs P n c Z = [(m, d)] ∧ (m = 0 ∨ m = 1 ∨ m = 3) := by
  intro n
  induction n with
  | zero => intro c Z _ h; exact absurd h (by omega)
  | succ n ih =>
    intro c Z hc hm hz
    have n0 : ie_go P c 0 = false := by
      unfold ie_go ie_has
      rw [decide_eq_false (by omega)]
      rfl
    have n2 : ie_go P c 2 = false := by
      unfold ie_go ie_has
      rw [decide_eq_false (by omega)]
      rfl
    have v0 : ie_vis P (ie_dfs P n) c Z 0 = [] := by
      unfold ie_vis
      rw [if_neg (fun z => by rw [n0] at z; exact absurd z.1 (by decide))]
    have v2 : ie_vis P (ie_dfs P n) c Z 2 = [] := by
      unfold ie_vis
      rw [if_neg (fun z => by rw [n2] at z; exact absurd z.1 (by decide))]
    have e : ie_dfs P (n + 1) c Z = ie_head P c ++ (ie_vis P (ie_dfs P n) c Z 0 ++ (ie_vis P (ie_dfs P n) c Z 1 ++ ie_vis P (ie_dfs P n) c Z 2)) := rfl
    rw [e, v0, v2, List.nil_append, List.append_nil]
    cases g1 : ie_go P c 1 with
    | false =>
      have v1 : ie_vis P (ie_dfs P n) c Z 1 = [] := by
        unfold ie_vis
        rw [if_neg (fun z => by rw [g1] at z; exact absurd z.1 (by decide))]
      have ha : ¬ ie_any P c = true := by
        unfold ie_any
        rw [n0, g1, n2]
        decide
      rw [v1, List.append_nil]
      unfold ie_head
      rw [if_neg ha]
      by_cases f : ie_fin P c = true
      · rw [if_pos f]
        exact ⟨0, c, rfl, Or.inl rfl⟩
      · rw [if_neg f]
        exact ⟨1, c, rfl, Or.inr (Or.inl rfl)⟩
    | true =>
      have hh := ie_go_has g1
      have ha : ie_any P c = true := by
        unfold ie_any
        rw [n0, g1, n2]
        rfl
      unfold ie_head
      rw [if_pos ha, List.nil_append]
      unfold ie_vis
      rw [if_pos ⟨g1, hz⟩]
      by_cases b : ie_bad P c 1 = true
      · rw [if_pos b]
        exact ⟨3, c, rfl, Or.inr (Or.inr rfl)⟩
      · rw [if_neg b]
        refine ih _ _ (ie_wf_stp hP hc (by omega) hh) ?_ ?_
        · have := ie_rem_stp hP hc (by omega) hh
          omega
        · unfold ie_slp
          rw [decide_eq_true (rfl : 1 = 1)]
          rfl
theorem ie_w_cell {post : Int32 → Prop} {L : Nat} {xs : Nat → Int32} {k : Nat} (hL : L ≤ 260) (hk : k < 1000) (H : ∀ r, post r) : wpL_cell post L xs () (nI k) :=
  pk_le L k (fun _ => H 0) (fun z => ⟨pk_in k L z, H _⟩)
/-- the program after an emit -/
def ie_Pe (P : ie_P) (t : Nat) (o a b : Int32) : ie_P := (upd P.1 t (nI (ie_sz P t + 1)), upd P.2.1 (t * 5 + ie_sz P t) o, upd P.2.2.1 (t * 5 + ie_sz P t) a, upd P.2.2.2 (t * 5 + ie_sz P t) b)
theorem ie_sz_t {P : ie_P} {t : Nat} {o a b : Int32} (h : ie_sz P t ≤ 5) : ie_sz (ie_Pe P t o a b) t = ie_sz P t + 1 := by
  have e : ie_sz (ie_Pe P t o a b) t = (upd P.1 t (nI (ie_sz P t + 1)) t).toNatClampNeg := rfl
  rw [e, pk_us, nI_clamp (by omega)]
theorem ie_sz_n {P : ie_P} {t u : Nat} {o a b : Int32} (h : u ≠ t) : ie_sz (ie_Pe P t o a b) u = ie_sz P u := by
  have e : ie_sz (ie_Pe P t o a b) u = (upd P.1 t (nI (ie_sz P t + 1)) u).toNatClampNeg := rfl
  rw [e, pk_un h]
  rfl
theorem ie_wfPe {P : ie_P} {t : Nat} {o a b : Int32} (hP : ie_wfP P) (h : ie_sz P t < 5) : ie_wfP (ie_Pe P t o a b) := by
  intro u hu
  by_cases e : u = t
  · subst e
    rw [ie_sz_t (by omega)]
    exact ⟨pk_us, h⟩
  · rw [ie_sz_n e]
    have e1 : (ie_Pe P t o a b).1 u = P.1 u := pk_un e
    rw [e1]
    exact hP u hu
theorem ie_rem9 (r : Int32) : ∃ j : Nat, j ≤ 8 ∧ (r &&& 255) - (r &&& 255) / 9 * 9 = nI j := by
  obtain ⟨j, hj, e⟩ := pk_andE r (m := 255) 8 (by decide)
  have hj' : j < 256 := hj
  refine ⟨j % 9, by omega, ?_⟩
  rw [e]
  exact pk_rem (d := 9) (by omega) (by decide) (by decide)
theorem ie_w_single {post : Int32 → St1 → Prop} {L : Nat} {xs : Nat → Int32} {u : St1} (hL : L ≤ 260) {P : ie_P} (hP : ie_wfP P) (h0 : ie_sz P 0 = 0) (h1 : ie_sz P 1 = 0) (h2 : ie_sz P 2 = 0) (hk : ie_OK P u)
    (H : ∀ v, post 1 v) : wpL_single post L xs u := by
  obtain ⟨urd, ucm, ust, ufa, udf, ulv, ulx, ulw, uly, use, ua1, ua2, ua3, ua4, ua5, ua6, ua7, ua8, ua9, ua10, ua11, ua12⟩ := u
  unfold wpL_single
  refine ie_w_cell (k := 1) hL (by omega) (fun r => ?_)
  obtain ⟨j, hj, e⟩ := pk_andE r (m := 3) 2 (by decide)
  have hj' : j < 4 := hj
  have e1 : 1 + (r &&& 3) = nI (1 + j) := by
    rw [e, show (1 : Int32) = nI 1 from rfl, nI_add]
  refine nm_r e1 ?_
  refine pk_loop (σ := St1) (fun n i s => wL_single_12 post L xs (nI (1 + j)) n (nI i) s.1 s.2.1 s.2.2.1 s.2.2.2.1 s.2.2.2.2.1 s.2.2.2.2.2.1 s.2.2.2.2.2.2.1 s.2.2.2.2.2.2.2.1 s.2.2.2.2.2.2.2.2.1 s.2.2.2.2.2.2.2.2.2.1 s.2.2.2.2.2.2.2.2.2.2.1 s.2.2.2.2.2.2.2.2.2.2.2.1 s.2.2.2.2.2.2.2.2.2.2.2.2.1 s.2.2.2.2.2.2.2.2.2.2.2.2.2.1 s.2.2.2.2.2.2.2.2.2.2.2.2.2.2.1 s.2.2.2.2.2.2.2.2.2.2.2.2.2.2.2.1 s.2.2.2.2.2.2.2.2.2.2.2.2.2.2.2.2.1 s.2.2.2.2.2.2.2.2.2.2.2.2.2.2.2.2.2.1 s.2.2.2.2.2.2.2.2.2.2.2.2.2.2.2.2.2.2.1 s.2.2.2.2.2.2.2.2.2.2.2.2.2.2.2.2.2.2.2.1 s.2.2.2.2.2.2.2.2.2.2.2.2.2.2.2.2.2.2.2.2.1 s.2.2.2.2.2.2.2.2.2.2.2.2.2.2.2.2.2.2.2.2.2)
    (fun i s => ∃ P, ie_wfP P ∧ ie_sz P 0 = 0 ∧ ie_sz P 2 = 0 ∧ ie_sz P 1 ≤ i ∧ ie_OK P s) (1 + j) 0 (urd, ucm, ust, ufa, udf, ulv, ulx, ulw, uly, use, ua1, ua2, ua3, ua4, ua5, ua6, ua7, ua8, ua9, ua10, ua11, ua12) (by omega) ⟨P, hP, h0, h2, by omega, hk⟩ ?_ ?_
  · intro n s h
    obtain ⟨xrd, xcm, xst, xfa, xdf, xlv, xlx, xlw, xly, xse, xa1, xa2, xa3, xa4, xa5, xa6, xa7, xa8, xa9, xa10, xa11, xa12⟩ := s
    obtain ⟨P, hP, h0, h2, h1, hk⟩ := h
    have ht : ie_tot P ≤ 7 := by
      unfold ie_tot
      omega
    obtain ⟨m, d, ed, hm⟩ := ie_single_dfs hP h0 h2 8 ie_c0 ie_Z0 (ie_wf0 P) (by rw [ie_rem0]; omega) rfl
    have mem : ∀ (a : Nat) (c : ie_C), ((a, c) : ie_E) ∈ ie_ev P ↔ a = m ∧ c = d := by
      intro a c
      unfold ie_ev
      rw [ed, List.mem_singleton]
      exact ⟨fun z => ⟨congrArg Prod.fst z, congrArg Prod.snd z⟩, fun z => by rw [z.1, z.2]⟩
    have hst : ie_stuck P → m = 1 := fun ⟨c, z⟩ => ((mem _ _).mp z).1.symm
    have hen : ie_ends P → m = 0 := fun ⟨c, z⟩ => ((mem _ _).mp z).1.symm
    refine pk_le (1 + j) (1 + j) (fun _ => ?_) (fun z => absurd z (by omega))
    refine ie_w_settled hP ht hk (fun v hv a1 a2 a3 => ?_) (fun v hv a1 => ?_)
    · obtain ⟨yrd, ycm, yst, yfa, ydf, ylv, ylx, ylw, yly, yse, ya1, ya2, ya3, ya4, ya5, ya6, ya7, ya8, ya9, ya10, ya11, ya12⟩ := v
      refine ie_w_stick hP ht hv (fun v' hv' z => absurd z a2) (fun v' hv' z => ?_)
      obtain ⟨zrd, zcm, zst, zfa, zdf, zlv, zlx, zlw, zly, zse, za1, za2, za3, za4, za5, za6, za7, za8, za9, za10, za11, za12⟩ := v'
      refine br_t rfl (ie_w_fail (t := 1) (by omega) hP ht hv' (fun v2 hv2 w => absurd w (a3 1 (by omega))) (fun v2 hv2 w => ?_))
      obtain ⟨wrd, wcm, wst, wfa, wdf, wlv, wlx, wlw, wly, wse, wa1, wa2, wa3, wa4, wa5, wa6, wa7, wa8, wa9, wa10, wa11, wa12⟩ := v2
      exact br_t rfl (br_t rfl (H _))
    · have a1' : ie_ends P → ¬ ie_stuck P → ∃ t, t < 3 ∧ ie_fails P t := a1 (by unfold ie_ev; rw [ed]; exact Nat.le_refl 1)
      obtain ⟨yrd, ycm, yst, yfa, ydf, ylv, ylx, ylw, yly, yse, ya1, ya2, ya3, ya4, ya5, ya6, ya7, ya8, ya9, ya10, ya11, ya12⟩ := v
      refine ie_w_stick hP ht hv (fun v' hv' z => ?_) (fun v' hv' z => ?_)
      · obtain ⟨zrd, zcm, zst, zfa, zdf, zlv, zlx, zlw, zly, zse, za1, za2, za3, za4, za5, za6, za7, za8, za9, za10, za11, za12⟩ := v'
        exact br_f (by decide) (br_t rfl (H _))
      · obtain ⟨zrd, zcm, zst, zfa, zdf, zlv, zlx, zlw, zly, zse, za1, za2, za3, za4, za5, za6, za7, za8, za9, za10, za11, za12⟩ := v'
        refine br_t rfl (ie_w_fail (t := 1) (by omega) hP ht hv' (fun v2 hv2 w => ?_) (fun v2 hv2 w => ?_))
        · obtain ⟨wrd, wcm, wst, wfa, wdf, wlv, wlx, wlw, wly, wse, wa1, wa2, wa3, wa4, wa5, wa6, wa7, wa8, wa9, wa10, wa11, wa12⟩ := v2
          exact br_f (by decide) (br_t rfl (H _))
        · exfalso
          rcases hm with e | e | e
          · obtain ⟨t, _, c, q⟩ := a1' ⟨d, (mem _ _).mpr ⟨e.symm, rfl⟩⟩ z
            have := ((mem _ _).mp q).1
            omega
          · exact z ⟨d, (mem _ _).mpr ⟨e.symm, rfl⟩⟩
          · exact w ⟨d, (mem _ _).mpr ⟨by omega, rfl⟩⟩
  · intro n i s hi h hw
    obtain ⟨xrd, xcm, xst, xfa, xdf, xlv, xlx, xlw, xly, xse, xa1, xa2, xa3, xa4, xa5, xa6, xa7, xa8, xa9, xa10, xa11, xa12⟩ := s
    obtain ⟨P, hP, h0, h2, h1, hk⟩ := h
    obtain ⟨eP, k5, kr⟩ := hk
    subst eP
    have e2 : 2 + nI i = nI (2 + i) := nI_add 2 i
    show wL_single_12 post L xs (nI (1 + j)) (n + 1) (nI i) xrd xcm xst xfa xdf xlv xlx xlw xly xse xa1 xa2 xa3 xa4 xa5 xa6 xa7 xa8 xa9 xa10 xa11 xa12
    refine pk_le (1 + j) i (fun z => absurd z (by omega)) (fun _ => ?_)
    rw [e2]
    refine ie_w_cell hL (by omega) (fun r => ⟨by decide, ?_⟩)
    obtain ⟨o, ho, eo⟩ := ie_rem9 r
    rw [eo]
    refine ie_w_emit (t := 1) hP (by omega) ho (by unfold ie_tot; omega) (fun q => nm_r (nI_1 i) ?_) (fun q => absurd q (by omega))
    refine hw (0, xcm, xst, xfa, xdf, xlv, xlx, xlw, xly, xse, upd xa1 1 (nI (ie_sz (xa1, xa2, xa3, xa4) 1 + 1)), upd xa2 (1 * 5 + ie_sz (xa1, xa2, xa3, xa4) 1) (nI o), upd xa3 (1 * 5 + ie_sz (xa1, xa2, xa3, xa4) 1) ((r >>> ((8 : Int32) &&& 31)) &&& 3), upd xa4 (1 * 5 + ie_sz (xa1, xa2, xa3, xa4) 1) (((r >>> ((10 : Int32) &&& 31)) &&& 7) - 2), xa5, xa6, xa7, xa8, xa9, xa10, xa11, xa12) ⟨ie_Pe (xa1, xa2, xa3, xa4) 1 (nI o) ((r >>> ((8 : Int32) &&& 31)) &&& 3) (((r >>> ((10 : Int32) &&& 31)) &&& 7) - 2), ie_wfPe hP q, ?_, ?_, ?_, ⟨rfl, k5, Or.inl rfl⟩⟩
    · rw [ie_sz_n (by omega)]
      exact h0
    · rw [ie_sz_n (by omega)]
      exact h2
    · rw [ie_sz_t (by omega)]
      omega
end
section
/-! the law's packed numbers: Int64 by its bits, fields of six bits, of nine bits, of four bits -/
def ib_t (x : Int64) (i : Nat) : Bool := x.toBitVec.getLsbD i
theorem ib_ext {x y : Int64} (h : ∀ i, i < 64 → ib_t x i = ib_t y i) : x = y := Int64.toBitVec_inj.mp (BitVec.eq_of_getLsbD_eq (fun i hi => h i hi))
theorem ib_or (x y : Int64) (i : Nat) : ib_t (x ||| y) i = (ib_t x i || ib_t y i) := by unfold ib_t; rw [Int64.toBitVec_or, BitVec.getLsbD_or]
theorem ib_and (x y : Int64) (i : Nat) : ib_t (x &&& y) i = (ib_t x i && ib_t y i) := by unfold ib_t; rw [Int64.toBitVec_and, BitVec.getLsbD_and]
theorem ib_xor (x y : Int64) (i : Nat) : ib_t (x ^^^ y) i = (ib_t x i ^^ ib_t y i) := by unfold ib_t; rw [Int64.toBitVec_xor, BitVec.getLsbD_xor]
theorem ib_m1 : ∀ i, i < 64 → ib_t (-1) i = true := by decide +kernel
theorem ib_63 : ∀ i, i < 64 → ib_t 63 i = decide (i < 6) := by decide +kernel
theorem ib_s : ∀ n, n < 64 → (((nI n).toInt64 &&& 63).toBitVec.smod 64).toNat = n := by decide +kernel
theorem ib_shl (n : Nat) (hn : n < 64) (x : Int64) {i : Nat} (hi : i < 64) : ib_t (x <<< ((nI n).toInt64 &&& 63)) i = (decide (n ≤ i) && ib_t x (i - n)) := by
  unfold ib_t
  rw [Int64.toBitVec_shiftLeft]
  show (x.toBitVec <<< (((nI n).toInt64 &&& 63).toBitVec.smod 64).toNat).getLsbD i = _
  rw [ib_s n hn, BitVec.getLsbD_shiftLeft]
  rcases Nat.lt_or_ge i n with h | h
  · simp [h, Nat.not_le.mpr h]
  · simp [hi, h, Nat.not_lt.mpr h]
theorem ib_sshr (n : Nat) (hn : n < 64) (x : Int64) {i : Nat} (hi : i < 64) : ib_t (x >>> ((nI n).toInt64 &&& 63)) i = if n + i < 64 then ib_t x (n + i) else ib_t x 63 := by
  unfold ib_t
  rw [Int64.toBitVec_shiftRight]
  show (x.toBitVec.sshiftRight (((nI n).toInt64 &&& 63).toBitVec.smod 64).toNat).getLsbD i = _
  rw [ib_s n hn, BitVec.getLsbD_sshiftRight, BitVec.msb_eq_getLsbD_last]
  simp [hi]
theorem ib_lN : ∀ w, w < 64 → ∀ i, i < 64 → ib_t (lN w) i = (decide (i < 6) && w.testBit i) := by decide +kernel
/-- a field of six bits, read and written -/
def ie_g (s : Int64) (j : Nat) : Int64 := (s >>> ((nI (6 * j)).toInt64 &&& 63)) &&& 63
def ie_s (s : Int64) (i : Nat) (v : Int64) : Int64 := (s &&& (((63 : Int64) <<< ((nI (6 * i)).toInt64 &&& 63)) ^^^ (-1))) ||| (v <<< ((nI (6 * i)).toInt64 &&& 63))
theorem ie_g_bit (s : Int64) {j n : Nat} (hj : j < 10) (hn : n < 64) : ib_t (ie_g s j) n = (decide (n < 6) && ib_t s (6 * j + n)) := by
  unfold ie_g
  rw [ib_and, ib_63 n hn, ib_sshr (6 * j) (by omega) s hn]
  by_cases h : n < 6
  · rw [decide_eq_true h, if_pos (by omega), Bool.and_true, Bool.true_and]
  · rw [decide_eq_false h, Bool.and_false, Bool.false_and]
theorem ie_s_bit (s v : Int64) {i n : Nat} (hi : i < 10) (hn : n < 64) : ib_t (ie_s s i v) n = ((ib_t s n && !(decide (6 * i ≤ n) && ib_t 63 (n - 6 * i))) || (decide (6 * i ≤ n) && ib_t v (n - 6 * i))) := by
  unfold ie_s
  rw [ib_or, ib_and, ib_xor, ib_m1 n hn, ib_shl (6 * i) (by omega) _ hn, ib_shl (6 * i) (by omega) _ hn, Bool.xor_true]
theorem ie_gs_same (s : Int64) {i w : Nat} (hi : i < 10) (hw : w < 64) : ie_g (ie_s s i (lN w)) i = lN w := by
  apply ib_ext
  intro n hn
  rw [ie_g_bit _ hi hn, ib_lN w hw n hn]
  by_cases h : n < 6
  · rw [decide_eq_true h, Bool.true_and, Bool.true_and, ie_s_bit _ _ hi (by omega), decide_eq_true (show 6 * i ≤ 6 * i + n by omega), show 6 * i + n - 6 * i = n by omega, ib_63 n hn, ib_lN w hw n hn, decide_eq_true h]
    simp
  · rw [decide_eq_false h, Bool.false_and, Bool.false_and]
theorem ie_gs_other (s : Int64) {i j w : Nat} (hi : i < 10) (hj : j < 10) (hw : w < 64) (n : j ≠ i) : ie_g (ie_s s i (lN w)) j = ie_g s j := by
  apply ib_ext
  intro k hk
  rw [ie_g_bit _ hj hk, ie_g_bit _ hj hk]
  by_cases h : k < 6
  · rw [decide_eq_true h, Bool.true_and, Bool.true_and, ie_s_bit _ _ hi (by omega)]
    by_cases q : 6 * i ≤ 6 * j + k
    · rw [decide_eq_true q, ib_63 _ (by omega), ib_lN w hw _ (by omega), decide_eq_false (by omega)]
      simp
    · rw [decide_eq_false q]
      simp
  · rw [decide_eq_false h, Bool.false_and, Bool.false_and]
/-- the value of a field -/
def ie_gv (s : Int64) (j : Nat) : Int32 := (ie_g s j).toInt32 - 32
def ie_in6 (v : Int32) : Prop := -32 ≤ v.toInt ∧ v.toInt ≤ 31
def ie_sv (s : Int64) (i : Nat) (v : Int32) : Int64 := ie_s s i (v + 32).toInt64
theorem ie_in6_e {v : Int32} (h : ie_in6 v) : ∃ w : Nat, w < 64 ∧ v + 32 = nI w ∧ nI w - 32 = v := by
  obtain ⟨h1, h2⟩ := h
  have e : v + 32 = nI (v.toInt + 32).toNat := by
    apply Int32.toInt_inj.mp
    rw [nI_toInt (by omega), Int32.toInt_add, show (32 : Int32).toInt = 32 from rfl, Int.bmod_eq_of_le (by omega) (by omega)]
    omega
  refine ⟨(v.toInt + 32).toNat, by omega, e, ?_⟩
  rw [← e]
  grind
theorem ie_gv_same (s : Int64) {i : Nat} {v : Int32} (hi : i < 10) (hv : ie_in6 v) : ie_gv (ie_sv s i v) i = v := by
  obtain ⟨w, hw, e1, e2⟩ := ie_in6_e hv
  unfold ie_gv ie_sv
  rw [e1, nI_l (by omega), ie_gs_same s hi hw, lN_i, e2]
theorem ie_gv_other (s : Int64) {i j : Nat} {v : Int32} (hi : i < 10) (hj : j < 10) (hv : ie_in6 v) (n : j ≠ i) : ie_gv (ie_sv s i v) j = ie_gv s j := by
  obtain ⟨w, hw, e1, e2⟩ := ie_in6_e hv
  unfold ie_gv ie_sv
  rw [e1, nI_l (by omega), ie_gs_other s hi hj hw n]
theorem ie_w_get {post : Int32 → Prop} {s : Int64} {j : Nat} (H : post (ie_gv s j)) : wpL_get post () s (nI j) := by
  unfold wpL_get
  rw [show 6 * nI j = nI (6 * j) from pk_mul 6 j]
  exact H
theorem ie_w_set {post : Int64 → Prop} {s : Int64} {j : Nat} {v : Int32} (H : post (ie_sv s j v)) : wpL_set post () s (nI j) v := by
  unfold wpL_set
  rw [show 6 * nI j = nI (6 * j) from pk_mul 6 j]
  exact H
/-! fields of four bits: places and sizes -/
def ie_f4 (a b c : Nat) : Int32 := nI (a + (16 * b + 256 * c))
theorem ie_f4_get : ∀ a, a < 6 → ∀ b, b < 6 → ∀ c, c < 6 → ((ie_f4 a b c >>> ((4 * nI 0) &&& 31)) &&& 15 = nI a) ∧ ((ie_f4 a b c >>> ((4 * nI 1) &&& 31)) &&& 15 = nI b) ∧ ((ie_f4 a b c >>> ((4 * nI 2) &&& 31)) &&& 15 = nI c) := by decide +kernel
theorem ie_f4_add (a b c : Nat) : (ie_f4 a b c + ((1 : Int32) <<< ((4 * nI 0) &&& 31)) = ie_f4 (a + 1) b c) ∧ (ie_f4 a b c + ((1 : Int32) <<< ((4 * nI 1) &&& 31)) = ie_f4 a (b + 1) c) ∧ (ie_f4 a b c + ((1 : Int32) <<< ((4 * nI 2) &&& 31)) = ie_f4 a b (c + 1)) := by
  have e0 : (1 : Int32) <<< ((4 * nI 0) &&& 31) = nI 1 := by decide
  have e1 : (1 : Int32) <<< ((4 * nI 1) &&& 31) = nI 16 := by decide
  have e2 : (1 : Int32) <<< ((4 * nI 2) &&& 31) = nI 256 := by decide
  unfold ie_f4
  rw [e0, e1, e2, nI_add, nI_add, nI_add]
  exact ⟨congrArg nI (by omega), congrArg nI (by omega), congrArg nI (by omega)⟩
theorem ie_f4_inj {a b c a' b' c' : Nat} (h : a < 6) (h' : a' < 6) (g : b < 6) (g' : b' < 6) (k : c < 6) (k' : c' < 6) (e : ie_f4 a b c = ie_f4 a' b' c') : a = a' ∧ b = b' ∧ c = c' := by
  unfold ie_f4 at e
  rw [nI_eq (by omega) (by omega)] at e
  omega
/-! fields of nine bits: the instructions -/
def ie_enc (o a b : Nat) : Nat := o + (16 * a + 64 * b)
theorem ie_dec : ∀ o, o < 9 → ∀ a, a < 4 → ∀ b, b < 8 → (nI (ie_enc o a b) &&& 15 = nI o) ∧ ((nI (ie_enc o a b) >>> ((4 : Int32) &&& 31)) &&& 3 = nI a) ∧ ((nI (ie_enc o a b) >>> ((6 : Int32) &&& 31)) &&& 7 = nI b) ∧ ((nI (ie_enc o a b) >>> ((4 : Int32) &&& 31)) &&& 1 = nI a &&& 1) := by decide +kernel
end
section
/-! rows of kit/laws/BITS.to-paste (renamed): shifts, masks and 'or' of lN -/
theorem iw_c : ∀ k, k < 64 → ((nI k).toInt64 &&& 63) = lN k := by decide +kernel
theorem iw_sm : ∀ k, k < 64 → (BitVec.ofNat 64 k).smod 64 = BitVec.ofNat 64 k := by decide +kernel
theorem iw_shl (n : Nat) {k : Nat} (hk : k < 64) : lN n <<< ((nI k).toInt64 &&& 63) = lN (n * 2 ^ k) := by
  rw [iw_c k hk]
  apply Int64.toBitVec_inj.mp
  rw [Int64.toBitVec_shiftLeft, show (lN n).toBitVec = BitVec.ofNat 64 n from rfl, show (lN k).toBitVec = BitVec.ofNat 64 k from rfl, show (lN (n * 2 ^ k)).toBitVec = BitVec.ofNat 64 (n * 2 ^ k) from rfl, iw_sm k hk]
  apply BitVec.eq_of_toNat_eq
  rw [BitVec.shiftLeft_eq', BitVec.toNat_shiftLeft, BitVec.toNat_ofNat, BitVec.toNat_ofNat, BitVec.toNat_ofNat, Nat.mod_eq_of_lt (show k < 2 ^ 64 by omega), Nat.shiftLeft_eq, Nat.mul_mod, Nat.mod_mod, ← Nat.mul_mod]
theorem iw_tn {n : Nat} (h : n < 2 ^ 64) : (UInt64.ofNat n).toNat = n := Nat.mod_eq_of_lt h
theorem iw_and {a b c : Nat} (ha : a < 2 ^ 64) (hb : b < 2 ^ 64) (hc : a &&& b = c) : lN a &&& lN b = lN c := by
  subst hc
  have h : UInt64.ofNat a &&& UInt64.ofNat b = UInt64.ofNat (a &&& b) := UInt64.toNat_inj.mp (by rw [UInt64.toNat_and, iw_tn ha, iw_tn hb, iw_tn (Nat.and_lt_two_pow a hb)])
  have h2 := congrArg UInt64.toInt64 h
  exact h2
theorem iw_or {k p a b : Nat} (hp : 2 ^ k = p) (ha : a < p) (h : b * p + a < 2 ^ 64) : lN (b * p) ||| lN a = lN (b * p + a) := by
  subst hp
  have h1 : b * 2 ^ k ||| a = b * 2 ^ k + a := by rw [← Nat.shiftLeft_eq, Nat.shiftLeft_add_eq_or_of_lt ha]
  have h3 : UInt64.ofNat (b * 2 ^ k) ||| UInt64.ofNat a = UInt64.ofNat (b * 2 ^ k + a) := UInt64.toNat_inj.mp (by rw [UInt64.toNat_or, iw_tn (by omega), iw_tn (by omega), iw_tn h, h1])
  have h2 := congrArg UInt64.toInt64 h3
  exact h2
theorem iw_or' {k p a b : Nat} (hp : 2 ^ k = p) (ha : a < p) (h : a + b * p < 2 ^ 64) : lN a ||| lN (b * p) = lN (a + b * p) := by
  rw [Int64.or_comm, iw_or hp ha (by omega), Nat.add_comm]
theorem iw_shr {a d : Nat} {D : Int64} (hD : (D.toBitVec.smod 64).toNat = d) (h : a < 2 ^ 62) : lN a >>> D = lN (a / 2 ^ d) := by
  have hd : a / 2 ^ d ≤ a := Nat.div_le_self _ _
  apply Int64.toInt_inj.mp
  have e : (lN a >>> D).toInt = (lN a).toInt >>> d := by
    rw [← hD]
    exact BitVec.toInt_sshiftRight ..
  rw [e, Int.shiftRight_eq_div_pow, pk_lT (by omega), pk_lT (by omega)]
  rfl
/-! the packed program -/
def ie_pk (P : ie_P) (t p : Nat) : Prop := p < 2 ^ (9 * ie_sz P t) ∧ ∀ n, n < ie_sz P t → ∃ o a b : Nat, o < 9 ∧ a < 4 ∧ b < 8 ∧ ie_op P (t * 5 + n) = nI o ∧ ie_aa P (t * 5 + n) = nI a ∧ ie_bb P (t * 5 + n) = nI b - 2 ∧ p / 2 ^ (9 * n) % 512 = ie_enc o a b
theorem ie_ar1 (p e : Nat) {s n : Nat} (h : n < s) : (p + e * 2 ^ (9 * s)) / 2 ^ (9 * n) % 512 = p / 2 ^ (9 * n) % 512 := by
  obtain ⟨d, rfl⟩ : ∃ d, s = n + 1 + d := ⟨s - (n + 1), by omega⟩
  have hp : 0 < 2 ^ (9 * n) := Nat.pow_pos (by decide)
  have e1 : e * 2 ^ (9 * (n + 1 + d)) = 2 ^ (9 * n) * (512 * (e * 2 ^ (9 * d))) := by
    rw [show 9 * (n + 1 + d) = 9 * n + (9 + 9 * d) by omega, Nat.pow_add, Nat.pow_add]
    rw [show 2 ^ 9 = 512 from rfl]
    generalize 2 ^ (9 * n) = A
    generalize 2 ^ (9 * d) = B
    rw [Nat.mul_left_comm, Nat.mul_left_comm e 512 B]
  rw [e1, Nat.add_mul_div_left _ _ hp, Nat.add_mul_mod_self_left]
theorem ie_ar2 {p e s : Nat} (h : p < 2 ^ (9 * s)) (he : e < 512) : (p + e * 2 ^ (9 * s)) / 2 ^ (9 * s) % 512 = e := by
  have hp : 0 < 2 ^ (9 * s) := Nat.pow_pos (by decide)
  rw [Nat.add_mul_div_right _ _ hp, Nat.div_eq_of_lt h, Nat.zero_add, Nat.mod_eq_of_lt he]
theorem ie_ar3 {p e s : Nat} (h : p < 2 ^ (9 * s)) (he : e < 512) : p + e * 2 ^ (9 * s) < 2 ^ (9 * (s + 1)) := by
  rw [show 9 * (s + 1) = 9 * s + 9 by omega, Nat.pow_add, show 2 ^ 9 = 512 from rfl]
  have h2 : e * 2 ^ (9 * s) ≤ 511 * 2 ^ (9 * s) := Nat.mul_le_mul_right _ (by omega)
  omega
theorem ie_enc_lt {o a b : Nat} (ho : o < 9) (ha : a < 4) (hb : b < 8) : ie_enc o a b < 512 := by
  unfold ie_enc
  omega
theorem ie_pk_add {P : ie_P} {t p o a b : Nat} (hs : ie_sz P t < 5) (ho : o < 9) (ha : a < 4) (hb : b < 8) (h : ie_pk P t p) :
    ie_pk (ie_Pe P t (nI o) (nI a) (nI b - 2)) t (p + ie_enc o a b * 2 ^ (9 * ie_sz P t)) := by
  obtain ⟨h1, h2⟩ := h
  have he := ie_enc_lt ho ha hb
  unfold ie_pk
  rw [ie_sz_t (by omega)]
  refine ⟨ie_ar3 h1 he, fun n hn => ?_⟩
  by_cases q : n = ie_sz P t
  · subst q
    exact ⟨o, a, b, ho, ha, hb, pk_us, pk_us, pk_us, ie_ar2 h1 he⟩
  · obtain ⟨o', a', b', g1, g2, g3, g4, g5, g6, g7⟩ := h2 n (by omega)
    have ne : t * 5 + n ≠ t * 5 + ie_sz P t := by omega
    refine ⟨o', a', b', g1, g2, g3, ?_, ?_, ?_, ?_⟩
    · exact (pk_un ne).trans g4
    · exact (pk_un ne).trans g5
    · exact (pk_un ne).trans g6
    · rw [ie_ar1 _ _ (by omega)]
      exact g7
theorem ie_pk_oth {P : ie_P} {t u p : Nat} {o a b : Int32} (hP : ie_wfP P) (ht : t < 3) (hu : u < 3) (hs : ie_sz P t < 5) (n : u ≠ t) (h : ie_pk P u p) : ie_pk (ie_Pe P t o a b) u p := by
  obtain ⟨h1, h2⟩ := h
  have hu5 := (hP u hu).2
  unfold ie_pk
  rw [ie_sz_n n]
  refine ⟨h1, fun m hm => ?_⟩
  obtain ⟨o', a', b', g1, g2, g3, g4, g5, g6, g7⟩ := h2 m hm
  have ne : u * 5 + m ≠ t * 5 + ie_sz P t := by omega
  exact ⟨o', a', b', g1, g2, g3, (pk_un ne).trans g4, (pk_un ne).trans g5, (pk_un ne).trans g6, g7⟩
theorem ie_pw45 {s : Nat} (h : s ≤ 5) : 2 ^ (9 * s) ≤ 2 ^ 45 := Nat.pow_le_pow_right (by decide) (by omega)
theorem ie_pk_or {P : ie_P} {t p o a b : Nat} (hs : ie_sz P t < 5) (ho : o < 9) (ha : a < 4) (hb : b < 8) (h : ie_pk P t p) {x : Int64}
    (hx : x = (nI o + 16 * nI a + 64 * (nI b - 2 + 2)).toInt64 <<< ((9 * nI (ie_sz P t)).toInt64 &&& 63)) : lN p ||| x = lN (p + ie_enc o a b * 2 ^ (9 * ie_sz P t)) := by
  have he := ie_enc_lt ho ha hb
  have e1 : nI o + 16 * nI a + 64 * (nI b - 2 + 2) = nI (ie_enc o a b) := by
    rw [show nI b - 2 + 2 = nI b by grind, show (16 : Int32) = nI 16 from rfl, show (64 : Int32) = nI 64 from rfl, pk_mul, pk_mul, nI_add, nI_add, Nat.add_assoc]
    rfl
  have e2 : (9 : Int32) * nI (ie_sz P t) = nI (9 * ie_sz P t) := pk_mul 9 _
  rw [hx, e1, e2, nI_l (by omega), iw_shl _ (by omega)]
  have b1 := ie_ar3 h.1 he
  have b2 := ie_pw45 (show ie_sz P t + 1 ≤ 5 by omega)
  exact iw_or' (k := 9 * ie_sz P t) rfl h.1 (by omega)
/-- the law's first loop: the programs are written -/
def ie_Q (P : ie_P) (x3 x5 x7 : Int64) (x9 : Int32) : Prop := ie_wfP P ∧ x9 = ie_f4 (ie_sz P 0) (ie_sz P 1) (ie_sz P 2) ∧ ∃ p0 p1 p2 : Nat, x3 = lN p0 ∧ x5 = lN p1 ∧ x7 = lN p2 ∧ ie_pk P 0 p0 ∧ ie_pk P 1 p1 ∧ ie_pk P 2 p2
theorem ie_f4_at {a b c t : Nat} (ht : t < 3) (ha : a < 6) (hb : b < 6) (hc : c < 6) : (ie_f4 a b c >>> ((4 * nI t) &&& 31)) &&& 15 = nI (if t = 0 then a else if t = 1 then b else c) := by
  have q := ie_f4_get a ha b hb c hc
  have h3 : t = 0 ∨ t = 1 ∨ t = 2 := by omega
  rcases h3 with e | e | e <;> subst e
  · exact q.1
  · exact q.2.1
  · exact q.2.2
theorem ie_f4_sz {P : ie_P} {t : Nat} (hP : ie_wfP P) (ht : t < 3) : (ie_f4 (ie_sz P 0) (ie_sz P 1) (ie_sz P 2) >>> ((4 * nI t) &&& 31)) &&& 15 = nI (ie_sz P t) := by
  have h0 := (hP 0 (by omega)).2
  have h1 := (hP 1 (by omega)).2
  have h2 := (hP 2 (by omega)).2
  rw [ie_f4_at ht (by omega) (by omega) (by omega)]
  have h3 : t = 0 ∨ t = 1 ∨ t = 2 := by omega
  rcases h3 with e | e | e <;> subst e <;> rfl
theorem ie_rem3 (r : Int32) : ∃ j : Nat, j < 3 ∧ (r &&& 255) - (r &&& 255) / 3 * 3 = nI j := by
  obtain ⟨j, hj, e⟩ := pk_andE r (m := 255) 8 (by decide)
  have hj' : j < 256 := hj
  refine ⟨j % 3, by omega, ?_⟩
  rw [e]
  exact pk_rem (d := 3) (by omega) (by decide) (by decide)
theorem ie_Q_add {P : ie_P} {x3 x5 x7 x : Int64} {x9 : Int32} {t o a b : Nat} (ht : t < 3) (hs : ie_sz P t < 5) (ho : o < 9) (ha : a < 4) (hb : b < 8) (h : ie_Q P x3 x5 x7 x9)
    (hx : x = (nI o + 16 * nI a + 64 * (nI b - 2 + 2)).toInt64 <<< ((9 * nI (ie_sz P t)).toInt64 &&& 63)) :
    ie_Q (ie_Pe P t (nI o) (nI a) (nI b - 2)) (if t = 0 then x3 ||| x else x3) (if t = 1 then x5 ||| x else x5) (if t = 2 then x7 ||| x else x7) (x9 + ((1 : Int32) <<< ((4 * nI t) &&& 31))) := by
  obtain ⟨hP, e9, p0, p1, p2, e3, e5, e7, k0, k1, k2⟩ := h
  have hw : ie_wfP (ie_Pe P t (nI o) (nI a) (nI b - 2)) := ie_wfPe hP hs
  subst e3 e5 e7 e9
  have q := ie_f4_add (ie_sz P 0) (ie_sz P 1) (ie_sz P 2)
  have h3 : t = 0 ∨ t = 1 ∨ t = 2 := by omega
  rcases h3 with e | e | e <;> subst e
  · rw [if_pos rfl, if_neg (by decide), if_neg (by decide), ie_pk_or hs ho ha hb k0 hx]
    refine ⟨hw, ?_, _, _, _, rfl, rfl, rfl, ie_pk_add hs ho ha hb k0, ie_pk_oth hP ht (by omega) hs (by omega) k1, ie_pk_oth hP ht (by omega) hs (by omega) k2⟩
    rw [ie_sz_t (by omega), ie_sz_n (by omega), ie_sz_n (by omega)]
    exact q.1
  · rw [if_pos rfl, if_neg (by decide), if_neg (by decide), ie_pk_or hs ho ha hb k1 hx]
    refine ⟨hw, ?_, _, _, _, rfl, rfl, rfl, ie_pk_oth hP ht (by omega) hs (by omega) k0, ie_pk_add hs ho ha hb k1, ie_pk_oth hP ht (by omega) hs (by omega) k2⟩
    rw [ie_sz_t (by omega), ie_sz_n (by omega), ie_sz_n (by omega)]
    exact q.2.1
  · rw [if_pos rfl, if_neg (by decide), if_neg (by decide), ie_pk_or hs ho ha hb k2 hx]
    refine ⟨hw, ?_, _, _, _, rfl, rfl, rfl, ie_pk_oth hP ht (by omega) hs (by omega) k0, ie_pk_oth hP ht (by omega) hs (by omega) k1, ie_pk_add hs ho ha hb k2⟩
    rw [ie_sz_t (by omega), ie_sz_n (by omega), ie_sz_n (by omega)]
    exact q.2.2
theorem ie_tot_e {P : ie_P} {t : Nat} {o a b : Int32} (ht : t < 3) (hs : ie_sz P t < 5) : ie_tot (ie_Pe P t o a b) = ie_tot P + 1 := by
  unfold ie_tot
  have h3 : t = 0 ∨ t = 1 ∨ t = 2 := by omega
  rcases h3 with e | e | e <;> subst e <;> rw [ie_sz_t (by omega), ie_sz_n (by omega), ie_sz_n (by omega)] <;> omega
end
section
/-! the law's first loop, walked -/
theorem ie_w_180 {post : Int32 → Prop} {L : Nat} {xs : Nat → Int32} {J : Int64 → Int64 → Int64 → Int32 → Int32 → Int32 → Int32 → Int32 → Int32 → Int32 → Int32 → Int32 → Int32 → Int32 → Int32 → (Nat → Int32) → (Nat → Int32) → (Nat → Int32) → (Nat → Int32) → (Nat → Int32) → (Nat → Int32) → (Nat → Int32) → (Nat → Int32) → (Nat → Int32) → (Nat → Int32) → (Nat → Int32) → (Nat → Int32) → Prop}
    {x3 x5 x7 x : Int64} {x9 : Int32} {k t kc ks : Nat} {rd cm st fa df lv lx lw ly se : Int32} {a1 a2 a3 a4 a5 a6 a7 a8 a9 a10 a11 a12 : Nat → Int32} (ht : t < 3)
    (H : J (if t = 0 then x3 ||| x else x3) (if t = 1 then x5 ||| x else x5) (if t = 2 then x7 ||| x else x7) (x9 + ((1 : Int32) <<< ((4 * nI t) &&& 31))) (nI (k + 1)) rd cm st fa df lv lx lw ly se a1 a2 a3 a4 a5 a6 a7 a8 a9 a10 a11 a12) :
    (nI t = 0 → wL_law_180 post L xs J x5 x7 x9 (nI k) (nI t) x (x3 ||| x) kc ks rd cm st fa df lv lx lw ly se a1 a2 a3 a4 a5 a6 a7 a8 a9 a10 a11 a12) ∧ (¬ nI t = 0 → wL_law_180 post L xs J x5 x7 x9 (nI k) (nI t) x x3 kc ks rd cm st fa df lv lx lw ly se a1 a2 a3 a4 a5 a6 a7 a8 a9 a10 a11 a12) := by
  have h3 : t = 0 ∨ t = 1 ∨ t = 2 := by omega
  rcases h3 with e | e | e <;> subst e
  · rw [if_pos rfl, if_neg (by decide), if_neg (by decide)] at H
    exact br_t rfl (br_f (by decide) (br_f (by decide) (nm_e (nm_r (nI_1 k) H))))
  · rw [if_pos rfl, if_neg (by decide), if_neg (by decide)] at H
    exact br_f (by decide) (br_t rfl (br_f (by decide) (nm_e (nm_r (nI_1 k) H))))
  · rw [if_pos rfl, if_neg (by decide), if_neg (by decide)] at H
    exact br_f (by decide) (br_f (by decide) (br_t rfl (nm_e (nm_r (nI_1 k) H))))
theorem ie_w_40 {post : Int32 → Prop} {L : Nat} {xs : Nat → Int32} {kc ks : Nat} (hL : L ≤ 260)
    (K : ∀ (P : ie_P) (x3 x5 x7 : Int64) (x9 : Int32) (u : St1), ie_Q P x3 x5 x7 x9 → ie_tot P ≤ 7 → ie_OK P u → ∃ n, wL_law_237 post L xs x3 x5 x7 x9 kc ks n 0 u.1 u.2.1 u.2.2.1 u.2.2.2.1 u.2.2.2.2.1 u.2.2.2.2.2.1 u.2.2.2.2.2.2.1 u.2.2.2.2.2.2.2.1 u.2.2.2.2.2.2.2.2.1 u.2.2.2.2.2.2.2.2.2.1 u.2.2.2.2.2.2.2.2.2.2.1 u.2.2.2.2.2.2.2.2.2.2.2.1 u.2.2.2.2.2.2.2.2.2.2.2.2.1 u.2.2.2.2.2.2.2.2.2.2.2.2.2.1 u.2.2.2.2.2.2.2.2.2.2.2.2.2.2.1 u.2.2.2.2.2.2.2.2.2.2.2.2.2.2.2.1 u.2.2.2.2.2.2.2.2.2.2.2.2.2.2.2.2.1 u.2.2.2.2.2.2.2.2.2.2.2.2.2.2.2.2.2.1 u.2.2.2.2.2.2.2.2.2.2.2.2.2.2.2.2.2.2.1 u.2.2.2.2.2.2.2.2.2.2.2.2.2.2.2.2.2.2.2.1 u.2.2.2.2.2.2.2.2.2.2.2.2.2.2.2.2.2.2.2.2.1 u.2.2.2.2.2.2.2.2.2.2.2.2.2.2.2.2.2.2.2.2.2)
    {u : St1} {P : ie_P} (hQ : ie_Q P 0 0 0 0) (ht : ie_tot P = 0) (hk : ie_OK P u) : ∃ n, wL_law_40 post L xs kc ks n 0 0 0 0 0 u.1 u.2.1 u.2.2.1 u.2.2.2.1 u.2.2.2.2.1 u.2.2.2.2.2.1 u.2.2.2.2.2.2.1 u.2.2.2.2.2.2.2.1 u.2.2.2.2.2.2.2.2.1 u.2.2.2.2.2.2.2.2.2.1 u.2.2.2.2.2.2.2.2.2.2.1 u.2.2.2.2.2.2.2.2.2.2.2.1 u.2.2.2.2.2.2.2.2.2.2.2.2.1 u.2.2.2.2.2.2.2.2.2.2.2.2.2.1 u.2.2.2.2.2.2.2.2.2.2.2.2.2.2.1 u.2.2.2.2.2.2.2.2.2.2.2.2.2.2.2.1 u.2.2.2.2.2.2.2.2.2.2.2.2.2.2.2.2.1 u.2.2.2.2.2.2.2.2.2.2.2.2.2.2.2.2.2.1 u.2.2.2.2.2.2.2.2.2.2.2.2.2.2.2.2.2.2.1 u.2.2.2.2.2.2.2.2.2.2.2.2.2.2.2.2.2.2.2.1 u.2.2.2.2.2.2.2.2.2.2.2.2.2.2.2.2.2.2.2.2.1 u.2.2.2.2.2.2.2.2.2.2.2.2.2.2.2.2.2.2.2.2.2 := by
  refine pk_loop (σ := Int64 × Int64 × Int64 × Int32 × St1) (fun n i s => wL_law_40 post L xs kc ks n s.1 s.2.1 s.2.2.1 s.2.2.2.1 (nI i) s.2.2.2.2.1 s.2.2.2.2.2.1 s.2.2.2.2.2.2.1 s.2.2.2.2.2.2.2.1 s.2.2.2.2.2.2.2.2.1 s.2.2.2.2.2.2.2.2.2.1 s.2.2.2.2.2.2.2.2.2.2.1 s.2.2.2.2.2.2.2.2.2.2.2.1 s.2.2.2.2.2.2.2.2.2.2.2.2.1 s.2.2.2.2.2.2.2.2.2.2.2.2.2.1 s.2.2.2.2.2.2.2.2.2.2.2.2.2.2.1 s.2.2.2.2.2.2.2.2.2.2.2.2.2.2.2.1 s.2.2.2.2.2.2.2.2.2.2.2.2.2.2.2.2.1 s.2.2.2.2.2.2.2.2.2.2.2.2.2.2.2.2.2.1 s.2.2.2.2.2.2.2.2.2.2.2.2.2.2.2.2.2.2.1 s.2.2.2.2.2.2.2.2.2.2.2.2.2.2.2.2.2.2.2.1 s.2.2.2.2.2.2.2.2.2.2.2.2.2.2.2.2.2.2.2.2.1 s.2.2.2.2.2.2.2.2.2.2.2.2.2.2.2.2.2.2.2.2.2.1 s.2.2.2.2.2.2.2.2.2.2.2.2.2.2.2.2.2.2.2.2.2.2.1 s.2.2.2.2.2.2.2.2.2.2.2.2.2.2.2.2.2.2.2.2.2.2.2.1 s.2.2.2.2.2.2.2.2.2.2.2.2.2.2.2.2.2.2.2.2.2.2.2.2.1 s.2.2.2.2.2.2.2.2.2.2.2.2.2.2.2.2.2.2.2.2.2.2.2.2.2)
    (fun i s => ∃ P, ie_Q P s.1 s.2.1 s.2.2.1 s.2.2.2.1 ∧ ie_tot P ≤ i ∧ ie_tot P ≤ 7 ∧ ie_OK P s.2.2.2.2) 9 0 (0, 0, 0, 0, u) (by omega) ⟨P, hQ, by omega, by omega, hk⟩ ?_ ?_
  · intro n s h
    obtain ⟨P, h1, _, h3, h4⟩ := h
    exact pk_le 9 9 (fun _ => K P _ _ _ _ _ h1 h3 h4) (fun z => absurd z (by omega))
  · intro n i s hi h hw
    obtain ⟨x3, x5, x7, x9, ⟨xrd, xcm, xst, xfa, xdf, xlv, xlx, xlw, xly, xse, xa1, xa2, xa3, xa4, xa5, xa6, xa7, xa8, xa9, xa10, xa11, xa12⟩⟩ := s
    obtain ⟨P, h1, h2, h3, h4⟩ := h
    show wL_law_40 post L xs kc ks (n + 1) x3 x5 x7 x9 (nI i) xrd xcm xst xfa xdf xlv xlx xlw xly xse xa1 xa2 xa3 xa4 xa5 xa6 xa7 xa8 xa9 xa10 xa11 xa12
    have hw' : ∀ (P : ie_P) (x3 x5 x7 : Int64) (x9 : Int32) (yrd ycm yst yfa ydf ylv ylx ylw yly yse : Int32) (ya1 ya2 ya3 ya4 ya5 ya6 ya7 ya8 ya9 ya10 ya11 ya12 : Nat → Int32), ie_Q P x3 x5 x7 x9 → ie_tot P ≤ i + 1 → ie_tot P ≤ 7 → ie_OK P (yrd, ycm, yst, yfa, ydf, ylv, ylx, ylw, yly, yse, ya1, ya2, ya3, ya4, ya5, ya6, ya7, ya8, ya9, ya10, ya11, ya12) → wL_law_40 post L xs kc ks n x3 x5 x7 x9 (nI (i + 1)) yrd ycm yst yfa ydf ylv ylx ylw yly yse ya1 ya2 ya3 ya4 ya5 ya6 ya7 ya8 ya9 ya10 ya11 ya12 :=
      fun P x3 x5 x7 x9 yrd ycm yst yfa ydf ylv ylx ylw yly yse ya1 ya2 ya3 ya4 ya5 ya6 ya7 ya8 ya9 ya10 ya11 ya12 q1 q2 q3 q4 => hw (x3, x5, x7, x9, (yrd, ycm, yst, yfa, ydf, ylv, ylx, ylw, yly, yse, ya1, ya2, ya3, ya4, ya5, ya6, ya7, ya8, ya9, ya10, ya11, ya12)) ⟨P, q1, q2, q3, q4⟩
    have h1' : ie_Q P x3 x5 x7 x9 := h1
    have h4' : ie_OK P (xrd, xcm, xst, xfa, xdf, xlv, xlx, xlw, xly, xse, xa1, xa2, xa3, xa4, xa5, xa6, xa7, xa8, xa9, xa10, xa11, xa12) := h4
    obtain ⟨eP, k5, kr⟩ := h4'
    refine pk_le 9 i (fun z => absurd z (by omega)) (fun _ => ie_w_cell hL (by omega) (fun r => ⟨by decide, ?_⟩))
    obtain ⟨t, ht, et⟩ := ie_rem3 (r >>> ((20 : Int32) &&& 31))
    obtain ⟨o, ho, eo⟩ := ie_rem9 r
    obtain ⟨a, ha, ea⟩ := pk_andE (r >>> ((8 : Int32) &&& 31)) (m := 3) 2 (by decide)
    obtain ⟨b, hb, eb⟩ := pk_andE (r >>> ((10 : Int32) &&& 31)) (m := 7) 3 (by decide)
    have ha' : a < 4 := ha
    have hb' : b < 8 := hb
    have en : (x9 >>> ((4 * nI t) &&& 31)) &&& 15 = nI (ie_sz P t) := by
      rw [h1'.2.1]
      exact ie_f4_sz h1'.1 ht
    refine nm_r et ⟨by decide, nm_r eo (nm_r ea (nm_r (by rw [eb]) (nm_r en ?_)))⟩
    refine ie_w_cell (k := 9) hL (by omega) (fun r2 => ?_)
    obtain ⟨j, hj, ej⟩ := pk_andE r2 (m := 3) 2 (by decide)
    have hj' : j < 4 := hj
    have e4 : 4 + (r2 &&& 3) = nI (4 + j) := by
      rw [ej]
      exact nI_add 4 j
    rw [e4]
    refine pk_le (4 + j) i (fun z => nm_r (nI_1 i) (hw' P x3 x5 x7 x9 xrd xcm xst xfa xdf xlv xlx xlw xly xse xa1 xa2 xa3 xa4 xa5 xa6 xa7 xa8 xa9 xa10 xa11 xa12 h1' (by omega) h3 h4)) (fun z => ?_)
    have hs : ie_sz P t ≤ 5 := (h1'.1 t ht).2
    subst eP
    refine ie_w_emit (t := t) (o := o) h1'.1 ht ho (by omega) (fun q => br_f (nI_nle (by omega) (by omega)) (nm_e (ie_w_180 ht ?_))) (fun q => br_t (by decide) (nm_r (nI_1 i) (hw' _ x3 x5 x7 x9 xrd xcm xst xfa xdf xlv xlx xlw xly xse xa1 xa2 xa3 xa4 xa5 xa6 xa7 xa8 xa9 xa10 xa11 xa12 h1' (by omega) h3 ⟨rfl, k5, kr⟩)))
    refine hw' (ie_Pe (xa1, xa2, xa3, xa4) t (nI o) (nI a) (nI b - 2)) _ _ _ _ _ _ _ _ _ _ _ _ _ _ _ _ _ _ _ _ _ _ _ _ _ _ (ie_Q_add ht q (by omega) ha' hb' h1' rfl) ?_ ?_ ⟨rfl, k5, Or.inl rfl⟩
    · rw [ie_tot_e ht q]
      omega
    · rw [ie_tot_e ht q]
      omega
end
section
/-! the values stay within six bits -/
def ie_dn (c : ie_C) : Nat := ie_pc c 0 + (ie_pc c 1 + ie_pc c 2)
def ie_rv (d : Nat) (x : Int) : Prop := -2 * (d : Int) ≤ x ∧ (x ≤ 0 ∨ x ≤ 5 * (d : Int) - 2) ∧ (x ≤ 20 ∨ x ≤ 5 * (d : Int) - 12)
def ie_rr (d p : Nat) (x : Int) : Prop := -2 * (d : Int) ≤ x ∧ (x ≤ 5 * (p : Int) ∨ x ≤ 5 * (d : Int) - 7)
def ie_Rg (c : ie_C) : Prop := (∀ k, k < 4 → ie_rv (ie_dn c) (c k).toInt) ∧ (∀ t, t < 3 → ∀ j, j < 2 → ie_rr (ie_dn c) (ie_pc c t) (c (4 + t * 2 + j)).toInt)
theorem ie_Rg_in6 {c : ie_C} (h : ie_Rg c) (hd : ie_dn c ≤ 7) (hp : ∀ t, t < 3 → ie_pc c t ≤ 5) : ∀ k, k < 10 → ie_in6 (c k) := by
  intro k hk
  by_cases k4 : k < 4
  · obtain ⟨h1, h2, h3⟩ := h.1 k k4
    unfold ie_in6
    omega
  · obtain ⟨h1, h2⟩ := h.2 ((k - 4) / 2) (by omega) ((k - 4) % 2) (by omega)
    have hp' := hp ((k - 4) / 2) (by omega)
    rw [show 4 + (k - 4) / 2 * 2 + (k - 4) % 2 = k by omega] at h1 h2
    unfold ie_in6
    omega
/-- what a step may write -/
theorem ie_rv_mono {d : Nat} {x : Int} (h : ie_rv d x) : ie_rv (d + 1) x := by
  unfold ie_rv at *
  omega
theorem ie_rr_mono {d p q : Nat} {x : Int} (hq : p ≤ q) (h : ie_rr d p x) : ie_rr (d + 1) q x := by
  unfold ie_rr at *
  omega
theorem ie_rr_rd {d p : Nat} {x : Int} (h : ie_rv d x) : ie_rr (d + 1) p x := by
  unfold ie_rr ie_rv at *
  omega
theorem ie_rv_wr {d p : Nat} {x : Int} (hp : p ≤ 4) (hd : p ≤ d) (h : ie_rr d p x) : ie_rv (d + 1) x := by
  unfold ie_rr ie_rv at *
  omega
theorem ie_rr_add {d p : Nat} {x y : Int} (h : ie_rr d p x) (h1 : -2 ≤ y) (h2 : y ≤ 5) : ie_rr (d + 1) (p + 1) (x + y) := by
  unfold ie_rr at *
  omega
theorem ie_rv_set {d : Nat} {x : Int} (h1 : 0 ≤ x) (h2 : x ≤ 3) : ie_rv (d + 1) x := by
  unfold ie_rv
  omega
theorem ie_add_int {x y : Int32} (h1 : -100 ≤ x.toInt) (h2 : x.toInt ≤ 100) (h3 : -100 ≤ y.toInt) (h4 : y.toInt ≤ 100) : (x + y).toInt = x.toInt + y.toInt := by
  rw [Int32.toInt_add, Int.bmod_eq_of_le (by omega) (by omega)]
theorem ie_bb_int {b : Nat} (h : b < 8) : (nI b - 2).toInt = (b : Int) - 2 := pk_sub_toInt (a := b) (b := 2) (by omega) (by decide)
theorem ie_Rg_stp {P : ie_P} {c : ie_C} {t : Nat} (hP : ie_wfP P) (hc : ie_wf P c) (ht : t < 3) (hh : ie_has P c t = true) (hd : ie_dn c ≤ 7) (hR : ie_Rg c) {a b : Nat} (ha : a < 4) (hb : b < 8)
    (ea : ie_aa P (ie_ix c t) = nI a) (eb : ie_bb P (ie_ix c t) = nI b - 2) : ie_Rg (ie_stp P c t) ∧ ie_dn (ie_stp P c t) = ie_dn c + 1 := by
  have hlt : ie_pc c t < ie_sz P t := of_decide_eq_true hh
  have h5 := (hP t ht).2
  obtain ⟨_, e2⟩ := ie_pc_stp hP hc ht hh
  have dn : ie_dn (ie_stp P c t) = ie_dn c + 1 := by
    unfold ie_dn
    have h3 : t = 0 ∨ t = 1 ∨ t = 2 := by omega
    rcases h3 with e | e | e <;> subst e
    · rw [e2, ie_pc_oth' (u := 1) ht (by omega) (by omega), ie_pc_oth' (u := 2) ht (by omega) (by omega)]
      omega
    · rw [e2, ie_pc_oth' (u := 0) ht (by omega) (by omega), ie_pc_oth' (u := 2) ht (by omega) (by omega)]
      omega
    · rw [e2, ie_pc_oth' (u := 0) ht (by omega) (by omega), ie_pc_oth' (u := 1) ht (by omega) (by omega)]
      omega
  have ple : ie_pc c t ≤ ie_dn c := by
    unfold ie_dn
    have h3 : t = 0 ∨ t = 1 ∨ t = 2 := by omega
    rcases h3 with e | e | e <;> subst e <;> omega
  have pm : ∀ u, u < 3 → ie_pc c u ≤ ie_pc (ie_stp P c t) u := by
    intro u hu
    by_cases e : u = t
    · rw [e, e2]
      omega
    · rw [ie_pc_oth' ht hu e]
      exact Nat.le_refl _
  refine ⟨?_, dn⟩
  obtain ⟨r1, r2⟩ := hR
  have inc : ∀ k, k < 10 → ie_inc c t k = c k := fun k hk => pk_un (by omega)
  have es : ie_stp P c t = ie_mv P (ie_inc c t) t (ie_ix c t) := rfl
  have la := ie_la_lt P (ie_ix c t)
  have vb := ie_vb_lt P (ie_ix c t)
  have rt := r2 t ht (ie_la P (ie_ix c t)) la
  have rv := r1 (ie_vb P (ie_ix c t)) vb
  have main : (∀ k, k < 4 → ie_stp P c t k = c k ∨ ie_rv (ie_dn c + 1) (ie_stp P c t k).toInt) ∧ (∀ k, 4 ≤ k → k < 10 → ie_stp P c t k = c k ∨ (k = 4 + t * 2 + ie_la P (ie_ix c t) ∧ ie_rr (ie_dn c + 1) (ie_pc c t + 1) (ie_stp P c t k).toInt)) := by
    rw [es]
    revert rt rv la vb ea eb
    generalize ie_ix c t = i
    intro ea eb la vb rt rv
    have iv : ie_inc c t (ie_vb P i) = c (ie_vb P i) := inc _ (by omega)
    have ir : ie_inc c t (4 + t * 2 + ie_la P i) = c (4 + t * 2 + ie_la P i) := inc _ (by omega)
    by_cases h0 : ie_op P i = 0
    · rw [ie_mv_0 h0, iv]
      refine ⟨fun k hk => Or.inl ?_, fun k hk1 hk2 => ?_⟩
      · rw [pk_un (by omega), inc k (by omega)]
      · by_cases e : k = 4 + t * 2 + ie_la P i
        · refine Or.inr ⟨e, ?_⟩
          rw [e, pk_us]
          exact ie_rr_rd rv
        · rw [pk_un e, inc k hk2]
          exact Or.inl rfl
    by_cases h1 : ie_op P i = 1
    · rw [ie_mv_1 h1, ir]
      refine ⟨fun k hk => ?_, fun k hk1 hk2 => Or.inl ?_⟩
      · by_cases e : k = ie_vb P i
        · rw [e, pk_us]
          exact Or.inr (ie_rv_wr (by omega) ple rt)
        · rw [pk_un e, inc k (by omega)]
          exact Or.inl rfl
      · rw [pk_un (by omega), inc k (by omega)]
    by_cases h2 : ie_op P i = 2
    · rw [ie_mv_2 h2, ir]
      refine ⟨fun k hk => Or.inl ?_, fun k hk1 hk2 => ?_⟩
      · rw [pk_un (by omega), inc k (by omega)]
      · by_cases e : k = 4 + t * 2 + ie_la P i
        · refine Or.inr ⟨e, ?_⟩
          have eq := ie_bb_int hb
          rw [← eb] at eq
          have rt' := rt
          unfold ie_rr at rt'
          rw [e, pk_us, ie_add_int (by omega) (by omega) (by omega) (by omega)]
          exact ie_rr_add rt (by omega) (by omega)
        · rw [pk_un e, inc k hk2]
          exact Or.inl rfl
    by_cases h3 : ie_op P i = 3
    · rw [ie_mv_3 h3]
      refine ⟨fun k hk => ?_, fun k hk1 hk2 => Or.inl ?_⟩
      · by_cases e : k = ie_vb P i
        · rw [e, pk_us, ea, nI_toInt (by omega)]
          exact Or.inr (ie_rv_set (by omega) (by omega))
        · rw [pk_un e, inc k (by omega)]
          exact Or.inl rfl
      · rw [pk_un (by omega), inc k (by omega)]
    by_cases h4 : ie_op P i = 4
    · rw [ie_mv_4 h4]
      exact ⟨fun k hk => Or.inl (by rw [pk_un (by omega), inc k (by omega)]), fun k _ hk => Or.inl (by rw [pk_un (by omega), inc k (by omega)])⟩
    by_cases h5 : ie_op P i = 5
    · rw [ie_mv_5 h5]
      by_cases g : ie_inc c t (13 + ie_la P i) = nI t + 1
      · rw [if_pos g]
        exact ⟨fun k hk => Or.inl (by rw [pk_un (by omega), inc k (by omega)]), fun k _ hk => Or.inl (by rw [pk_un (by omega), inc k (by omega)])⟩
      · rw [if_neg g]
        exact ⟨fun k hk => Or.inl (inc k (by omega)), fun k _ hk => Or.inl (inc k hk)⟩
    by_cases h7 : ie_op P i = 7
    · rw [ie_mv_7 h7, iv, ir]
      refine ⟨fun k hk => ?_, fun k hk1 hk2 => ?_⟩
      · by_cases e : k = ie_vb P i
        · rw [e, pk_us]
          exact Or.inr (ie_rv_wr (by omega) ple rt)
        · rw [pk_un e, pk_un (by omega), inc k (by omega)]
          exact Or.inl rfl
      · by_cases e : k = 4 + t * 2 + ie_la P i
        · refine Or.inr ⟨e, ?_⟩
          rw [pk_un (by omega), e, pk_us]
          exact ie_rr_rd rv
        · rw [pk_un (by omega), pk_un e, inc k hk2]
          exact Or.inl rfl
    rw [ie_mv_none h0 h1 h2 h3 h4 h5 h7]
    exact ⟨fun k hk => Or.inl (inc k (by omega)), fun k _ hk => Or.inl (inc k hk)⟩
  unfold ie_Rg
  rw [dn]
  refine ⟨fun k hk => ?_, fun u hu j hj => ?_⟩
  · rcases main.1 k hk with e | e
    · rw [e]
      exact ie_rv_mono (r1 k hk)
    · exact e
  · rcases main.2 (4 + u * 2 + j) (by omega) (by omega) with e | ⟨e1, e⟩
    · rw [e]
      exact ie_rr_mono (pm u hu) (r2 u hu j hj)
    · have hu' : u = t := by omega
      rw [hu', e2]
      rw [hu'] at e
      exact e
theorem ie_Rg0 : ie_Rg ie_c0 := by
  unfold ie_Rg
  refine ⟨fun k _ => ?_, fun t _ j _ => ?_⟩
  · have e : (ie_c0 k).toInt = 0 := rfl
    rw [e]
    unfold ie_rv
    omega
  · have e : (ie_c0 (4 + t * 2 + j)).toInt = 0 := rfl
    rw [e]
    unfold ie_rr
    omega
theorem ie_run_len {P : ie_P} (hP : ie_wfP P) : ∀ (w : List Nat) (c : ie_C) (e : ie_E), ie_wf P c → ie_run P w c e → w.length ≤ ie_rem P c := by
  intro w
  induction w with
  | nil => intro c e _ _; exact Nat.zero_le _
  | cons t w ih =>
    intro c e hc hr
    obtain ⟨ht, hg, hd⟩ := hr
    have hh := ie_go_has hg
    have h1 := ie_rem_stp hP hc ht hh
    rcases hd with ⟨_, hw, _⟩ | ⟨_, hr⟩
    · rw [hw]
      simp only [List.length_cons, List.length_nil]
      omega
    · have h2 := ih _ _ (ie_wf_stp hP hc ht hh) hr
      simp only [List.length_cons]
      omega
def ie_Good (P : ie_P) (c : ie_C) : Prop := ∀ (w : List Nat) (e : ie_E), ie_run P w c e → e ∈ ie_ev P
theorem ie_Good0 {P : ie_P} (hP : ie_wfP P) (hs : ie_tot P ≤ 7) : ie_Good P ie_c0 := by
  intro w e hr
  have hl := ie_run_len hP w ie_c0 e (ie_wf0 P) hr
  rw [ie_rem0] at hl
  exact ie_complete P 8 w ie_c0 ie_Z0 e hr (by omega) (fun u _ z => absurd z (by unfold ie_Z0; decide))
end
section
/-! the law's own run: its packed state against a configuration -/
def ie_R (s : Int64) (c : ie_C) : Prop := ∀ k, k < 10 → ie_gv s k = c k
def ie_lkv (f : Nat) : Int32 := if f = 3 then 0 else nI f + 1
def ie_RL (x : Int32) (c : ie_C) : Prop := ∃ f g : Nat, f < 4 ∧ g < 4 ∧ x = nI (f + 4 * g) ∧ c 13 = ie_lkv f ∧ c 14 = ie_lkv g
theorem ie_R_upd {s : Int64} {c : ie_C} {i : Nat} {v : Int32} (hi : i < 10) (hv : ie_in6 v) (h : ie_R s c) : ie_R (ie_sv s i v) (upd c i v) := by
  intro k hk
  by_cases e : k = i
  · subst e
    rw [pk_us, ie_gv_same s hk hv]
  · rw [pk_un e, ie_gv_other s hi hk hv e]
    exact h k hk
/-- an instruction in the law's form -/
def ie_inst (P : ie_P) (i : Nat) (x : Int32) : Prop := ∃ o a b : Nat, o < 9 ∧ a < 4 ∧ b < 8 ∧ ie_op P i = nI o ∧ ie_aa P i = nI a ∧ ie_bb P i = nI b - 2 ∧ x = nI (ie_enc o a b)
theorem ie_inst_e {P : ie_P} {i : Nat} {x : Int32} (h : ie_inst P i x) : x &&& 15 = ie_op P i ∧ (x >>> ((4 : Int32) &&& 31)) &&& 3 = ie_aa P i ∧ ((x >>> ((6 : Int32) &&& 31)) &&& 7) - 2 = ie_bb P i ∧ (x >>> ((4 : Int32) &&& 31)) &&& 1 = nI (ie_la P i) ∧ ie_aa P i &&& 1 = nI (ie_la P i) ∧ ie_aa P i &&& 3 = nI (ie_va P i) ∧ ie_bb P i &&& 3 = nI (ie_vb P i) := by
  obtain ⟨o, a, b, ho, ha, hb, e1, e2, e3, ex⟩ := h
  obtain ⟨d1, d2, d3, d4⟩ := ie_dec o ho a ha b hb
  have l1 : ie_aa P i &&& 1 = nI (ie_la P i) := (ie_and1 _).2
  subst ex
  refine ⟨by rw [d1, e1], by rw [d2, e2], by rw [d3, e3], by rw [d4, ← e2, l1], l1, (ie_and3 _).2, (ie_and3 _).2⟩
theorem ie_w_carried {post : Int64 → Prop} {P : ie_P} {s : Int64} {c : ie_C} {t i : Nat} {x : Int32} (ht : t < 3) (hx : ie_inst P i x) (hR : ie_R s c) (h6 : ∀ k, k < 10 → ie_in6 (ie_mv P c t i k))
    (H : ∀ s', ie_R s' (ie_mv P c t i) → post s') : wpL_carried post () x s (nI t) := by
  unfold wpL_carried
  obtain ⟨d1, d2, d3, _, l1, l2, l3⟩ := ie_inst_e hx
  have la := ie_la_lt P i
  have vb := ie_vb_lt P i
  have eR : 4 + 2 * nI t + nI (ie_la P i) = nI (4 + t * 2 + ie_la P i) := by
    rw [show (4 : Int32) = nI 4 from rfl, show (2 : Int32) = nI 2 from rfl, pk_mul, nI_add, nI_add, Nat.mul_comm 2 t]
  refine nm_r d1 (nm_r d2 (nm_r d3 (nm_r (by rw [l1, eR]) (nm_r l3 (ie_w_get (ie_w_get ?_))))))
  rw [hR _ (show 4 + t * 2 + ie_la P i < 10 by omega), hR _ (show ie_vb P i < 10 by omega)]
  refine br_c (fun h => ie_w_set (H _ ?_)) (fun h0 => ?_)
  · have q := h6 (4 + t * 2 + ie_la P i) (by omega)
    rw [ie_mv_0 h] at q ⊢
    rw [pk_us] at q
    exact ie_R_upd (by omega) q hR
  refine br_c (fun h => ie_w_set (H _ ?_)) (fun h1 => ?_)
  · have q := h6 (ie_vb P i) (by omega)
    rw [ie_mv_1 h] at q ⊢
    rw [pk_us] at q
    exact ie_R_upd (by omega) q hR
  refine br_c (fun h => ie_w_set (H _ ?_)) (fun h2 => ?_)
  · have q := h6 (4 + t * 2 + ie_la P i) (by omega)
    rw [ie_mv_2 h] at q ⊢
    rw [pk_us] at q
    exact ie_R_upd (by omega) q hR
  refine br_c (fun h => ie_w_set (H _ ?_)) (fun h3 => ?_)
  · have q := h6 (ie_vb P i) (by omega)
    rw [ie_mv_3 h] at q ⊢
    rw [pk_us] at q
    exact ie_R_upd (by omega) q hR
  refine br_c (fun h => ie_w_set (ie_w_set (H _ ?_))) (fun h7 => H _ ?_)
  · have q := h6 (ie_vb P i) (by omega)
    have q2 := h6 (4 + t * 2 + ie_la P i) (by omega)
    rw [ie_mv_7 h] at q q2 ⊢
    rw [pk_us] at q
    rw [pk_un (by omega), pk_us] at q2
    exact ie_R_upd (by omega) q (ie_R_upd (by omega) q2 hR)
  · by_cases h4 : ie_op P i = 4
    · rw [ie_mv_4 h4]
      intro k hk
      rw [pk_un (by omega)]
      exact hR k hk
    by_cases h5 : ie_op P i = 5
    · rw [ie_mv_5 h5]
      by_cases g : c (13 + ie_la P i) = nI t + 1
      · rw [if_pos g]
        intro k hk
        rw [pk_un (by omega)]
        exact hR k hk
      · rw [if_neg g]
        exact hR
    rw [ie_mv_none h0 h1 h2 h3 h4 h5 h7]
    exact hR
theorem ie_d_lk : ∀ f, f < 4 → ∀ g, g < 4 →
    (((nI (f + 4 * g) >>> ((2 * nI 0) &&& 31)) &&& 3 = nI f) ∧ ((nI (f + 4 * g) >>> ((2 * nI 1) &&& 31)) &&& 3 = nI g)) ∧
    ((nI (f + 4 * g) ||| ((3 : Int32) <<< ((2 * nI 0) &&& 31)) = nI (3 + 4 * g)) ∧ (nI (f + 4 * g) ||| ((3 : Int32) <<< ((2 * nI 1) &&& 31)) = nI (f + 4 * 3))) ∧
    (∀ t, t < 3 → ((nI (f + 4 * g) &&& (((3 : Int32) <<< ((2 * nI 0) &&& 31)) ^^^ (-1))) ||| (nI t <<< ((2 * nI 0) &&& 31)) = nI (t + 4 * g)) ∧ ((nI (f + 4 * g) &&& (((3 : Int32) <<< ((2 * nI 1) &&& 31)) ^^^ (-1))) ||| (nI t <<< ((2 * nI 1) &&& 31)) = nI (f + 4 * t))) := by decide +kernel
theorem ie_lkv_t : ∀ f, f < 4 → ((ie_lkv f = 0 ↔ nI f = 3) ∧ ∀ t, t < 3 → (ie_lkv f = nI t + 1 ↔ nI f = nI t) ∧ ie_lkv t = nI t + 1) := by decide +kernel
/-- a lock of the packed pair: read, taken, given back -/
theorem ie_RL_at {x : Int32} {c : ie_C} {m : Nat} (hm : m < 2) (h : ie_RL x c) : ∃ f : Nat, f < 4 ∧ (x >>> ((2 * nI m) &&& 31)) &&& 3 = nI f ∧ c (13 + m) = ie_lkv f := by
  obtain ⟨f, g, hf, hg, e, e1, e2⟩ := h
  subst e
  obtain ⟨⟨q1, q2⟩, _⟩ := ie_d_lk f hf g hg
  have h2 : m = 0 ∨ m = 1 := by omega
  rcases h2 with e | e <;> subst e
  · exact ⟨f, hf, q1, e1⟩
  · exact ⟨g, hg, q2, e2⟩
theorem ie_RL_set {x : Int32} {c : ie_C} {m t : Nat} (hm : m < 2) (ht : t < 3) (h : ie_RL x c) : ie_RL ((x &&& (((3 : Int32) <<< ((2 * nI m) &&& 31)) ^^^ (-1))) ||| (nI t <<< ((2 * nI m) &&& 31))) (upd c (13 + m) (nI t + 1)) := by
  obtain ⟨f, g, hf, hg, e, e1, e2⟩ := h
  subst e
  obtain ⟨_, _, q⟩ := ie_d_lk f hf g hg
  obtain ⟨q1, q2⟩ := q t ht
  have lt := ((ie_lkv_t t (by omega)).2 t ht).2
  have h2 : m = 0 ∨ m = 1 := by omega
  rcases h2 with e | e <;> subst e
  · exact ⟨t, g, by omega, hg, q1, by rw [lt]; exact pk_us, (pk_un (by omega)).trans e2⟩
  · exact ⟨f, t, hf, by omega, q2, (pk_un (by omega)).trans e1, by rw [lt]; exact pk_us⟩
theorem ie_RL_free {x : Int32} {c : ie_C} {m : Nat} (hm : m < 2) (h : ie_RL x c) : ie_RL (x ||| ((3 : Int32) <<< ((2 * nI m) &&& 31))) (upd c (13 + m) 0) := by
  obtain ⟨f, g, hf, hg, e, e1, e2⟩ := h
  subst e
  obtain ⟨_, ⟨q1, q2⟩, _⟩ := ie_d_lk f hf g hg
  have l3 : ie_lkv 3 = 0 := rfl
  have h2 : m = 0 ∨ m = 1 := by omega
  rcases h2 with e | e <;> subst e
  · exact ⟨3, g, by omega, hg, q1, by rw [l3]; exact pk_us, (pk_un (by omega)).trans e2⟩
  · exact ⟨f, 3, hf, by omega, q2, (pk_un (by omega)).trans e1, by rw [l3]; exact pk_us⟩
theorem ie_RL_same {x : Int32} {c d : ie_C} (h : ie_RL x c) (h1 : d 13 = c 13) (h2 : d 14 = c 14) : ie_RL x d := by
  obtain ⟨f, g, hf, hg, e, e1, e2⟩ := h
  exact ⟨f, g, hf, hg, e, h1.trans e1, h2.trans e2⟩
theorem ie_w_locked {post : Int32 → Prop} {P : ie_P} {c : ie_C} {t i : Nat} {x y : Int32} (ht : t < 3) (hx : ie_inst P i x) (hL : ie_RL y c)
    (H : ∀ y', ie_RL y' (ie_mv P c t i) → post y') : wpL_locked post () x y (nI t) := by
  unfold wpL_locked
  obtain ⟨d1, _, _, d4, _, _, _⟩ := ie_inst_e hx
  have la := ie_la_lt P i
  have vb := ie_vb_lt P i
  obtain ⟨f, hf, ef, el⟩ := ie_RL_at la hL
  refine nm_r d1 (nm_r (by rw [d4]) (nm_r ef ?_))
  refine br_c (fun h4 => H _ ?_) (fun h4 => br_c (fun h5 => br_c (fun g => H _ ?_) (fun g => H _ ?_)) (fun h5 => H _ ?_))
  · rw [ie_mv_4 h4]
    exact ie_RL_set la ht hL
  · rw [ie_mv_5 h5, if_pos (by rw [el]; exact ((ie_lkv_t f hf).2 t ht).1.mpr g)]
    exact ie_RL_free la hL
  · rw [ie_mv_5 h5, if_neg (by rw [el]; exact fun z => g (((ie_lkv_t f hf).2 t ht).1.mp z))]
    exact hL
  · have fr : ∀ k, 10 ≤ k → ie_mv P c t i k = c k := by
      intro k hk
      refine ie_mv_fr (by omega) (fun z => ?_)
      rcases z.1 with ⟨_, e⟩ | ⟨_, e⟩ | ⟨e, _⟩
      · omega
      · have := ie_va_lt P i
        omega
      · exact e.elim h4 h5
    exact ie_RL_same hL (fr 13 (by omega)) (fr 14 (by omega))
theorem ie_w_lgo {post : Int32 → Prop} {P : ie_P} {s : Int64} {c : ie_C} {i : Nat} {x y : Int32} (hx : ie_inst P i x) (hR : ie_R s c) (hL : ie_RL y c)
    (H1 : ie_goI P c i = true → post 1) (H0 : ie_goI P c i = false → post 0) : wpL_canGo post () x s y := by
  unfold wpL_canGo
  obtain ⟨d1, d2, d3, _, l1, l2, _⟩ := ie_inst_e hx
  have la := ie_la_lt P i
  have va := ie_va_lt P i
  obtain ⟨f, hf, ef, el⟩ := ie_RL_at la hL
  unfold ie_goI at H1 H0
  refine nm_r d1 (nm_r d2 (nm_r d3 ?_))
  rw [l1, l2, ef]
  refine br_c (fun h4 => ?_) (fun h4 => br_c (fun h8 => ie_w_get ?_) (fun h8 => ?_))
  · rw [if_pos h4, el] at H1 H0
    exact ek_if (ie_lkv_t f hf).1.symm (fun z => H1 (decide_eq_true z)) (fun z => H0 (decide_eq_false z))
  · rw [if_neg h4, if_pos h8] at H1 H0
    rw [hR _ (by omega)]
    exact br_c (fun z => H1 (decide_eq_true z)) (fun z => H0 (decide_eq_false z))
  · rw [if_neg h4, if_neg h8] at H1
    exact H1 rfl
end
section
/-! the law's long loop -/
def ie_cfg (P : ie_P) (s : Int64) (x12 x13 : Int32) (c : ie_C) : Prop := ie_wf P c ∧ ie_R s c ∧ ie_RL x12 c ∧ x13 = ie_f4 (ie_pc c 0) (ie_pc c 1) (ie_pc c 2) ∧ ie_Rg c ∧ ie_Good P c
def ie_I (P : ie_P) (s : Int64) (x12 x13 x14 : Int32) : Prop := (x14 = 0 ∧ ∃ c, ie_cfg P s x12 x13 c) ∨ (x14 = 1 ∧ ∃ t, t < 3 ∧ ie_fails P t)
theorem ie_dn_le {P : ie_P} {c : ie_C} (hc : ie_wf P c) : ie_dn c ≤ ie_tot P := by
  have h0 := (hc 0 (by omega)).2
  have h1 := (hc 1 (by omega)).2
  have h2 := (hc 2 (by omega)).2
  unfold ie_dn ie_tot
  omega
theorem ie_pc_le {P : ie_P} {c : ie_C} (hP : ie_wfP P) (hc : ie_wf P c) : ∀ t, t < 3 → ie_pc c t ≤ 5 := by
  intro t ht
  have h1 := (hP t ht).2
  have h2 := (hc t ht).2
  omega
/-- the step keeps all of it -/
theorem ie_cfg_stp {P : ie_P} {s s' : Int64} {x12 x12' x13 x20 : Int32} {c : ie_C} {t : Nat} (hP : ie_wfP P) (hs : ie_tot P ≤ 7) (ht : t < 3) (h : ie_cfg P s x12 x13 c) (hg : ie_go P c t = true) (hb : ie_bad P c t = false) (hx : ie_inst P (ie_ix c t) x20)
    (h1 : ie_R s' (ie_stp P c t)) (h2 : ie_RL x12' (ie_stp P c t)) : ie_cfg P s' x12' (x13 + ((1 : Int32) <<< ((4 * nI t) &&& 31))) (ie_stp P c t) := by
  obtain ⟨hc, hR, hL, e13, hRg, hG⟩ := h
  have hh := ie_go_has hg
  obtain ⟨o, a, b, ho, ha, hb', eo, ea, eb, ex⟩ := hx
  have hd := ie_dn_le hc
  obtain ⟨_, e2⟩ := ie_pc_stp hP hc ht hh
  refine ⟨ie_wf_stp hP hc ht hh, h1, h2, ?_, (ie_Rg_stp hP hc ht hh (by omega) hRg ha hb' ea eb).1, fun w e hr => hG (t :: w) e ⟨ht, hg, Or.inr ⟨hb, hr⟩⟩⟩
  rw [e13]
  have q := ie_f4_add (ie_pc c 0) (ie_pc c 1) (ie_pc c 2)
  have h3 : t = 0 ∨ t = 1 ∨ t = 2 := by omega
  rcases h3 with e | e | e <;> subst e
  · rw [e2, ie_pc_oth' (u := 1) ht (by omega) (by omega), ie_pc_oth' (u := 2) ht (by omega) (by omega)]
    exact q.1
  · rw [e2, ie_pc_oth' (u := 0) ht (by omega) (by omega), ie_pc_oth' (u := 2) ht (by omega) (by omega)]
    exact q.2.1
  · rw [e2, ie_pc_oth' (u := 0) ht (by omega) (by omega), ie_pc_oth' (u := 1) ht (by omega) (by omega)]
    exact q.2.2
theorem ie_w_587 {post : Int32 → Prop} {L : Nat} {xs : Nat → Int32} {J : Int64 → Int32 → Int32 → Int32 → Int32 → Int32 → Int32 → Int32 → Int32 → Int32 → Int32 → Int32 → Int32 → Int32 → Int32 → (Nat → Int32) → (Nat → Int32) → (Nat → Int32) → (Nat → Int32) → (Nat → Int32) → (Nat → Int32) → (Nat → Int32) → (Nat → Int32) → (Nat → Int32) → (Nat → Int32) → (Nat → Int32) → (Nat → Int32) → Prop}
    {x3 x5 x7 s : Int64} {x9 x12 x13 x14 x20 : Int32} {i t kc ks : Nat} {rd cm st fa df lv lx lw ly se : Int32} {a1 a2 a3 a4 a5 a6 a7 a8 a9 a10 a11 a12 : Nat → Int32} {P : ie_P} {c : ie_C} (hP : ie_wfP P) (hs : ie_tot P ≤ 7) (ht : t < 3) (hh : ie_has P c t = true) (hx : ie_inst P (ie_ix c t) x20) (h : ie_cfg P s x12 x13 c)
    (H : ∀ s' y, ie_R s' (ie_stp P c t) → ie_RL y (ie_stp P c t) → J s' y (x13 + ((1 : Int32) <<< ((4 * nI t) &&& 31))) x14 (nI (i + 1)) rd cm st fa df lv lx lw ly se a1 a2 a3 a4 a5 a6 a7 a8 a9 a10 a11 a12) :
    wL_law_587 post L xs J x3 x5 x7 x9 s x12 x13 x14 (nI i) (nI t) x20 kc ks rd cm st fa df lv lx lw ly se a1 a2 a3 a4 a5 a6 a7 a8 a9 a10 a11 a12 := by
  unfold wL_law_587
  obtain ⟨hc, hR, hL, e13, hRg, hG⟩ := h
  obtain ⟨o, a, b, ho, ha, hb, eo, ea, eb, ex⟩ := hx
  have hd := ie_dn_le hc
  have hrem : ie_dn (ie_stp P c t) ≤ ie_tot P := ie_dn_le (ie_wf_stp hP hc ht hh)
  have g := ie_Rg_stp hP hc ht hh (by omega) hRg ha hb ea eb
  have h6 := ie_Rg_in6 g.1 (by omega) (ie_pc_le hP (ie_wf_stp hP hc ht hh))
  have hx : ie_inst P (ie_ix c t) x20 := ⟨o, a, b, ho, ha, hb, eo, ea, eb, ex⟩
  have R1 : ie_R s (ie_inc c t) := fun k hk => (hR k hk).trans (pk_un (by omega)).symm
  have L1 : ie_RL x12 (ie_inc c t) := ie_RL_same hL (pk_un (by omega)) (pk_un (by omega))
  exact ie_w_carried (c := ie_inc c t) (i := ie_ix c t) ht hx R1 h6 (fun s' q1 => ie_w_locked (c := ie_inc c t) (i := ie_ix c t) ht hx L1 (fun y q2 => nm_e (nm_r (nI_1 i) (H s' y q1 q2))))
theorem ie_x20 {P : ie_P} {t n p : Nat} {x17 : Int32} (hn : n ≤ 5) (hs : ie_sz P t ≤ 5) (hp : ie_pk P t p) (e : x17 = nI n) : ((lN p >>> ((9 * x17).toInt64 &&& 63)) &&& 511).toInt32 = nI (p / 2 ^ (9 * n) % 512) := by
  have e2 : (9 : Int32) * nI n = nI (9 * n) := pk_mul 9 n
  have b1 := hp.1
  have b2 := ie_pw45 hs
  have b3 : p / 2 ^ (9 * n) ≤ p := Nat.div_le_self _ _
  rw [e, e2, iw_shr (ib_s (9 * n) (by omega)) (by omega), show (511 : Int64) = lN 511 from rfl, iw_and (b := 511) (by omega) (by omega) (Nat.and_two_pow_sub_one_eq_mod _ 9), lN_i]
theorem ie_w_470 {post : Int32 → Prop} {L : Nat} {xs : Nat → Int32} {J : Int64 → Int32 → Int32 → Int32 → Int32 → Int32 → Int32 → Int32 → Int32 → Int32 → Int32 → Int32 → Int32 → Int32 → Int32 → (Nat → Int32) → (Nat → Int32) → (Nat → Int32) → (Nat → Int32) → (Nat → Int32) → (Nat → Int32) → (Nat → Int32) → (Nat → Int32) → (Nat → Int32) → (Nat → Int32) → (Nat → Int32) → (Nat → Int32) → Prop}
    {x3 x5 x7 s : Int64} {x9 x12 x13 x14 : Int32} {i t p kc ks : Nat} {rd cm st fa df lv lx lw ly se : Int32} {a1 a2 a3 a4 a5 a6 a7 a8 a9 a10 a11 a12 : Nat → Int32} {P : ie_P} (hP : ie_wfP P) (hs : ie_tot P ≤ 7) (ht : t < 3) (e9 : x9 = ie_f4 (ie_sz P 0) (ie_sz P 1) (ie_sz P 2)) (hp : ie_pk P t p) (hI : ie_I P s x12 x13 x14) (hk : ie_OK P (rd, cm, st, fa, df, lv, lx, lw, ly, se, a1, a2, a3, a4, a5, a6, a7, a8, a9, a10, a11, a12))
    (K : ∀ (s' : Int64) (y12 y13 y14 : Int32) (yrd ycm yst yfa ydf ylv ylx ylw yly yse : Int32) (ya1 ya2 ya3 ya4 ya5 ya6 ya7 ya8 ya9 ya10 ya11 ya12 : Nat → Int32), ie_I P s' y12 y13 y14 → ie_OK P (yrd, ycm, yst, yfa, ydf, ylv, ylx, ylw, yly, yse, ya1, ya2, ya3, ya4, ya5, ya6, ya7, ya8, ya9, ya10, ya11, ya12) → J s' y12 y13 y14 (nI (i + 1)) yrd ycm yst yfa ydf ylv ylx ylw yly yse ya1 ya2 ya3 ya4 ya5 ya6 ya7 ya8 ya9 ya10 ya11 ya12) :
    wL_law_470 post L xs J x3 x5 x7 x9 s x12 x13 x14 (nI i) (nI t) ((x13 >>> ((4 * nI t) &&& 31)) &&& 15) (lN p) kc ks rd cm st fa df lv lx lw ly se a1 a2 a3 a4 a5 a6 a7 a8 a9 a10 a11 a12 := by
  unfold wL_law_470
  rcases hI with ⟨e14, c, hc⟩ | ⟨e14, hf⟩
  · have hcc := hc
    obtain ⟨hw, hR, hL, e13, hRg, hG⟩ := hcc
    have hpc := ie_pc_le hP hw
    have h0 := hpc 0 (by omega)
    have h1 := hpc 1 (by omega)
    have h2 := hpc 2 (by omega)
    have ht5 := hpc t ht
    have hs5 := (hP t ht).2
    have e17 : (x13 >>> ((4 * nI t) &&& 31)) &&& 15 = nI (ie_pc c t) := by
      rw [e13, ie_f4_at ht (by omega) (by omega) (by omega)]
      have h3 : t = 0 ∨ t = 1 ∨ t = 2 := by omega
      rcases h3 with e | e | e <;> subst e <;> rfl
    have esz : (x9 >>> ((4 * nI t) &&& 31)) &&& 15 = nI (ie_sz P t) := by
      rw [e9]
      exact ie_f4_sz hP ht
    rw [e17, esz]
    refine nm_r (ie_x20 ht5 hs5 hp rfl) (br_t e14 (pk_le (ie_sz P t) (ie_pc c t) (fun z => nm_r (nI_1 i) (K _ _ _ _ rd cm st fa df lv lx lw ly se a1 a2 a3 a4 a5 a6 a7 a8 a9 a10 a11 a12 (Or.inl ⟨e14, c, hc⟩) hk)) (fun z => ?_) rfl rfl (by omega) (by omega)))
    have hh : ie_has P c t = true := decide_eq_true z
    obtain ⟨o, a, b, ho, ha, hb, eo, ea, eb, ex⟩ := hp.2 (ie_pc c t) z
    have hx : ie_inst P (ie_ix c t) (nI (p / 2 ^ (9 * ie_pc c t) % 512)) := ⟨o, a, b, ho, ha, hb, eo, ea, eb, by rw [ex]⟩
    revert hx
    generalize nI (p / 2 ^ (9 * ie_pc c t) % 512) = x20
    intro hx
    obtain ⟨d1, _, d3, d4, _, _, _⟩ := ie_inst_e hx
    have la := ie_la_lt P (ie_ix c t)
    refine ie_w_lgo hx hR hL (fun g => br_f (by decide) ?_) (fun g => br_t rfl (nm_r (nI_1 i) (K _ _ _ _ rd cm st fa df lv lx lw ly se a1 a2 a3 a4 a5 a6 a7 a8 a9 a10 a11 a12 (Or.inl ⟨e14, c, hc⟩) hk)))
    have hg : ie_go P c t = true := by
      unfold ie_go
      rw [hh, g]
      rfl
    have good : ie_bad P c t = false → ∀ (y14 : Int32), y14 = 0 → wL_law_587 post L xs J x3 x5 x7 x9 s x12 x13 y14 (nI i) (nI t) x20 kc ks rd cm st fa df lv lx lw ly se a1 a2 a3 a4 a5 a6 a7 a8 a9 a10 a11 a12 := by
      intro hb y14 ey
      exact ie_w_587 hP hs ht hh hx hc (fun s' y q1 q2 => K _ _ _ _ rd cm st fa df lv lx lw ly se a1 a2 a3 a4 a5 a6 a7 a8 a9 a10 a11 a12 (Or.inl ⟨ey, _, ie_cfg_stp hP hs ht hc hg hb hx q1 q2⟩) hk)
    rw [d1]
    refine br_c (fun h6 => ?_) (fun h6 => good (ie_bad_n h6) x14 e14)
    have er : 4 + 2 * nI t + ((x20 >>> ((4 : Int32) &&& 31)) &&& 1) = nI (4 + t * 2 + ie_la P (ie_ix c t)) := by
      rw [d4, show (4 : Int32) = nI 4 from rfl, show (2 : Int32) = nI 2 from rfl, pk_mul, nI_add, nI_add, Nat.mul_comm 2 t]
    rw [er]
    refine ie_w_get ?_
    rw [hR _ (by omega), d3]
    refine br_c (fun q => br_t rfl (good ?_ 0 rfl)) (fun q => br_f (by decide) ?_)
    · unfold ie_bad ie_badI
      rw [decide_eq_true q, Bool.not_true, Bool.and_false]
    · have hb : ie_bad P c t = true := by
        unfold ie_bad ie_badI
        rw [decide_eq_true h6, decide_eq_false q]
        rfl
      have hf : ie_fails P t := ⟨c, hG [t] (2 + t, c) ⟨ht, hg, Or.inl ⟨hb, rfl, rfl⟩⟩⟩
      refine ie_w_fail ht hP hs hk (fun v hv _ => ?_) (fun v hv q => absurd hf q)
      obtain ⟨vrd, vcm, vst, vfa, vdf, vlv, vlx, vlw, vly, vse, va1, va2, va3, va4, va5, va6, va7, va8, va9, va10, va11, va12⟩ := v
      refine br_f (by decide) ?_
      exact ie_w_587 hP hs ht hh hx hc (fun s' y _ _ => K _ _ _ _ vrd vcm vst vfa vdf vlv vlx vlw vly vse va1 va2 va3 va4 va5 va6 va7 va8 va9 va10 va11 va12 (Or.inr ⟨rfl, t, ht, hf⟩) hv)
  · exact nm_e (br_f (by rw [e14]; decide) (nm_r (nI_1 i) (K _ _ _ _ rd cm st fa df lv lx lw ly se a1 a2 a3 a4 a5 a6 a7 a8 a9 a10 a11 a12 (Or.inr ⟨e14, hf⟩) hk)))
end
section
/-! every end that the search meets is within six bits; the law's questions -/
def ie_arg (P : ie_P) : Prop := ∀ t, t < 3 → ∀ n, n < ie_sz P t → ∃ a b : Nat, a < 4 ∧ b < 8 ∧ ie_aa P (t * 5 + n) = nI a ∧ ie_bb P (t * 5 + n) = nI b - 2
theorem ie_pk_arg {P : ie_P} {t p : Nat} (h : ie_pk P t p) : ∀ n, n < ie_sz P t → ∃ a b : Nat, a < 4 ∧ b < 8 ∧ ie_aa P (t * 5 + n) = nI a ∧ ie_bb P (t * 5 + n) = nI b - 2 := by
  intro n hn
  obtain ⟨o, a, b, _, ha, hb, _, ea, eb, _⟩ := h.2 n hn
  exact ⟨a, b, ha, hb, ea, eb⟩
theorem ie_Q_arg {P : ie_P} {x3 x5 x7 : Int64} {x9 : Int32} (h : ie_Q P x3 x5 x7 x9) : ie_arg P := by
  obtain ⟨_, _, p0, p1, p2, _, _, _, k0, k1, k2⟩ := h
  intro t ht
  have h3 : t = 0 ∨ t = 1 ∨ t = 2 := by omega
  rcases h3 with e | e | e <;> subst e
  · exact ie_pk_arg k0
  · exact ie_pk_arg k1
  · exact ie_pk_arg k2
theorem ie_dfs_Rg {P : ie_P} (hP : ie_wfP P) (hs : ie_tot P ≤ 7) (ha : ie_arg P) : ∀ (n : Nat) (c : ie_C) (Z : Nat → Bool), ie_wf P c → ie_Rg c → ∀ d : ie_C, ((0, d) : ie_E) ∈ ie_dfs P n c Z → ie_wf P d ∧ ie_Rg d := by
  intro n
  induction n with
  | zero => intro c Z _ _ d h; exact absurd h List.not_mem_nil
  | succ n ih =>
    intro c Z hc hR d h
    have e : ie_dfs P (n + 1) c Z = ie_head P c ++ (ie_vis P (ie_dfs P n) c Z 0 ++ (ie_vis P (ie_dfs P n) c Z 1 ++ ie_vis P (ie_dfs P n) c Z 2)) := rfl
    rw [e, List.mem_append, List.mem_append, List.mem_append] at h
    have vis : ∀ t, t < 3 → ((0, d) : ie_E) ∈ ie_vis P (ie_dfs P n) c Z t → ie_wf P d ∧ ie_Rg d := by
      intro t ht g
      unfold ie_vis at g
      by_cases q : ie_go P c t = true ∧ Z t = false
      · rw [if_pos q] at g
        by_cases b : ie_bad P c t = true
        · rw [if_pos b, List.mem_singleton] at g
          exact absurd (congrArg Prod.fst g) (by show ¬ 0 = 2 + t; omega)
        · rw [if_neg b] at g
          have hh := ie_go_has q.1
          obtain ⟨a, b', ha', hb', ea, eb⟩ := ha t ht (ie_pc c t) (of_decide_eq_true hh)
          have hd := ie_dn_le hc
          exact ih _ _ (ie_wf_stp hP hc ht hh) (ie_Rg_stp hP hc ht hh (by omega) hR ha' hb' ea eb).1 d g
      · rw [if_neg q] at g
        exact absurd g List.not_mem_nil
    rcases h with h | h | h | h
    · unfold ie_head at h
      by_cases q : ie_any P c = true
      · rw [if_pos q] at h
        exact absurd h List.not_mem_nil
      · rw [if_neg q, List.mem_singleton] at h
        have e2 : d = c := congrArg Prod.snd h
        rw [e2]
        exact ⟨hc, hR⟩
    · exact vis 0 (by omega) h
    · exact vis 1 (by omega) h
    · exact vis 2 (by omega) h
theorem ie_ev_in6 {P : ie_P} (hP : ie_wfP P) (hs : ie_tot P ≤ 7) (ha : ie_arg P) {d : ie_C} (h : ((0, d) : ie_E) ∈ ie_ev P) : ∀ k, k < 10 → ie_in6 (d k) := by
  obtain ⟨h1, h2⟩ := ie_dfs_Rg hP hs ha 8 ie_c0 ie_Z0 (ie_wf0 P) ie_Rg0 d h
  have hd := ie_dn_le h1
  exact ie_Rg_in6 h2 (by omega) (ie_pc_le hP h1)
theorem ie_sub1 {x : Int32} (h : ie_in6 x) : (x - 1).toInt = x.toInt - 1 := by
  obtain ⟨h1, h2⟩ := h
  rw [Int32.toInt_sub, show (1 : Int32).toInt = 1 from rfl, Int.bmod_eq_of_le (by omega) (by omega)]
theorem ie_add1 {x : Int32} (h : ie_in6 x) : (x + 1).toInt = x.toInt + 1 := by
  obtain ⟨h1, h2⟩ := h
  rw [Int32.toInt_add, show (1 : Int32).toInt = 1 from rfl, Int.bmod_eq_of_le (by omega) (by omega)]
theorem ie_w_320n {post : Int32 → Prop} {L : Nat} {xs : Nat → Int32} {J : Int32 → Int32 → Int32 → Int32 → Int32 → Int32 → Int32 → Int32 → Int32 → Int32 → Int32 → (Nat → Int32) → (Nat → Int32) → (Nat → Int32) → (Nat → Int32) → (Nat → Int32) → (Nat → Int32) → (Nat → Int32) → (Nat → Int32) → (Nat → Int32) → (Nat → Int32) → (Nat → Int32) → (Nat → Int32) → Prop}
    {x3 x5 x7 : Int64} {x9 : Int32} {i kc ks : Nat} {rd cm st fa df lv lx lw ly se : Int32} {a1 a2 a3 a4 a5 a6 a7 a8 a9 a10 a11 a12 : Nat → Int32} {P : ie_P} (hi : i < 4) (hP : ie_wfP P) (hs : ie_tot P ≤ 7) (hk : ie_OK P (rd, cm, st, fa, df, lv, lx, lw, ly, se, a1, a2, a3, a4, a5, a6, a7, a8, a9, a10, a11, a12)) (hn : ¬ ie_ends P)
    (K : ∀ (yrd ycm yst yfa ydf ylv ylx ylw yly yse : Int32) (ya1 ya2 ya3 ya4 ya5 ya6 ya7 ya8 ya9 ya10 ya11 ya12 : Nat → Int32), ie_OK P (yrd, ycm, yst, yfa, ydf, ylv, ylx, ylw, yly, yse, ya1, ya2, ya3, ya4, ya5, ya6, ya7, ya8, ya9, ya10, ya11, ya12) → J (nI (i + 1)) yrd ycm yst yfa ydf ylv ylx ylw yly yse ya1 ya2 ya3 ya4 ya5 ya6 ya7 ya8 ya9 ya10 ya11 ya12) : wL_law_320 post L xs J x3 x5 x7 x9 (nI i) (-2147483647) (-2147483647) 0 kc ks rd cm st fa df lv lx lw ly se a1 a2 a3 a4 a5 a6 a7 a8 a9 a10 a11 a12 := by
  unfold wL_law_320
  refine br_t rfl (br_t rfl (br_t rfl (ie_w_end hi hP hs hk (fun v hv q => ?_) (fun v hv q => ?_))))
  · obtain ⟨c, m, _⟩ := q
    exact absurd ⟨c, m⟩ hn
  · obtain ⟨vrd, vcm, vst, vfa, vdf, vlv, vlx, vlw, vly, vse, va1, va2, va3, va4, va5, va6, va7, va8, va9, va10, va11, va12⟩ := v
    exact br_t rfl (nm_r (nI_1 i) (K vrd vcm vst vfa vdf vlv vlx vlw vly vse va1 va2 va3 va4 va5 va6 va7 va8 va9 va10 va11 va12 hv))
theorem ie_w_237 {post : Int32 → Prop} {L : Nat} {xs : Nat → Int32} {x3 x5 x7 : Int64} {x9 : Int32} {kc ks : Nat} {P : ie_P} {u : St1} (hP : ie_wfP P) (hs : ie_tot P ≤ 7) (ha : ie_arg P) (hk : ie_OK P u)
    (K : ∀ u, ie_OK P u → ∃ n, wL_law_363 post L xs x3 x5 x7 x9 kc ks u.1 u.2.1 u.2.2.1 u.2.2.2.1 u.2.2.2.2.1 u.2.2.2.2.2.1 u.2.2.2.2.2.2.1 u.2.2.2.2.2.2.2.1 u.2.2.2.2.2.2.2.2.1 u.2.2.2.2.2.2.2.2.2.1 u.2.2.2.2.2.2.2.2.2.2.1 u.2.2.2.2.2.2.2.2.2.2.2.1 u.2.2.2.2.2.2.2.2.2.2.2.2.1 u.2.2.2.2.2.2.2.2.2.2.2.2.2.1 u.2.2.2.2.2.2.2.2.2.2.2.2.2.2.1 u.2.2.2.2.2.2.2.2.2.2.2.2.2.2.2.1 u.2.2.2.2.2.2.2.2.2.2.2.2.2.2.2.2.1 u.2.2.2.2.2.2.2.2.2.2.2.2.2.2.2.2.2.1 u.2.2.2.2.2.2.2.2.2.2.2.2.2.2.2.2.2.2.1 u.2.2.2.2.2.2.2.2.2.2.2.2.2.2.2.2.2.2.2.1 u.2.2.2.2.2.2.2.2.2.2.2.2.2.2.2.2.2.2.2.2.1 u.2.2.2.2.2.2.2.2.2.2.2.2.2.2.2.2.2.2.2.2.2 n 0 0) : ∃ n, wL_law_237 post L xs x3 x5 x7 x9 kc ks n 0 u.1 u.2.1 u.2.2.1 u.2.2.2.1 u.2.2.2.2.1 u.2.2.2.2.2.1 u.2.2.2.2.2.2.1 u.2.2.2.2.2.2.2.1 u.2.2.2.2.2.2.2.2.1 u.2.2.2.2.2.2.2.2.2.1 u.2.2.2.2.2.2.2.2.2.2.1 u.2.2.2.2.2.2.2.2.2.2.2.1 u.2.2.2.2.2.2.2.2.2.2.2.2.1 u.2.2.2.2.2.2.2.2.2.2.2.2.2.1 u.2.2.2.2.2.2.2.2.2.2.2.2.2.2.1 u.2.2.2.2.2.2.2.2.2.2.2.2.2.2.2.1 u.2.2.2.2.2.2.2.2.2.2.2.2.2.2.2.2.1 u.2.2.2.2.2.2.2.2.2.2.2.2.2.2.2.2.2.1 u.2.2.2.2.2.2.2.2.2.2.2.2.2.2.2.2.2.2.1 u.2.2.2.2.2.2.2.2.2.2.2.2.2.2.2.2.2.2.2.1 u.2.2.2.2.2.2.2.2.2.2.2.2.2.2.2.2.2.2.2.2.1 u.2.2.2.2.2.2.2.2.2.2.2.2.2.2.2.2.2.2.2.2.2 := by
  refine pk_loop (σ := St1) (fun n i s => wL_law_237 post L xs x3 x5 x7 x9 kc ks n (nI i) s.1 s.2.1 s.2.2.1 s.2.2.2.1 s.2.2.2.2.1 s.2.2.2.2.2.1 s.2.2.2.2.2.2.1 s.2.2.2.2.2.2.2.1 s.2.2.2.2.2.2.2.2.1 s.2.2.2.2.2.2.2.2.2.1 s.2.2.2.2.2.2.2.2.2.2.1 s.2.2.2.2.2.2.2.2.2.2.2.1 s.2.2.2.2.2.2.2.2.2.2.2.2.1 s.2.2.2.2.2.2.2.2.2.2.2.2.2.1 s.2.2.2.2.2.2.2.2.2.2.2.2.2.2.1 s.2.2.2.2.2.2.2.2.2.2.2.2.2.2.2.1 s.2.2.2.2.2.2.2.2.2.2.2.2.2.2.2.2.1 s.2.2.2.2.2.2.2.2.2.2.2.2.2.2.2.2.2.1 s.2.2.2.2.2.2.2.2.2.2.2.2.2.2.2.2.2.2.1 s.2.2.2.2.2.2.2.2.2.2.2.2.2.2.2.2.2.2.2.1 s.2.2.2.2.2.2.2.2.2.2.2.2.2.2.2.2.2.2.2.2.1 s.2.2.2.2.2.2.2.2.2.2.2.2.2.2.2.2.2.2.2.2.2) (fun i s => ie_OK P s) 4 0 u (by omega) hk ?_ ?_
  · intro n s h
    exact pk_le 4 4 (fun _ => K s h) (fun z => absurd z (by omega))
  · intro n i s hi h hw
    obtain ⟨xrd, xcm, xst, xfa, xdf, xlv, xlx, xlw, xly, xse, xa1, xa2, xa3, xa4, xa5, xa6, xa7, xa8, xa9, xa10, xa11, xa12⟩ := s
    have hw' : ∀ (yrd ycm yst yfa ydf ylv ylx ylw yly yse : Int32) (ya1 ya2 ya3 ya4 ya5 ya6 ya7 ya8 ya9 ya10 ya11 ya12 : Nat → Int32), ie_OK P (yrd, ycm, yst, yfa, ydf, ylv, ylx, ylw, yly, yse, ya1, ya2, ya3, ya4, ya5, ya6, ya7, ya8, ya9, ya10, ya11, ya12) → wL_law_237 post L xs x3 x5 x7 x9 kc ks n (nI (i + 1)) yrd ycm yst yfa ydf ylv ylx ylw yly yse ya1 ya2 ya3 ya4 ya5 ya6 ya7 ya8 ya9 ya10 ya11 ya12 := fun yrd ycm yst yfa ydf ylv ylx ylw yly yse ya1 ya2 ya3 ya4 ya5 ya6 ya7 ya8 ya9 ya10 ya11 ya12 q => hw (yrd, ycm, yst, yfa, ydf, ylv, ylx, ylw, yly, yse, ya1, ya2, ya3, ya4, ya5, ya6, ya7, ya8, ya9, ya10, ya11, ya12) q
    show wL_law_237 post L xs x3 x5 x7 x9 kc ks (n + 1) (nI i) xrd xcm xst xfa xdf xlv xlx xlw xly xse xa1 xa2 xa3 xa4 xa5 xa6 xa7 xa8 xa9 xa10 xa11 xa12
    refine pk_le 4 i (fun z => absurd z (by omega)) (fun _ => ?_)
    refine ie_w_least hi hP hs h (fun v m hv hm => ?_) (fun v hv hn => ?_)
    · obtain ⟨vrd, vcm, vst, vfa, vdf, vlv, vlx, vlw, vly, vse, va1, va2, va3, va4, va5, va6, va7, va8, va9, va10, va11, va12⟩ := v
      have hen : ie_ends P := let ⟨⟨c, q, _⟩, _⟩ := hm; ⟨c, q⟩
      refine ie_w_great hi hP hs hv (fun v2 m2 hv2 hm2 => ?_) (fun v2 hv2 hn => absurd hen hn)
      obtain ⟨wrd, wcm, wst, wfa, wdf, wlv, wlx, wlw, wly, wse, wa1, wa2, wa3, wa4, wa5, wa6, wa7, wa8, wa9, wa10, wa11, wa12⟩ := v2
      refine ie_w_compl hP hs hv2 (fun v3 hv3 _ => ?_) (fun v3 hv3 hn => absurd hen hn)
      obtain ⟨zrd, zcm, zst, zfa, zdf, zlv, zlx, zlw, zly, zse, za1, za2, za3, za4, za5, za6, za7, za8, za9, za10, za11, za12⟩ := v3
      obtain ⟨⟨c, q, ec⟩, lo⟩ := hm
      obtain ⟨⟨c2, q2, ec2⟩, up⟩ := hm2
      refine br_f (by decide) (ie_w_end hi hP hs hv3 (fun v4 hv4 _ => ?_) (fun v4 hv4 hn => absurd ⟨c, q, ec⟩ hn))
      obtain ⟨prd, pcm, pst, pfa, pdf, plv, plx, plw, ply, pse, pa1, pa2, pa3, pa4, pa5, pa6, pa7, pa8, pa9, pa10, pa11, pa12⟩ := v4
      refine br_f (by decide) (ie_w_end hi hP hs hv4 (fun v5 hv5 _ => ?_) (fun v5 hv5 hn => absurd ⟨c2, q2, ec2⟩ hn))
      obtain ⟨qrd, qcm, qst, qfa, qdf, qlv, qlx, qlw, qly, qse, qa1, qa2, qa3, qa4, qa5, qa6, qa7, qa8, qa9, qa10, qa11, qa12⟩ := v5
      refine br_f (by decide) (ie_w_end hi hP hs hv5 (fun v6 hv6 hy => ?_) (fun v6 hv6 _ => ?_))
      · obtain ⟨d, qd, ed⟩ := hy
        have l1 := Int32.le_iff_toInt_le.mp (lo d qd)
        have in1 := ie_ev_in6 hP hs ha q i (by omega)
        rw [ec] at in1
        rw [ed, ie_sub1 in1] at l1
        exact absurd l1 (by omega)
      obtain ⟨rrd, rcm, rst, rfa, rdf, rlv, rlx, rlw, rly, rse, ra1, ra2, ra3, ra4, ra5, ra6, ra7, ra8, ra9, ra10, ra11, ra12⟩ := v6
      refine br_t rfl (ie_w_end hi hP hs hv6 (fun v7 hv7 hy => ?_) (fun v7 hv7 _ => ?_))
      · obtain ⟨d, qd, ed⟩ := hy
        have l1 := Int32.le_iff_toInt_le.mp (up d qd)
        have in1 := ie_ev_in6 hP hs ha q2 i (by omega)
        rw [ec2] at in1
        rw [ed, ie_add1 in1] at l1
        exact absurd l1 (by omega)
      obtain ⟨srd, scm, sst, sfa, sdf, slv, slx, slw, sly, sse, sa1, sa2, sa3, sa4, sa5, sa6, sa7, sa8, sa9, sa10, sa11, sa12⟩ := v7
      refine br_t rfl ?_
      exact br_f (by decide) (nm_r (nI_1 i) (hw' srd scm sst sfa sdf slv slx slw sly sse sa1 sa2 sa3 sa4 sa5 sa6 sa7 sa8 sa9 sa10 sa11 sa12 hv7))
    · obtain ⟨vrd, vcm, vst, vfa, vdf, vlv, vlx, vlw, vly, vse, va1, va2, va3, va4, va5, va6, va7, va8, va9, va10, va11, va12⟩ := v
      refine ie_w_great hi hP hs hv (fun v2 m2 hv2 hm2 => absurd (let ⟨⟨c, q, _⟩, _⟩ := hm2; ⟨c, q⟩) hn) (fun v2 hv2 _ => ?_)
      obtain ⟨wrd, wcm, wst, wfa, wdf, wlv, wlx, wlw, wly, wse, wa1, wa2, wa3, wa4, wa5, wa6, wa7, wa8, wa9, wa10, wa11, wa12⟩ := v2
      refine ie_w_compl hP hs hv2 (fun v3 hv3 he => absurd he hn) (fun v3 hv3 _ => ?_)
      obtain ⟨zrd, zcm, zst, zfa, zdf, zlv, zlx, zlw, zly, zse, za1, za2, za3, za4, za5, za6, za7, za8, za9, za10, za11, za12⟩ := v3
      exact br_t rfl (ie_w_320n hi hP hs hv3 hn hw')
/-! after the run -/
theorem ie_w_638 {post : Int32 → Prop} {L : Nat} {xs : Nat → Int32} {x14 : Int32} {kc ks : Nat} {rd cm st fa df lv lx lw ly se : Int32} {a1 a2 a3 a4 a5 a6 a7 a8 a9 a10 a11 a12 : Nat → Int32} {P : ie_P} (hP : ie_wfP P) (hs : ie_tot P ≤ 7) (hk : ie_OK P (rd, cm, st, fa, df, lv, lx, lw, ly, se, a1, a2, a3, a4, a5, a6, a7, a8, a9, a10, a11, a12)) (h1 : post 1)
    (h : x14 = 0 ∨ ∃ t, t < 3 ∧ ie_fails P t) : wL_law_638 post L xs x14 kc ks rd cm st fa df lv lx lw ly se a1 a2 a3 a4 a5 a6 a7 a8 a9 a10 a11 a12 := by
  unfold wL_law_638
  refine br_c (fun _ => h1) (fun z => ?_)
  obtain ⟨t, ht, hf⟩ := h.resolve_left z
  refine ie_w_settled hP hs hk (fun v hv _ _ q => absurd hf (q t ht)) (fun v hv _ => ?_)
  obtain ⟨vrd, vcm, vst, vfa, vdf, vlv, vlx, vlw, vly, vse, va1, va2, va3, va4, va5, va6, va7, va8, va9, va10, va11, va12⟩ := v
  exact br_t rfl h1
theorem ie_w_750 {post : Int32 → Prop} {L : Nat} {xs : Nat → Int32} {s : Int64} {kc ks : Nat} {P : ie_P} {c : ie_C} {u : St1} (hP : ie_wfP P) (hs : ie_tot P ≤ 7) (hk : ie_OK P u) (h1 : post 1) (hR : ie_R s c) (hc : ((0, c) : ie_E) ∈ ie_ev P) :
    ∃ n, wL_law_750 post L xs s kc ks n 0 u.1 u.2.1 u.2.2.1 u.2.2.2.1 u.2.2.2.2.1 u.2.2.2.2.2.1 u.2.2.2.2.2.2.1 u.2.2.2.2.2.2.2.1 u.2.2.2.2.2.2.2.2.1 u.2.2.2.2.2.2.2.2.2.1 u.2.2.2.2.2.2.2.2.2.2.1 u.2.2.2.2.2.2.2.2.2.2.2.1 u.2.2.2.2.2.2.2.2.2.2.2.2.1 u.2.2.2.2.2.2.2.2.2.2.2.2.2.1 u.2.2.2.2.2.2.2.2.2.2.2.2.2.2.1 u.2.2.2.2.2.2.2.2.2.2.2.2.2.2.2.1 u.2.2.2.2.2.2.2.2.2.2.2.2.2.2.2.2.1 u.2.2.2.2.2.2.2.2.2.2.2.2.2.2.2.2.2.1 u.2.2.2.2.2.2.2.2.2.2.2.2.2.2.2.2.2.2.1 u.2.2.2.2.2.2.2.2.2.2.2.2.2.2.2.2.2.2.2.1 u.2.2.2.2.2.2.2.2.2.2.2.2.2.2.2.2.2.2.2.2.1 u.2.2.2.2.2.2.2.2.2.2.2.2.2.2.2.2.2.2.2.2.2 := by
  refine pk_loop (σ := St1) (fun n i s' => wL_law_750 post L xs s kc ks n (nI i) s'.1 s'.2.1 s'.2.2.1 s'.2.2.2.1 s'.2.2.2.2.1 s'.2.2.2.2.2.1 s'.2.2.2.2.2.2.1 s'.2.2.2.2.2.2.2.1 s'.2.2.2.2.2.2.2.2.1 s'.2.2.2.2.2.2.2.2.2.1 s'.2.2.2.2.2.2.2.2.2.2.1 s'.2.2.2.2.2.2.2.2.2.2.2.1 s'.2.2.2.2.2.2.2.2.2.2.2.2.1 s'.2.2.2.2.2.2.2.2.2.2.2.2.2.1 s'.2.2.2.2.2.2.2.2.2.2.2.2.2.2.1 s'.2.2.2.2.2.2.2.2.2.2.2.2.2.2.2.1 s'.2.2.2.2.2.2.2.2.2.2.2.2.2.2.2.2.1 s'.2.2.2.2.2.2.2.2.2.2.2.2.2.2.2.2.2.1 s'.2.2.2.2.2.2.2.2.2.2.2.2.2.2.2.2.2.2.1 s'.2.2.2.2.2.2.2.2.2.2.2.2.2.2.2.2.2.2.2.1 s'.2.2.2.2.2.2.2.2.2.2.2.2.2.2.2.2.2.2.2.2.1 s'.2.2.2.2.2.2.2.2.2.2.2.2.2.2.2.2.2.2.2.2.2) (fun i s' => ie_OK P s') 6 0 u (by omega) hk ?_ ?_
  · intro n s' h
    obtain ⟨xrd, xcm, xst, xfa, xdf, xlv, xlx, xlw, xly, xse, xa1, xa2, xa3, xa4, xa5, xa6, xa7, xa8, xa9, xa10, xa11, xa12⟩ := s'
    refine pk_le 6 6 (fun _ => ie_w_compl hP hs h (fun v hv _ => ?_) (fun v hv hn => absurd ⟨c, hc⟩ hn)) (fun z => absurd z (by omega))
    obtain ⟨vrd, vcm, vst, vfa, vdf, vlv, vlx, vlw, vly, vse, va1, va2, va3, va4, va5, va6, va7, va8, va9, va10, va11, va12⟩ := v
    exact h1
  · intro n i s' hi h hw
    obtain ⟨xrd, xcm, xst, xfa, xdf, xlv, xlx, xlw, xly, xse, xa1, xa2, xa3, xa4, xa5, xa6, xa7, xa8, xa9, xa10, xa11, xa12⟩ := s'
    have e1 : 4 + nI i = nI (4 + i) := nI_add 4 i
    have e2 : nI i / 2 = nI (i / 2) := pk_div (d := 2) (by omega) (by decide) (by decide)
    have e3 : nI i - nI i / 2 * 2 = nI (i % 2) := pk_rem (d := 2) (by omega) (by decide) (by decide)
    show wL_law_750 post L xs s kc ks (n + 1) (nI i) xrd xcm xst xfa xdf xlv xlx xlw xly xse xa1 xa2 xa3 xa4 xa5 xa6 xa7 xa8 xa9 xa10 xa11 xa12
    refine pk_le 6 i (fun z => absurd z (by omega)) (fun _ => ?_)
    rw [e1]
    refine ie_w_get ⟨by decide, by decide, ?_⟩
    rw [hR _ (by omega), e3, e2]
    refine ie_w_reg (by omega) (by omega) hP hs h (fun v m hv hm => ?_) (fun v hv hn => absurd ⟨c, hc⟩ hn)
    obtain ⟨vrd, vcm, vst, vfa, vdf, vlv, vlx, vlw, vly, vse, va1, va2, va3, va4, va5, va6, va7, va8, va9, va10, va11, va12⟩ := v
    have le := hm.2 c hc
    rw [show 4 + i / 2 * 2 + i % 2 = 4 + i by omega] at le
    exact br_t le (nm_r (nI_1 i) (hw (vrd, vcm, vst, vfa, vdf, vlv, vlx, vlw, vly, vse, va1, va2, va3, va4, va5, va6, va7, va8, va9, va10, va11, va12) hv))
theorem ie_nlt {x y : Int32} (h : x ≤ y) : ¬ y < x := by
  rw [Int32.lt_iff_toInt_lt]
  have := Int32.le_iff_toInt_le.mp h
  omega
theorem ie_v1 : ∀ i, i < 4 → (nI i + 1) &&& 3 = nI ((i + 1) % 4) := by decide +kernel
theorem ie_w_659 {post : Int32 → Prop} {L : Nat} {xs : Nat → Int32} {s : Int64} {kc ks : Nat} {P : ie_P} {c : ie_C} {u : St1} (hP : ie_wfP P) (hs : ie_tot P ≤ 7) (hk : ie_OK P u) (h1 : post 1) (hR : ie_R s c) (hc : ((0, c) : ie_E) ∈ ie_ev P) :
    ∃ n, wL_law_659 post L xs s kc ks n 0 u.1 u.2.1 u.2.2.1 u.2.2.2.1 u.2.2.2.2.1 u.2.2.2.2.2.1 u.2.2.2.2.2.2.1 u.2.2.2.2.2.2.2.1 u.2.2.2.2.2.2.2.2.1 u.2.2.2.2.2.2.2.2.2.1 u.2.2.2.2.2.2.2.2.2.2.1 u.2.2.2.2.2.2.2.2.2.2.2.1 u.2.2.2.2.2.2.2.2.2.2.2.2.1 u.2.2.2.2.2.2.2.2.2.2.2.2.2.1 u.2.2.2.2.2.2.2.2.2.2.2.2.2.2.1 u.2.2.2.2.2.2.2.2.2.2.2.2.2.2.2.1 u.2.2.2.2.2.2.2.2.2.2.2.2.2.2.2.2.1 u.2.2.2.2.2.2.2.2.2.2.2.2.2.2.2.2.2.1 u.2.2.2.2.2.2.2.2.2.2.2.2.2.2.2.2.2.2.1 u.2.2.2.2.2.2.2.2.2.2.2.2.2.2.2.2.2.2.2.1 u.2.2.2.2.2.2.2.2.2.2.2.2.2.2.2.2.2.2.2.2.1 u.2.2.2.2.2.2.2.2.2.2.2.2.2.2.2.2.2.2.2.2.2 := by
  have hen : ie_ends P := ⟨c, hc⟩
  refine pk_loop (σ := St1) (fun n i s' => wL_law_659 post L xs s kc ks n (nI i) s'.1 s'.2.1 s'.2.2.1 s'.2.2.2.1 s'.2.2.2.2.1 s'.2.2.2.2.2.1 s'.2.2.2.2.2.2.1 s'.2.2.2.2.2.2.2.1 s'.2.2.2.2.2.2.2.2.1 s'.2.2.2.2.2.2.2.2.2.1 s'.2.2.2.2.2.2.2.2.2.2.1 s'.2.2.2.2.2.2.2.2.2.2.2.1 s'.2.2.2.2.2.2.2.2.2.2.2.2.1 s'.2.2.2.2.2.2.2.2.2.2.2.2.2.1 s'.2.2.2.2.2.2.2.2.2.2.2.2.2.2.1 s'.2.2.2.2.2.2.2.2.2.2.2.2.2.2.2.1 s'.2.2.2.2.2.2.2.2.2.2.2.2.2.2.2.2.1 s'.2.2.2.2.2.2.2.2.2.2.2.2.2.2.2.2.2.1 s'.2.2.2.2.2.2.2.2.2.2.2.2.2.2.2.2.2.2.1 s'.2.2.2.2.2.2.2.2.2.2.2.2.2.2.2.2.2.2.2.1 s'.2.2.2.2.2.2.2.2.2.2.2.2.2.2.2.2.2.2.2.2.1 s'.2.2.2.2.2.2.2.2.2.2.2.2.2.2.2.2.2.2.2.2.2) (fun i s' => ie_OK P s') 4 0 u (by omega) hk ?_ ?_
  · intro n s' h
    exact pk_le 4 4 (fun _ => ie_w_750 hP hs h h1 hR hc) (fun z => absurd z (by omega))
  · intro n i s' hi h hw
    obtain ⟨xrd, xcm, xst, xfa, xdf, xlv, xlx, xlw, xly, xse, xa1, xa2, xa3, xa4, xa5, xa6, xa7, xa8, xa9, xa10, xa11, xa12⟩ := s'
    have hm4 : (i + 1) % 4 < 4 := Nat.mod_lt _ (by decide)
    show wL_law_659 post L xs s kc ks (n + 1) (nI i) xrd xcm xst xfa xdf xlv xlx xlw xly xse xa1 xa2 xa3 xa4 xa5 xa6 xa7 xa8 xa9 xa10 xa11 xa12
    refine pk_le 4 i (fun z => absurd z (by omega)) (fun _ => ie_w_get ?_)
    rw [ie_v1 i hi]
    refine ie_w_get ?_
    rw [hR i (by omega), hR _ (show (i + 1) % 4 < 10 by omega)]
    refine ie_w_end hi hP hs h (fun v hv _ => ?_) (fun v hv hn => absurd ⟨c, hc, rfl⟩ hn)
    obtain ⟨vrd, vcm, vst, vfa, vdf, vlv, vlx, vlw, vly, vse, va1, va2, va3, va4, va5, va6, va7, va8, va9, va10, va11, va12⟩ := v
    refine br_f (by decide) (ie_w_least hi hP hs hv (fun v2 m hv2 hm => ?_) (fun v2 hv2 hn => absurd hen hn))
    obtain ⟨wrd, wcm, wst, wfa, wdf, wlv, wlx, wlw, wly, wse, wa1, wa2, wa3, wa4, wa5, wa6, wa7, wa8, wa9, wa10, wa11, wa12⟩ := v2
    refine br_f (ie_nlt (hm.2 c hc)) (ie_w_great hi hP hs hv2 (fun v3 m3 hv3 hm3 => ?_) (fun v3 hv3 hn => absurd hen hn))
    obtain ⟨zrd, zcm, zst, zfa, zdf, zlv, zlx, zlw, zly, zse, za1, za2, za3, za4, za5, za6, za7, za8, za9, za10, za11, za12⟩ := v3
    refine br_f (ie_nlt (hm3.2 c hc)) (ie_w_end2 hi hm4 hP hs hv3 (fun v4 hv4 _ => ?_) (fun v4 hv4 hn => absurd ⟨c, hc, rfl, rfl⟩ hn))
    obtain ⟨prd, pcm, pst, pfa, pdf, plv, plx, plw, ply, pse, pa1, pa2, pa3, pa4, pa5, pa6, pa7, pa8, pa9, pa10, pa11, pa12⟩ := v4
    exact br_f (by decide) (nm_r (nI_1 i) (hw (prd, pcm, pst, pfa, pdf, plv, plx, plw, ply, pse, pa1, pa2, pa3, pa4, pa5, pa6, pa7, pa8, pa9, pa10, pa11, pa12) hv4))
end
section
/-! the long loop closed, and what is owed -/
theorem ie_rem30 (r : Int32) (n : Nat) {i : Nat} (hi : i < 30) : ∃ t : Nat, t < 3 ∧ ((r &&& 255) + nI i) - ((r &&& 255) + nI i) / 3 * 3 = nI t := by
  obtain ⟨j, hj, e⟩ := pk_andE r (m := 255) 8 (by decide)
  have hj' : j < 256 := hj
  refine ⟨(j + i) % 3, by omega, ?_⟩
  rw [e, nI_add]
  exact pk_rem (d := 3) (by omega) (by decide) (by decide)
theorem ie_fin_of {P : ie_P} {c : ie_C} (h0 : ie_pc c 0 = ie_sz P 0) (h1 : ie_pc c 1 = ie_sz P 1) (h2 : ie_pc c 2 = ie_sz P 2) : ie_fin P c = true := by
  unfold ie_fin ie_has
  rw [h0, h1, h2, decide_eq_false (Nat.lt_irrefl _), decide_eq_false (Nat.lt_irrefl _), decide_eq_false (Nat.lt_irrefl _)]
  rfl
theorem ie_w_399 {post : Int32 → Prop} {L : Nat} {xs : Nat → Int32} {x3 x5 x7 s : Int64} {x9 : Int32} {kc ks : Nat} {P : ie_P} {u : St1} (hL : L ≤ 260) (hQ : ie_Q P x3 x5 x7 x9) (hs : ie_tot P ≤ 7) (hk : ie_OK P u) (h1 : post 1) (hI : ie_I P s 15 0 0) :
    ∃ n, wL_law_399 post L xs x3 x5 x7 x9 kc ks n s 15 0 0 0 u.1 u.2.1 u.2.2.1 u.2.2.2.1 u.2.2.2.2.1 u.2.2.2.2.2.1 u.2.2.2.2.2.2.1 u.2.2.2.2.2.2.2.1 u.2.2.2.2.2.2.2.2.1 u.2.2.2.2.2.2.2.2.2.1 u.2.2.2.2.2.2.2.2.2.2.1 u.2.2.2.2.2.2.2.2.2.2.2.1 u.2.2.2.2.2.2.2.2.2.2.2.2.1 u.2.2.2.2.2.2.2.2.2.2.2.2.2.1 u.2.2.2.2.2.2.2.2.2.2.2.2.2.2.1 u.2.2.2.2.2.2.2.2.2.2.2.2.2.2.2.1 u.2.2.2.2.2.2.2.2.2.2.2.2.2.2.2.2.1 u.2.2.2.2.2.2.2.2.2.2.2.2.2.2.2.2.2.1 u.2.2.2.2.2.2.2.2.2.2.2.2.2.2.2.2.2.2.1 u.2.2.2.2.2.2.2.2.2.2.2.2.2.2.2.2.2.2.2.1 u.2.2.2.2.2.2.2.2.2.2.2.2.2.2.2.2.2.2.2.2.1 u.2.2.2.2.2.2.2.2.2.2.2.2.2.2.2.2.2.2.2.2.2 := by
  obtain ⟨hP, e9, p0, p1, p2, e3, e5, e7, k0, k1, k2⟩ := hQ
  refine pk_loop (σ := Int64 × Int32 × Int32 × Int32 × St1) (fun n i s => wL_law_399 post L xs x3 x5 x7 x9 kc ks n s.1 s.2.1 s.2.2.1 s.2.2.2.1 (nI i) s.2.2.2.2.1 s.2.2.2.2.2.1 s.2.2.2.2.2.2.1 s.2.2.2.2.2.2.2.1 s.2.2.2.2.2.2.2.2.1 s.2.2.2.2.2.2.2.2.2.1 s.2.2.2.2.2.2.2.2.2.2.1 s.2.2.2.2.2.2.2.2.2.2.2.1 s.2.2.2.2.2.2.2.2.2.2.2.2.1 s.2.2.2.2.2.2.2.2.2.2.2.2.2.1 s.2.2.2.2.2.2.2.2.2.2.2.2.2.2.1 s.2.2.2.2.2.2.2.2.2.2.2.2.2.2.2.1 s.2.2.2.2.2.2.2.2.2.2.2.2.2.2.2.2.1 s.2.2.2.2.2.2.2.2.2.2.2.2.2.2.2.2.2.1 s.2.2.2.2.2.2.2.2.2.2.2.2.2.2.2.2.2.2.1 s.2.2.2.2.2.2.2.2.2.2.2.2.2.2.2.2.2.2.2.1 s.2.2.2.2.2.2.2.2.2.2.2.2.2.2.2.2.2.2.2.2.1 s.2.2.2.2.2.2.2.2.2.2.2.2.2.2.2.2.2.2.2.2.2.1 s.2.2.2.2.2.2.2.2.2.2.2.2.2.2.2.2.2.2.2.2.2.2.1 s.2.2.2.2.2.2.2.2.2.2.2.2.2.2.2.2.2.2.2.2.2.2.2.1 s.2.2.2.2.2.2.2.2.2.2.2.2.2.2.2.2.2.2.2.2.2.2.2.2.1 s.2.2.2.2.2.2.2.2.2.2.2.2.2.2.2.2.2.2.2.2.2.2.2.2.2)
    (fun i s => ie_I P s.1 s.2.1 s.2.2.1 s.2.2.2.1 ∧ ie_OK P s.2.2.2.2) 30 0 (s, 15, 0, 0, u) (by omega) ⟨hI, hk⟩ ?_ ?_
  · intro n s h
    obtain ⟨s, x12, x13, x14, ⟨xrd, xcm, xst, xfa, xdf, xlv, xlx, xlw, xly, xse, xa1, xa2, xa3, xa4, xa5, xa6, xa7, xa8, xa9, xa10, xa11, xa12⟩⟩ := s
    obtain ⟨hI, hk⟩ := h
    have hI' : ie_I P s x12 x13 x14 := hI
    have hk' : ie_OK P (xrd, xcm, xst, xfa, xdf, xlv, xlx, xlw, xly, xse, xa1, xa2, xa3, xa4, xa5, xa6, xa7, xa8, xa9, xa10, xa11, xa12) := hk
    show wL_law_399 post L xs x3 x5 x7 x9 kc ks (n + 1) s x12 x13 x14 (nI 30) xrd xcm xst xfa xdf xlv xlx xlw xly xse xa1 xa2 xa3 xa4 xa5 xa6 xa7 xa8 xa9 xa10 xa11 xa12
    refine pk_le 30 30 (fun _ => ?_) (fun z => absurd z (by omega))
    rcases hI' with ⟨e14, c, hw, hR, hLk, e13, hRg, hG⟩ | ⟨e14, hf⟩
    · refine br_t e14 (br_c (fun q => ?_) (fun q => ie_w_638 hP hs hk' h1 (Or.inl e14)))
      have q' : x13 = x9 := q
      rw [e13, e9] at q'
      have b0 := ie_pc_le hP hw 0 (by omega)
      have b1 := ie_pc_le hP hw 1 (by omega)
      have b2 := ie_pc_le hP hw 2 (by omega)
      have s0 := (hP 0 (by omega)).2
      have s1 := (hP 1 (by omega)).2
      have s2 := (hP 2 (by omega)).2
      obtain ⟨f0, f1, f2⟩ := ie_f4_inj (by omega) (by omega) (by omega) (by omega) (by omega) (by omega) q'
      exact ie_w_659 (u := (xrd, xcm, xst, xfa, xdf, xlv, xlx, xlw, xly, xse, xa1, xa2, xa3, xa4, xa5, xa6, xa7, xa8, xa9, xa10, xa11, xa12)) hP hs hk' h1 hR (hG [] (0, c) ⟨ie_fin_of f0 f1 f2, rfl⟩)
    · exact br_f (by rw [e14]; decide) (ie_w_638 hP hs hk' h1 (Or.inr hf))
  · intro n i s hi h hw
    obtain ⟨s, x12, x13, x14, ⟨xrd, xcm, xst, xfa, xdf, xlv, xlx, xlw, xly, xse, xa1, xa2, xa3, xa4, xa5, xa6, xa7, xa8, xa9, xa10, xa11, xa12⟩⟩ := s
    obtain ⟨hI, hk⟩ := h
    have hI' : ie_I P s x12 x13 x14 := hI
    have hk' : ie_OK P (xrd, xcm, xst, xfa, xdf, xlv, xlx, xlw, xly, xse, xa1, xa2, xa3, xa4, xa5, xa6, xa7, xa8, xa9, xa10, xa11, xa12) := hk
    have K : ∀ (s' : Int64) (y12 y13 y14 : Int32) (yrd ycm yst yfa ydf ylv ylx ylw yly yse : Int32) (ya1 ya2 ya3 ya4 ya5 ya6 ya7 ya8 ya9 ya10 ya11 ya12 : Nat → Int32), ie_I P s' y12 y13 y14 → ie_OK P (yrd, ycm, yst, yfa, ydf, ylv, ylx, ylw, yly, yse, ya1, ya2, ya3, ya4, ya5, ya6, ya7, ya8, ya9, ya10, ya11, ya12) → wL_law_399 post L xs x3 x5 x7 x9 kc ks n s' y12 y13 y14 (nI (i + 1)) yrd ycm yst yfa ydf ylv ylx ylw yly yse ya1 ya2 ya3 ya4 ya5 ya6 ya7 ya8 ya9 ya10 ya11 ya12 :=
      fun s' y12 y13 y14 yrd ycm yst yfa ydf ylv ylx ylw yly yse ya1 ya2 ya3 ya4 ya5 ya6 ya7 ya8 ya9 ya10 ya11 ya12 q1 q2 => hw (s', y12, y13, y14, (yrd, ycm, yst, yfa, ydf, ylv, ylx, ylw, yly, yse, ya1, ya2, ya3, ya4, ya5, ya6, ya7, ya8, ya9, ya10, ya11, ya12)) ⟨q1, q2⟩
    show wL_law_399 post L xs x3 x5 x7 x9 kc ks (n + 1) s x12 x13 x14 (nI i) xrd xcm xst xfa xdf xlv xlx xlw xly xse xa1 xa2 xa3 xa4 xa5 xa6 xa7 xa8 xa9 xa10 xa11 xa12
    have e10 : 10 + nI i / 3 = nI (10 + i / 3) := by
      rw [show nI i / 3 = nI (i / 3) from pk_div (d := 3) (by omega) (by decide) (by decide)]
      exact nI_add 10 _
    refine pk_le 30 i (fun z => absurd z (by omega)) (fun _ => ⟨by decide, ?_⟩)
    rw [e10]
    refine ie_w_cell hL (by omega) (fun r => ⟨by decide, by decide, ?_⟩)
    obtain ⟨t, ht, et⟩ := ie_rem30 (r >>> ((8 * (nI i - nI i / 3 * 3)) &&& 31)) 0 hi
    refine nm_r et (nm_e ?_)
    have h3 : t = 0 ∨ t = 1 ∨ t = 2 := by omega
    rcases h3 with e | e | e <;> subst e
    · refine br_t rfl ?_
      have g := ie_w_470 (post := post) (L := L) (xs := xs) (J := wL_law_399 post L xs x3 x5 x7 x9 kc ks n) (x3 := x3) (x5 := x5) (x7 := x7) (i := i) (kc := kc) (ks := ks) hP hs ht e9 k0 hI' hk' K
      rw [← e3] at g
      exact g
    · refine br_f (by decide) (br_t rfl ?_)
      have g := ie_w_470 (post := post) (L := L) (xs := xs) (J := wL_law_399 post L xs x3 x5 x7 x9 kc ks n) (x3 := x3) (x5 := x5) (x7 := x7) (i := i) (kc := kc) (ks := ks) hP hs ht e9 k1 hI' hk' K
      rw [← e5] at g
      exact g
    · refine br_f (by decide) (br_f (by decide) ?_)
      have g := ie_w_470 (post := post) (L := L) (xs := xs) (J := wL_law_399 post L xs x3 x5 x7 x9 kc ks n) (x3 := x3) (x5 := x5) (x7 := x7) (i := i) (kc := kc) (ks := ks) hP hs ht e9 k2 hI' hk' K
      rw [← e7] at g
      exact g
theorem ie_w_363 {post : Int32 → Prop} {L : Nat} {xs : Nat → Int32} {x3 x5 x7 : Int64} {x9 : Int32} {kc ks : Nat} {P : ie_P} {u : St1} (hL : L ≤ 260) (hQ : ie_Q P x3 x5 x7 x9) (hs : ie_tot P ≤ 7) (hk : ie_OK P u) (h1 : post 1) :
    ∃ n, wL_law_363 post L xs x3 x5 x7 x9 kc ks u.1 u.2.1 u.2.2.1 u.2.2.2.1 u.2.2.2.2.1 u.2.2.2.2.2.1 u.2.2.2.2.2.2.1 u.2.2.2.2.2.2.2.1 u.2.2.2.2.2.2.2.2.1 u.2.2.2.2.2.2.2.2.2.1 u.2.2.2.2.2.2.2.2.2.2.1 u.2.2.2.2.2.2.2.2.2.2.2.1 u.2.2.2.2.2.2.2.2.2.2.2.2.1 u.2.2.2.2.2.2.2.2.2.2.2.2.2.1 u.2.2.2.2.2.2.2.2.2.2.2.2.2.2.1 u.2.2.2.2.2.2.2.2.2.2.2.2.2.2.2.1 u.2.2.2.2.2.2.2.2.2.2.2.2.2.2.2.2.1 u.2.2.2.2.2.2.2.2.2.2.2.2.2.2.2.2.2.1 u.2.2.2.2.2.2.2.2.2.2.2.2.2.2.2.2.2.2.1 u.2.2.2.2.2.2.2.2.2.2.2.2.2.2.2.2.2.2.2.1 u.2.2.2.2.2.2.2.2.2.2.2.2.2.2.2.2.2.2.2.2.1 u.2.2.2.2.2.2.2.2.2.2.2.2.2.2.2.2.2.2.2.2.2 n 0 0 := by
  refine pk_loop (σ := Int64) (fun n i s => wL_law_363 post L xs x3 x5 x7 x9 kc ks u.1 u.2.1 u.2.2.1 u.2.2.2.1 u.2.2.2.2.1 u.2.2.2.2.2.1 u.2.2.2.2.2.2.1 u.2.2.2.2.2.2.2.1 u.2.2.2.2.2.2.2.2.1 u.2.2.2.2.2.2.2.2.2.1 u.2.2.2.2.2.2.2.2.2.2.1 u.2.2.2.2.2.2.2.2.2.2.2.1 u.2.2.2.2.2.2.2.2.2.2.2.2.1 u.2.2.2.2.2.2.2.2.2.2.2.2.2.1 u.2.2.2.2.2.2.2.2.2.2.2.2.2.2.1 u.2.2.2.2.2.2.2.2.2.2.2.2.2.2.2.1 u.2.2.2.2.2.2.2.2.2.2.2.2.2.2.2.2.1 u.2.2.2.2.2.2.2.2.2.2.2.2.2.2.2.2.2.1 u.2.2.2.2.2.2.2.2.2.2.2.2.2.2.2.2.2.2.1 u.2.2.2.2.2.2.2.2.2.2.2.2.2.2.2.2.2.2.2.1 u.2.2.2.2.2.2.2.2.2.2.2.2.2.2.2.2.2.2.2.2.1 u.2.2.2.2.2.2.2.2.2.2.2.2.2.2.2.2.2.2.2.2.2 n s (nI i)) (fun i s => ∀ k, k < i → ie_gv s k = 0) 10 0 0 (by omega) (fun k hk => absurd hk (by omega)) ?_ ?_
  · intro n s h
    refine pk_le 10 10 (fun _ => ie_w_399 hL hQ hs hk h1 (Or.inl ⟨rfl, ie_c0, ie_wf0 P, fun k hk => h k hk, ⟨3, 3, by omega, by omega, rfl, rfl, rfl⟩, ?_, ie_Rg0, ie_Good0 hQ.1 hs⟩)) (fun z => absurd z (by omega))
    rw [ie_pc0, ie_pc0, ie_pc0]
    rfl
  · intro n i s hi h hw
    have z6 : ie_in6 0 := by
      unfold ie_in6
      decide
    refine pk_le 10 i (fun z => absurd z (by omega)) (fun _ => ie_w_set (nm_r (nI_1 i) (hw _ (fun k hk => ?_))))
    by_cases e : k = i
    · rw [e]
      exact ie_gv_same s hi z6
    · rw [ie_gv_other s hi (by omega) z6 e]
      exact h k (by omega)
def ie_P0 : ie_P := (fun _ => 0, fun _ => 0, fun _ => 0, fun _ => 0)
theorem ie_sz0 (t : Nat) : ie_sz ie_P0 t = 0 := sb_cl0
theorem ie_wfP0 : ie_wfP ie_P0 := by
  intro t _
  rw [ie_sz0]
  exact ⟨rfl, by omega⟩
theorem ie_pk0 (t : Nat) : ie_pk ie_P0 t 0 := by
  unfold ie_pk
  rw [ie_sz0]
  exact ⟨by decide, fun n hn => absurd hn (by omega)⟩
theorem ie_Q0 : ie_Q ie_P0 0 0 0 0 := by
  refine ⟨ie_wfP0, ?_, 0, 0, 0, rfl, rfl, rfl, ie_pk0 0, ie_pk0 1, ie_pk0 2⟩
  rw [ie_sz0, ie_sz0, ie_sz0]
  rfl
theorem ie_tot0 : ie_tot ie_P0 = 0 := by
  unfold ie_tot
  rw [ie_sz0, ie_sz0, ie_sz0]
theorem i_vc (xs : Nat → Int32) (L : Nat) (hL : L ≤ 260) : wpL_law (fun r => r = 1) L xs := by
  unfold wpL_law
  refine ⟨12, 292, by omega, by omega, ?_⟩
  unfold wpX_init
  refine ⟨by omega, by omega, by omega, by omega, by omega, by omega, by omega, by omega, by omega, by omega, by omega, by omega, by omega, by omega, by omega, by omega, by omega, by omega, by omega, by omega, by omega, by omega, by omega, by omega, ?_⟩
  refine ie_w_single (P := ie_P0) hL ie_wfP0 (ie_sz0 0) (ie_sz0 1) (ie_sz0 2) ⟨rfl, fun _ _ => rfl, Or.inl rfl⟩ (fun v => ?_)
  obtain ⟨vrd, vcm, vst, vfa, vdf, vlv, vlx, vlw, vly, vse, va1, va2, va3, va4, va5, va6, va7, va8, va9, va10, va11, va12⟩ := v
  refine br_f (by decide) ⟨by omega, by omega, 12, 292, by omega, by omega, ?_⟩
  refine ⟨by omega, by omega, by omega, by omega, by omega, by omega, by omega, by omega, by omega, by omega, by omega, by omega, by omega, by omega, by omega, by omega, by omega, by omega, by omega, by omega, by omega, by omega, by omega, by omega, ?_⟩
  exact ie_w_40 (post := fun r => r = 1) (xs := xs) (kc := 1 + 12 + 1 + 12) (ks := 22 + 292 + 22 + 292) (u := (0, 0, 0, 0, 0, 0, 0, 0, 0, 0, fun _ => 0, fun _ => 0, fun _ => 0, fun _ => 0, fun _ => 0, fun _ => 0, fun _ => 0, fun _ => 0, fun _ => 0, fun _ => 0, fun _ => 0, fun _ => 0)) hL
    (fun P x3 x5 x7 x9 u q1 q2 q3 => ie_w_237 q1.1 q2 (ie_Q_arg q1) q3 (fun u' q4 => ie_w_363 (post := fun r => r = 1) hL q1 q2 q4 rfl)) ie_Q0 ie_tot0 ⟨rfl, fun _ _ => rfl, Or.inl rfl⟩
end
