section
/-! the pure machine: four registers, one step, a run -/
abbrev ml_Q : Type := Int32 × Int32 × Int32 × Int32
def ml_g (q : ml_Q) (i : Nat) : Int32 := if i = 0 then q.1 else if i = 1 then q.2.1 else if i = 2 then q.2.2.1 else q.2.2.2
def ml_s (q : ml_Q) (i : Nat) (v : Int32) : ml_Q := (if i = 0 then v else q.1, if i = 1 then v else q.2.1, if i = 2 then v else q.2.2.1, if i = 3 then v else q.2.2.2)
theorem ml_gs (q : ml_Q) (v : Int32) {a i : Nat} (ha : a < 4) (hi : i < 4) : ml_g (ml_s q a v) i = if i = a then v else ml_g q i := by
  obtain rfl | rfl | rfl | rfl : a = 0 ∨ a = 1 ∨ a = 2 ∨ a = 3 := by omega
  all_goals
    obtain rfl | rfl | rfl | rfl : i = 0 ∨ i = 1 ∨ i = 2 ∨ i = 3 := by omega
    all_goals rfl
theorem ml_up {R : Nat → Int32} {B a : Nat} {q : ml_Q} (v : Int32) (ha : a < 4) (hq : ∀ i, i < 4 → R (B + i) = ml_g q i) : (∀ i, i < 4 → upd R (B + a) v (B + i) = ml_g (ml_s q a v) i) ∧ (∀ i, i < B ∨ B + 4 ≤ i → upd R (B + a) v i = R i) := by
  refine ⟨fun i hi => ?_, fun i hi => pk_un (by omega)⟩
  rw [ml_gs q v ha hi]
  by_cases e : i = a
  · rw [if_pos e, e, pk_us]
  · rw [if_neg e, pk_un (by omega), hq i hi]
/-- one instruction: registers a and b, place pc, op o, constant c -/
def ml_st (a b : Nat) (pc o c : Int32) (q : ml_Q) : Int32 × ml_Q :=
  if o < 0 then (pc + 1, ml_s q a (ml_g q a + c))
  else if 6 < o then (pc + 1, ml_s q a (ml_g q a + c))
  else if o = 0 then (pc + 1, ml_s q a c)
  else if o = 1 then (pc + 1, ml_s q a (ml_g q a + ml_g q b))
  else if o = 2 then (pc + 1, ml_s q a (ml_g q a - ml_g q b))
  else if o = 3 then (pc + 1, ml_s q a (ml_g q a * ml_g q b))
  else if o = 4 then (pc + 1, ml_s q a (if ml_g q b ≤ ml_g q a then ml_g q b else ml_g q a))
  else if o = 5 then (if ml_g q b ≤ ml_g q a then pc + 1 else c, q)
  else (if ml_g q a = 0 then c else pc + 1, q)
/-- the registers that the five instructions name -/
def ml_ra (j : Nat) : Nat := if j = 1 then 2 else if j = 3 then 3 else 0
def ml_rb (j : Nat) : Nat := if j = 4 then 2 else 0
theorem ml_ra4 (j : Nat) : ml_ra j < 4 := by
  unfold ml_ra
  split
  · omega
  · split <;> omega
theorem ml_rb4 (j : Nat) : ml_rb j < 4 := by
  unfold ml_rb
  split <;> omega
/-- a run of at most f more steps; answers place, registers, steps -/
def ml_rn (op con : Nat → Int32) : Nat → Int32 → ml_Q → Nat → Int32 × ml_Q × Nat
  | 0, pc, q, k => (pc, q, k)
  | f + 1, pc, q, k => if pc < 0 ∨ 5 ≤ pc then (pc, q, k) else ml_rn op con f (ml_st (ml_ra pc.toNatClampNeg) (ml_rb pc.toNatClampNeg) pc (op pc.toNatClampNeg) (con pc.toNatClampNeg) q).1 (ml_st (ml_ra pc.toNatClampNeg) (ml_rb pc.toNatClampNeg) pc (op pc.toNatClampNeg) (con pc.toNatClampNeg) q).2 (k + 1)
theorem ml_rn_out {op con : Nat → Int32} {f : Nat} {pc : Int32} {q : ml_Q} {k : Nat} (h : pc < 0 ∨ 5 ≤ pc) : ml_rn op con f pc q k = (pc, q, k) := by
  cases f with
  | zero => rfl
  | succ f => unfold ml_rn; rw [if_pos h]
theorem ml_inr {p : Nat} (hp : p < 5) : ¬ (nI p < 0 ∨ 5 ≤ nI p) := by
  intro h
  rcases h with h | h
  · exact nI_pos (by omega) h
  · exact nI_ge (a := p) (b := 5) hp (by decide) h
theorem ml_rn_in {op con : Nat → Int32} {f p : Nat} {q : ml_Q} {k : Nat} {o c : Int32} (hp : p < 5) (ho : op p = o) (hc : con p = c) : ml_rn op con (f + 1) (nI p) q k = ml_rn op con f (ml_st (ml_ra p) (ml_rb p) (nI p) o c q).1 (ml_st (ml_ra p) (ml_rb p) (nI p) o c q).2 (k + 1) := by
  conv => lhs; unfold ml_rn
  rw [if_neg (ml_inr hp), nI_clamp (show p < 2 ^ 31 by omega), ho, hc]
/-- what a run's end says: 1 if it has ended -/
def ml_e (pc : Int32) : Int32 := if pc < 0 ∨ 5 ≤ pc then 1 else 0
def ml_fin (r : Int32 × ml_Q × Nat) : Int32 × Int32 × Int32 := (ml_e r.1, if ml_e r.1 = 0 then 0 else r.2.1.1, nI r.2.2)
theorem ml_e01 (pc : Int32) : ml_e pc = 0 ∨ ml_e pc = 1 := by
  unfold ml_e
  split
  · exact Or.inr rfl
  · exact Or.inl rfl
theorem ml_nar {z : Int32} (h : z = 0 ∨ z = 1) : vp_nar .boolean z = z := by
  rcases h with h | h
  · rw [h]; decide
  · rw [h]; decide
/-- the place, where the run goes on -/
theorem ml_pl {pc : Int32} (h0 : ¬ pc < 0) (h5 : ¬ nI 5 ≤ pc) : ∃ p : Nat, p < 5 ∧ pc = nI p := by
  obtain ⟨j, hj, e⟩ := nI_of h0
  refine ⟨j, ?_, e⟩
  rw [e, nI_leI (by omega) hj] at h5
  omega
end
section
/-! one instruction, over the printed state -/
theorem ml_carry {post : Int32 → St2 → Prop} {sz ts mu rd mp mo mc : Int32} {a1 a2 a3 a4 a5 a6 a7 a8 a9 a10 a11 a12 a13 a14 a15 a16 a17 a18 a19 a20 : Nat → Int32} {B p a b : Nat} {o c : Int32} {q : ml_Q} (hB : B ≤ 4) (hp : p < 12) (ha : a < 4) (hb : b < 4)
    (ea : a2 p &&& 3 = nI a) (eb : a2 p >>> ((2 : Int32) &&& 31) = nI b) (hq : ∀ i, i < 4 → a17 (B + i) = ml_g q i)
    (H : ∀ R : Nat → Int32, (∀ i, i < 4 → R (B + i) = ml_g (ml_st a b (nI p) o c q).2 i) → (∀ i, i < B ∨ B + 4 ≤ i → R i = a17 i) → post (ml_st a b (nI p) o c q).1 (sz, ts, mu, rd, mp, mo, mc, a1, a2, a3, a4, a5, a6, a7, a8, a9, a10, a11, a12, a13, a14, a15, a16, R, a18, a19, a20)) :
    wpX_carryOut post (sz, ts, mu, rd, mp, mo, mc, a1, a2, a3, a4, a5, a6, a7, a8, a9, a10, a11, a12, a13, a14, a15, a16, a17, a18, a19, a20) (nI B) (nI p) o c := by
  have K : ∀ v : Int32, ml_st a b (nI p) o c q = (nI p + 1, ml_s q a v) → post (nI p + 1) (sz, ts, mu, rd, mp, mo, mc, a1, a2, a3, a4, a5, a6, a7, a8, a9, a10, a11, a12, a13, a14, a15, a16, upd a17 (B + a) v, a18, a19, a20) := by
    intro v e
    have h := H (upd a17 (B + a) v) (by rw [e]; exact (ml_up v ha hq).1) (ml_up v ha hq).2
    rw [e] at h
    exact h
  have J : ∀ r : Int32, ml_st a b (nI p) o c q = (r, q) → post r (sz, ts, mu, rd, mp, mo, mc, a1, a2, a3, a4, a5, a6, a7, a8, a9, a10, a11, a12, a13, a14, a15, a16, a17, a18, a19, a20) := by
    intro r e
    have h := H a17 (by rw [e]; exact hq) (fun _ _ => rfl)
    rw [e] at h
    exact h
  have ca : (nI (B + a)).toNatClampNeg = B + a := nI_clamp (by omega)
  have cb : (nI (B + b)).toNatClampNeg = B + b := nI_clamp (by omega)
  have ia : vp_in (nI (B + a)) 8 := pk_in (B + a) 8 (by omega)
  have ib : vp_in (nI (B + b)) 8 := pk_in (B + b) 8 (by omega)
  have ip : vp_in (nI p) 12 := pk_in p 12 hp
  have ga : a17 (B + a) = ml_g q a := hq a ha
  have gb : a17 (B + b) = ml_g q b := hq b hb
  unfold wpX_carryOut
  dsimp only
  refine ⟨ip, nm_r (e' := nI (B + a)) (by rw [nI_clamp (show p < 2 ^ 31 by omega), ea, nI_add]) ⟨ip, nm_r (e' := nI (B + b)) (by rw [nI_clamp (show p < 2 ^ 31 by omega), eb, nI_add]) ?_⟩⟩
  rw [ca, cb, ga, gb]
  refine br_c (fun h0 => ⟨ia, ia, nm_e (K _ (by unfold ml_st; rw [if_pos h0]))⟩) (fun h0 => ?_)
  refine br_c (fun h1 => ⟨ia, ia, nm_e (K _ (by unfold ml_st; rw [if_neg h0, if_pos h1]))⟩) (fun h1 => ?_)
  refine br_c (fun h2 => ⟨ia, nm_e (K _ (by unfold ml_st; rw [if_neg h0, if_neg h1, if_pos h2]))⟩) (fun h2 => ?_)
  refine br_c (fun h3 => ⟨ia, ib, ia, nm_e (K _ (by unfold ml_st; rw [if_neg h0, if_neg h1, if_neg h2, if_pos h3]))⟩) (fun h3 => ?_)
  refine br_c (fun h4 => ⟨ia, ib, ia, nm_e (K _ (by unfold ml_st; rw [if_neg h0, if_neg h1, if_neg h2, if_neg h3, if_pos h4]))⟩) (fun h4 => ?_)
  refine br_c (fun h5 => ⟨ia, ib, ia, nm_e (K _ (by unfold ml_st; rw [if_neg h0, if_neg h1, if_neg h2, if_neg h3, if_neg h4, if_pos h5]))⟩) (fun h5 => ?_)
  refine br_c (fun h6 => ⟨ia, ib, br_c (fun z => ⟨ib, ia, nm_e (K _ (by unfold ml_st; rw [if_neg h0, if_neg h1, if_neg h2, if_neg h3, if_neg h4, if_neg h5, if_pos h6, if_pos z]))⟩) (fun z => ⟨ia, ia, nm_e (K _ (by unfold ml_st; rw [if_neg h0, if_neg h1, if_neg h2, if_neg h3, if_neg h4, if_neg h5, if_pos h6, if_neg z]))⟩)⟩) (fun h6 => ?_)
  refine br_c (fun h7 => ⟨ia, ib, br_c (fun z => J _ (by unfold ml_st; rw [if_neg h0, if_neg h1, if_neg h2, if_neg h3, if_neg h4, if_neg h5, if_neg h6, if_pos h7, if_pos z])) (fun z => J _ (by unfold ml_st; rw [if_neg h0, if_neg h1, if_neg h2, if_neg h3, if_neg h4, if_neg h5, if_neg h6, if_pos h7, if_neg z]))⟩) (fun h7 => ?_)
  refine br_c (fun h8 => ⟨ia, br_c (fun z => J _ (by unfold ml_st; rw [if_neg h0, if_neg h1, if_neg h2, if_neg h3, if_neg h4, if_neg h5, if_neg h6, if_neg h7, if_pos z])) (fun z => J _ (by unfold ml_st; rw [if_neg h0, if_neg h1, if_neg h2, if_neg h3, if_neg h4, if_neg h5, if_neg h6, if_neg h7, if_neg z]))⟩) (fun h8 => trivial)
/-- a mutant's instruction -/
theorem ml_stepM {post : Int32 → St2 → Prop} {sz ts mu rd mp mo mc : Int32} {a1 a2 a3 a4 a5 a6 a7 a8 a9 a10 a11 a12 a13 a14 a15 a16 a17 a18 a19 a20 : Nat → Int32} {p w : Nat} {o c : Int32} {q : ml_Q} (hp : p < 5) (hw : w < 5) (hm : mp = nI w)
    (h1 : p = w → o = mo ∧ c = mc) (h2 : p ≠ w → o = a1 p ∧ c = a3 p)
    (ea : a2 p &&& 3 = nI (ml_ra p)) (eb : a2 p >>> ((2 : Int32) &&& 31) = nI (ml_rb p)) (hq : ∀ i, i < 4 → a17 (4 + i) = ml_g q i)
    (H : ∀ R : Nat → Int32, (∀ i, i < 4 → R (4 + i) = ml_g (ml_st (ml_ra p) (ml_rb p) (nI p) o c q).2 i) → (∀ i, i < 4 → R i = a17 i) → post (ml_st (ml_ra p) (ml_rb p) (nI p) o c q).1 (sz, ts, mu, rd, mp, mo, mc, a1, a2, a3, a4, a5, a6, a7, a8, a9, a10, a11, a12, a13, a14, a15, a16, R, a18, a19, a20)) :
    wpX_stepMutant post (sz, ts, mu, rd, mp, mo, mc, a1, a2, a3, a4, a5, a6, a7, a8, a9, a10, a11, a12, a13, a14, a15, a16, a17, a18, a19, a20) (nI p) := by
  have cp : (nI p).toNatClampNeg = p := nI_clamp (by omega)
  unfold wpX_stepMutant
  dsimp only
  refine pk_eq p w (fun z => ?_) (fun z => ⟨pk_in p 12 (by omega), pk_in p 12 (by omega), ?_⟩) (hy := hm)
  · obtain ⟨e1, e2⟩ := h1 z
    rw [e1, e2] at H
    exact ml_carry (B := 4) (by omega) (by omega) (ml_ra4 p) (ml_rb4 p) ea eb hq (fun R h h' => H R h (fun i hi => h' i (Or.inl hi)))
  · obtain ⟨e1, e2⟩ := h2 z
    rw [e1, e2] at H
    rw [cp]
    exact ml_carry (B := 4) (by omega) (by omega) (ml_ra4 p) (ml_rb4 p) ea eb hq (fun R h h' => H R h (fun i hi => h' i (Or.inl hi)))
end
section
/-! a test that takes its expectation from a run -/
theorem ml_e1 {pc : Int32} (h : pc < 0) : 1 = ml_e pc := by
  unfold ml_e
  rw [if_pos (Or.inl h)]
theorem ml_e5 {pc : Int32} (h : ¬ pc < nI 5) : 1 = ml_e pc := by
  have h' : pc < 0 ∨ 5 ≤ pc := Or.inr (Int32.not_lt.mp h)
  unfold ml_e
  rw [if_pos h']
theorem ml_e0 {pc : Int32} (h0 : ¬ pc < 0) (h : pc < nI 5) : 0 = ml_e pc := by
  have h' : ¬ (pc < 0 ∨ 5 ≤ pc) := fun z => z.elim h0 (fun z => Int32.not_le.mpr h z)
  unfold ml_e
  rw [if_neg h']
theorem ml_addTest {post : Int32 → St2 → Prop} {sz mu rd mp mo mc : Int32} {a1 a2 a3 a4 a5 a6 a7 a8 a9 a10 a11 a12 a13 a14 a15 a16 a17 a18 a19 a20 : Nat → Int32} {p0 p1 p2 p3 : Int32} {T : Nat} (hT : T < 6) (hz : p2 = 0 ∨ p2 = 1)
    (H : post (nI T) (sz, nI (T + 1), mu, 0, mp, mo, mc, a1, a2, a3, upd a4 T p0, upd a5 T p1, upd a6 T p2, upd a7 T p3, a8, a9, a10, a11, a12, a13, a14, a15, a16, a17, a18, a19, a20)) : wpX_addTest post (sz, nI T, mu, rd, mp, mo, mc, a1, a2, a3, a4, a5, a6, a7, a8, a9, a10, a11, a12, a13, a14, a15, a16, a17, a18, a19, a20) p0 p1 p2 p3 := by
  have c : (nI T).toNatClampNeg = T := nI_clamp (by omega)
  have i : vp_in (nI T) 6 := pk_in T 6 hT
  unfold wpX_addTest
  dsimp only
  rw [c, ml_nar hz]
  exact pk_lt T 6 (fun _ => ⟨i, nm_e ⟨i, nm_e ⟨i, nm_e ⟨i, nm_e (nm_r (nI_1 T) H)⟩⟩⟩⟩) (fun z => absurd z (by omega))
theorem ml_s89 {post : Int32 → St2 → Prop} {x1 x2 pc : Int32} {mu rd mp mo mc : Int32} {a1 a2 a3 a4 a5 a6 a7 a8 a9 a10 a11 a12 a13 a14 a15 a16 a17 a18 a19 a20 : Nat → Int32} {T : Nat} (hT : T < 6)
    (H : post (nI T) (nI 5, nI (T + 1), mu, 0, mp, mo, mc, a1, a2, a3, upd a4 T x1, upd a5 T x2, upd a6 T (ml_e pc), upd a7 T (a17 0), a8, a9, a10, a11, a12, a13, a14, a15, a16, a17, a18, a19, a20)) : wX_snapshotTest_89 post x1 x2 pc (nI 5) (nI T) mu rd mp mo mc a1 a2 a3 a4 a5 a6 a7 a8 a9 a10 a11 a12 a13 a14 a15 a16 a17 a18 a19 a20 := by
  have A : ∀ z : Int32, z = ml_e pc → wX_snapshotTest_106 post x1 x2 z (nI 5) (nI T) mu rd mp mo mc a1 a2 a3 a4 a5 a6 a7 a8 a9 a10 a11 a12 a13 a14 a15 a16 a17 a18 a19 a20 := by
    intro z hz
    rw [hz]
    exact ml_addTest hT (ml_e01 pc) H
  exact br_c (fun h => A 1 (ml_e1 h)) (fun h0 => br_c (fun h5 => A 0 (ml_e0 h0 h5)) (fun h5 => A 1 (ml_e5 h5)))
theorem ml_s45 {post : Int32 → St2 → Prop} {x1 x2 : Int32} {ts mu rd mp mo mc : Int32} {a1 a2 a3 a4 a5 a6 a7 a8 a9 a10 a11 a12 a13 a14 a15 a16 a18 a19 a20 : Nat → Int32} {op con : Nat → Int32} (h1 : ∀ j, j < 5 → a1 j = op j) (h3 : ∀ j, j < 5 → a3 j = con j)
    (hg : ∀ j, j < 5 → a2 j &&& 3 = nI (ml_ra j) ∧ a2 j >>> ((2 : Int32) &&& 31) = nI (ml_rb j)) :
    ∀ (f k : Nat) (pc : Int32) (q : ml_Q) (R : Nat → Int32), k + f = 100 → (∀ i, i < 4 → R (0 + i) = ml_g q i) →
      (∀ R' : Nat → Int32, (∀ i, i < 4 → R' (0 + i) = ml_g (ml_rn op con f pc q k).2.1 i) → wX_snapshotTest_89 post x1 x2 (ml_rn op con f pc q k).1 (nI 5) ts mu rd mp mo mc a1 a2 a3 a4 a5 a6 a7 a8 a9 a10 a11 a12 a13 a14 a15 a16 R' a18 a19 a20) →
      wX_snapshotTest_45 post x1 x2 (f + 1) pc (nI k) (nI 5) ts mu rd mp mo mc a1 a2 a3 a4 a5 a6 a7 a8 a9 a10 a11 a12 a13 a14 a15 a16 R a18 a19 a20 := by
  intro f
  induction f with
  | zero =>
    intro k pc q R hk hq H
    exact pk_le 100 k (fun _ => H R hq) (fun z => absurd z (by omega))
  | succ f ih =>
    intro k pc q R hk hq H
    refine pk_le 100 k (fun z => absurd z (by omega)) (fun _ => br_c (fun h0 => ?_) (fun h0 => br_c (fun h5 => ?_) (fun h5 => ?_)))
    · rw [ml_rn_out (Or.inl h0)] at H
      exact H R hq
    · rw [ml_rn_out (Or.inr h5)] at H
      exact H R hq
    · obtain ⟨p, hp, e⟩ := ml_pl h0 h5
      subst e
      rw [ml_rn_in hp rfl rfl] at H
      refine ⟨pk_in p 12 (by omega), pk_in p 12 (by omega), ?_⟩
      rw [nI_clamp (show p < 2 ^ 31 by omega), h1 p hp, h3 p hp]
      exact ml_carry (B := 0) (by omega) (by omega) (ml_ra4 p) (ml_rb4 p) (hg p hp).1 (hg p hp).2 hq (fun R' hR _ => nm_r (nI_1 k) (ih (k + 1) _ _ R' (by omega) hR H))
theorem ml_ini (R : Nat → Int32) (p0 p1 : Int32) : ∀ i, i < 4 → upd (upd (upd (upd R 0 p0) 1 p1) 2 0) 3 0 (0 + i) = ml_g (p0, p1, 0, 0) i := by
  intro i hi
  obtain rfl | rfl | rfl | rfl : i = 0 ∨ i = 1 ∨ i = 2 ∨ i = 3 := by omega
  all_goals rfl
theorem ml_snap0 {post : Int32 → St2 → Prop} {p0 p1 : Int32} {mu rd mp mo mc : Int32} {a1 a2 a3 a4 a5 a6 a7 a8 a9 a10 a11 a12 a13 a14 a15 a16 a17 a18 a19 a20 : Nat → Int32} {op con : Nat → Int32} {T : Nat} (hT : T < 6) (h1 : ∀ j, j < 5 → a1 j = op j) (h3 : ∀ j, j < 5 → a3 j = con j)
    (hg : ∀ j, j < 5 → a2 j &&& 3 = nI (ml_ra j) ∧ a2 j >>> ((2 : Int32) &&& 31) = nI (ml_rb j))
    (H : ∀ R : Nat → Int32, post (nI T) (nI 5, nI (T + 1), mu, 0, mp, mo, mc, a1, a2, a3, upd a4 T p0, upd a5 T p1, upd a6 T (ml_e (ml_rn op con 100 0 (p0, p1, 0, 0) 0).1), upd a7 T (ml_rn op con 100 0 (p0, p1, 0, 0) 0).2.1.1, a8, a9, a10, a11, a12, a13, a14, a15, a16, R, a18, a19, a20)) :
    wpX_snapshotTest post (nI 5, nI T, mu, rd, mp, mo, mc, a1, a2, a3, a4, a5, a6, a7, a8, a9, a10, a11, a12, a13, a14, a15, a16, a17, a18, a19, a20) p0 p1 := by
  unfold wpX_snapshotTest
  dsimp only
  refine pk_lt T 6 (fun _ => nm_e (nm_e (nm_e (nm_e ⟨101, ml_s45 h1 h3 hg 100 0 0 (p0, p1, 0, 0) _ (by omega) (ml_ini a17 p0 p1) (fun R' hR => ml_s89 hT ?_)⟩)))) (fun z => absurd z (by omega))
  have g : R' 0 = (ml_rn op con 100 0 (p0, p1, 0, 0) 0).2.1.1 := hR 0 (by omega)
  rw [g]
  exact H R'
end
section
/-! a mutant that goes on alone -/
/-- what the three arrays of outcomes hold at a place -/
def ml_G (A B C : Nat → Int32) (j : Nat) : Int32 × Int32 × Int32 := (A j, B j, C j)
theorem ml_Gs {A B C : Nat → Int32} {j : Nat} (v : Int32 × Int32 × Int32) : ml_G (upd A j v.1) (upd B j v.2.1) (upd C j v.2.2) j = v := by
  show (upd A j v.1 j, upd B j v.2.1 j, upd C j v.2.2 j) = (v.1, v.2.1, v.2.2)
  rw [pk_us, pk_us, pk_us]
theorem ml_Gn {A B C : Nat → Int32} {i j : Nat} {x y z : Int32} (h : i ≠ j) : ml_G (upd A j x) (upd B j y) (upd C j z) i = ml_G A B C i := by
  show (upd A j x i, upd B j y i, upd C j z i) = (A i, B i, C i)
  rw [pk_un h, pk_un h, pk_un h]
theorem ml_at (t m : Nat) : nI t * 24 + nI m = nI (t * 24 + m) := by
  show nI t * nI 24 + nI m = _
  rw [pk_mul, nI_add]
theorem ml_186 {post : St2 → Prop} {x5 z0 : Int32} {A : Nat} {sz ts mu rd mp mo mc : Int32} {a1 a2 a3 a4 a5 a6 a7 a8 a9 a10 a11 a12 a13 a14 a15 a16 a17 a18 a19 a20 : Nat → Int32} (hA : A < 144) (hz : z0 = 0 ∨ z0 = 1)
    (H : post (sz, ts, mu, rd, mp, mo, mc, a1, a2, a3, a4, a5, a6, a7, a8, a9, a10, a11, a12, a13, upd a14 A z0, upd a15 A (if z0 = 0 then 0 else a17 4), upd a16 A x5, a17, a18, a19, a20)) : wX_split_186 post x5 (nI A) z0 (nI A) sz ts mu rd mp mo mc a1 a2 a3 a4 a5 a6 a7 a8 a9 a10 a11 a12 a13 a14 a15 a16 a17 a18 a19 a20 := by
  have c : (nI A).toNatClampNeg = A := nI_clamp (by omega)
  have i : vp_in (nI A) 144 := pk_in A 144 hA
  unfold wX_split_186
  rw [c, ml_nar hz]
  refine ⟨i, nm_e ⟨i, br_c (fun z => ?_) (fun z => ?_)⟩⟩
  · rw [pk_us] at z
    rw [if_pos z] at H
    exact ⟨i, nm_e ⟨i, nm_e H⟩⟩
  · rw [pk_us] at z
    rw [if_neg z] at H
    exact ⟨i, nm_e ⟨i, nm_e H⟩⟩
theorem ml_153 {post : St2 → Prop} {x5 pc : Int32} {t m : Nat} {ts mu rd mp mo mc : Int32} {a1 a2 a3 a4 a5 a6 a7 a8 a9 a10 a11 a12 a13 a14 a15 a16 a17 a18 a19 a20 : Nat → Int32} (ht : t < 6) (hm : m < 24)
    (H : post (nI 5, ts, mu, rd, mp, mo, mc, a1, a2, a3, a4, a5, a6, a7, a8, a9, a10, a11, a12, a13, upd a14 (t * 24 + m) (ml_e pc), upd a15 (t * 24 + m) (if ml_e pc = 0 then 0 else a17 4), upd a16 (t * 24 + m) x5, a17, a18, a19, a20)) : wX_split_153 post (nI t) (nI m) pc x5 (nI 5) ts mu rd mp mo mc a1 a2 a3 a4 a5 a6 a7 a8 a9 a10 a11 a12 a13 a14 a15 a16 a17 a18 a19 a20 := by
  have A : ∀ z : Int32, z = ml_e pc → wX_split_186 post x5 (nI (t * 24 + m)) z (nI (t * 24 + m)) (nI 5) ts mu rd mp mo mc a1 a2 a3 a4 a5 a6 a7 a8 a9 a10 a11 a12 a13 a14 a15 a16 a17 a18 a19 a20 := by
    intro z hz
    rw [hz]
    exact ml_186 (by omega) (ml_e01 pc) H
  unfold wX_split_153
  exact nm_r (e' := nI (t * 24 + m)) (ml_at t m) (br_c (fun h => A 1 (ml_e1 h)) (fun h0 => br_c (fun h5 => A 0 (ml_e0 h0 h5)) (fun h5 => A 1 (ml_e5 h5))))
theorem ml_118 {post : St2 → Prop} {x1 x2 : Int32} {ts mu rd mp mo mc : Int32} {a1 a2 a3 a4 a5 a6 a7 a8 a9 a10 a11 a12 a13 a14 a15 a16 a18 a19 a20 : Nat → Int32} {op con : Nat → Int32} {w : Nat} (hw : w < 5) (hm : mp = nI w)
    (h1 : ∀ j, j < 5 → op j = if j = w then mo else a1 j) (h3 : ∀ j, j < 5 → con j = if j = w then mc else a3 j)
    (hg : ∀ j, j < 5 → a2 j &&& 3 = nI (ml_ra j) ∧ a2 j >>> ((2 : Int32) &&& 31) = nI (ml_rb j)) :
    ∀ (f k : Nat) (pc : Int32) (q : ml_Q) (R : Nat → Int32), k + f = 100 → (∀ i, i < 4 → R (4 + i) = ml_g q i) →
      (∀ R' : Nat → Int32, (∀ i, i < 4 → R' (4 + i) = ml_g (ml_rn op con f pc q k).2.1 i) → (∀ i, i < 4 → R' i = R i) → wX_split_153 post x1 x2 (ml_rn op con f pc q k).1 (nI (ml_rn op con f pc q k).2.2) (nI 5) ts mu rd mp mo mc a1 a2 a3 a4 a5 a6 a7 a8 a9 a10 a11 a12 a13 a14 a15 a16 R' a18 a19 a20) →
      wX_split_118 post x1 x2 (f + 1) pc (nI k) (nI 5) ts mu rd mp mo mc a1 a2 a3 a4 a5 a6 a7 a8 a9 a10 a11 a12 a13 a14 a15 a16 R a18 a19 a20 := by
  intro f
  induction f with
  | zero =>
    intro k pc q R hk hq H
    exact pk_le 100 k (fun _ => H R hq (fun _ _ => rfl)) (fun z => absurd z (by omega))
  | succ f ih =>
    intro k pc q R hk hq H
    refine pk_le 100 k (fun z => absurd z (by omega)) (fun _ => br_c (fun h0 => ?_) (fun h0 => br_c (fun h5 => ?_) (fun h5 => ?_)))
    · rw [ml_rn_out (Or.inl h0)] at H
      exact H R hq (fun _ _ => rfl)
    · rw [ml_rn_out (Or.inr h5)] at H
      exact H R hq (fun _ _ => rfl)
    · obtain ⟨p, hp, e⟩ := ml_pl h0 h5
      subst e
      rw [ml_rn_in hp rfl rfl] at H
      exact ml_stepM (o := op p) (c := con p) hp hw hm (fun z => ⟨by rw [h1 p hp, if_pos z], by rw [h3 p hp, if_pos z]⟩) (fun z => ⟨by rw [h1 p hp, if_neg z], by rw [h3 p hp, if_neg z]⟩) (hg p hp).1 (hg p hp).2 hq
        (fun R' hR hk' => nm_r (nI_1 k) (ih (k + 1) _ _ R' (by omega) hR (fun R'' h h' => H R'' h (fun i hi => (h' i hi).trans (hk' i hi)))))
theorem ml_split {post : St2 → Prop} {ts mu rd mp mo mc : Int32} {a1 a2 a3 a4 a5 a6 a7 a8 a9 a10 a11 a12 a13 a14 a15 a16 a17 a18 a19 a20 : Nat → Int32} {t m k w : Nat} {op con : Nat → Int32} {q : ml_Q} (ht : t < 6) (hm : m < 24) (hk : k ≤ 100) (hw : w < 5) (e8 : a8 m = nI w)
    (h1 : ∀ j, j < 5 → op j = if j = w then (if a9 m = 0 then a1 w else a10 m) else a1 j) (h3 : ∀ j, j < 5 → con j = if j = w then (if a9 m = 0 then a10 m else a3 w) else a3 j)
    (hg : ∀ j, j < 5 → a2 j &&& 3 = nI (ml_ra j) ∧ a2 j >>> ((2 : Int32) &&& 31) = nI (ml_rb j)) (hq : ∀ i, i < 4 → a17 i = ml_g q i)
    (H : ∀ (p o c : Int32) (R : Nat → Int32), (∀ i, i < 4 → R i = a17 i) → post (nI 5, ts, mu, rd, p, o, c, a1, a2, a3, a4, a5, a6, a7, a8, a9, a10, a11, a12, a13, upd a14 (t * 24 + m) (ml_fin (ml_rn op con (100 - k) (nI w) q k)).1, upd a15 (t * 24 + m) (ml_fin (ml_rn op con (100 - k) (nI w) q k)).2.1, upd a16 (t * 24 + m) (ml_fin (ml_rn op con (100 - k) (nI w) q k)).2.2, R, a18, a19, a20)) :
    wpX_split post (nI 5, ts, mu, rd, mp, mo, mc, a1, a2, a3, a4, a5, a6, a7, a8, a9, a10, a11, a12, a13, a14, a15, a16, a17, a18, a19, a20) (nI t) (nI m) (nI k) := by
  have cm : (nI m).toNatClampNeg = m := nI_clamp (by omega)
  have cw : (nI w).toNatClampNeg = w := nI_clamp (by omega)
  have im : vp_in (nI m) 24 := pk_in m 24 hm
  have iw : vp_in (nI w) 12 := pk_in w 12 (by omega)
  have E : ∀ (R : Nat → Int32) (o c : Int32), (∀ i, i < 4 → R (4 + i) = ml_g q i) → (∀ i, i < 4 → R i = a17 i) → o = (if a9 m = 0 then a1 w else a10 m) → c = (if a9 m = 0 then a10 m else a3 w) →
      ∃ fu : Nat, wX_split_118 post (nI t) (nI m) fu (nI w) (nI k) (nI 5) ts mu rd (nI w) o c a1 a2 a3 a4 a5 a6 a7 a8 a9 a10 a11 a12 a13 a14 a15 a16 R a18 a19 a20 := by
    intro R o c hR hR' ho hc
    refine ⟨100 - k + 1, ml_118 (op := op) (con := con) hw rfl (fun j hj => by rw [h1 j hj, ho]) (fun j hj => by rw [h3 j hj, hc]) hg (100 - k) k (nI w) q R (by omega) hR (fun R' h h' => ml_153 ht hm ?_)⟩
    have z := H (nI w) o c R' (fun i hi => (h' i hi).trans (hR' i hi))
    have g4 : R' 4 = (ml_rn op con (100 - k) (nI w) q k).2.1.1 := h 0 (by omega)
    rw [g4]
    exact z
  have F : ∀ (R : Nat → Int32) (o : Int32), (∀ i, i < 4 → R (4 + i) = ml_g q i) → (∀ i, i < 4 → R i = a17 i) → o = (if a9 m = 0 then a1 w else a10 m) →
      wX_split_71 post (nI t) (nI m) (nI k) o (nI 5) ts mu rd (nI w) mo mc a1 a2 a3 a4 a5 a6 a7 a8 a9 a10 a11 a12 a13 a14 a15 a16 R a18 a19 a20 := by
    intro R o hR hR' ho
    unfold wX_split_71 wX_split_104
    rw [cm, e8, cw]
    exact ⟨im, br_c (fun z => ⟨im, im, nm_e (E R o _ hR hR' ho (by rw [if_pos z]))⟩) (fun z => ⟨im, iw, im, nm_e (E R o _ hR hR' ho (by rw [if_neg z]))⟩)⟩
  refine pk_loop (fun n i s => wX_split_3 post (nI t) (nI m) (nI k) (nI 5) ts mu rd mp mo mc n (nI i) a1 a2 a3 a4 a5 a6 a7 a8 a9 a10 a11 a12 a13 a14 a15 a16 s a18 a19 a20) (fun i s => (∀ j, j < i → s (4 + j) = a17 j) ∧ (∀ j, j < 4 → s j = a17 j)) 4 0 a17 (by omega) ⟨fun j hj => absurd hj (by omega), fun _ _ => rfl⟩ (fun n s h => ?_) (fun n i s hi h hw' => ?_)
  · refine pk_le 4 4 (fun _ => ?_) (fun z => absurd z (by omega))
    have hR : ∀ i, i < 4 → s (4 + i) = ml_g q i := fun i hi => (h.1 i hi).trans (hq i hi)
    rw [cm, e8, cw]
    exact ⟨im, nm_e ⟨im, br_c (fun z => ⟨im, iw, F s _ hR h.2 (by rw [if_pos z])⟩) (fun z => ⟨im, F s _ hR h.2 (by rw [if_neg z])⟩)⟩⟩
  · have ci : (nI i).toNatClampNeg = i := nI_clamp (by omega)
    have c4 : (4 : Int32) + nI i = nI (4 + i) := nI_add 4 i
    have cj : (nI (4 + i)).toNatClampNeg = 4 + i := nI_clamp (by omega)
    refine pk_le 4 i (fun z => absurd z (by omega)) (fun _ => ?_)
    rw [c4, cj, ci]
    refine ⟨pk_in i 8 (by omega), pk_in (4 + i) 8 (by omega), nm_e (nm_r (nI_1 i) (hw' _ ⟨fun j hj => ?_, fun j hj => ?_⟩))⟩
    · by_cases e : j = i
      · rw [e, pk_us]
        exact h.2 i hi
      · rw [pk_un (by omega)]
        exact h.1 j (by omega)
    · rw [pk_un (by omega)]
      exact h.2 j hj
/-- all mutants of a place -/
theorem ml_sA3 {post : St2 → Prop} {ts rd : Int32} {a1 a2 a3 a4 a5 a6 a7 a8 a9 a10 a11 a12 a13 a18 a19 a20 : Nat → Int32} {t p k M : Nat} {q : ml_Q} {W : Nat → Nat} {opm conm : Nat → Nat → Int32} {r : Nat → Int32 × ml_Q × Nat} {G0 : Nat → Int32 × Int32 × Int32}
    (ht : t < 6) (hk : k ≤ 100) (hM : M ≤ 24) (hp : p < 5) (e8 : ∀ m, m < M → a8 m = nI (W m)) (hW : ∀ m, m < M → W m < 5)
    (h1 : ∀ m, m < M → ∀ j, j < 5 → opm m j = if j = W m then (if a9 m = 0 then a1 (W m) else a10 m) else a1 j) (h3 : ∀ m, m < M → ∀ j, j < 5 → conm m j = if j = W m then (if a9 m = 0 then a10 m else a3 (W m)) else a3 j)
    (hg : ∀ j, j < 5 → a2 j &&& 3 = nI (ml_ra j) ∧ a2 j >>> ((2 : Int32) &&& 31) = nI (ml_rb j))
    (hF : ∀ m, m < M → W m = p → ml_rn (opm m) (conm m) (100 - k) (nI p) q k = r m)
    (H : ∀ (mp mo mc : Int32) (a14 a15 a16 a17 : Nat → Int32), (∀ i, i < 4 → a17 i = ml_g q i) → (∀ m, m < M → (W m = p → ml_G a14 a15 a16 (t * 24 + m) = ml_fin (r m)) ∧ (W m ≠ p → ml_G a14 a15 a16 (t * 24 + m) = G0 (t * 24 + m))) →
      (∀ j, j < t * 24 ∨ t * 24 + 24 ≤ j → ml_G a14 a15 a16 j = G0 j) → post (nI 5, ts, nI M, rd, mp, mo, mc, a1, a2, a3, a4, a5, a6, a7, a8, a9, a10, a11, a12, a13, a14, a15, a16, a17, a18, a19, a20)) :
    ∀ (f i : Nat) (mp mo mc : Int32) (a14 a15 a16 a17 : Nat → Int32), i + f = M → (∀ i, i < 4 → a17 i = ml_g q i) →
      (∀ m, m < M → (m < i ∧ W m = p → ml_G a14 a15 a16 (t * 24 + m) = ml_fin (r m)) ∧ (¬ (m < i ∧ W m = p) → ml_G a14 a15 a16 (t * 24 + m) = G0 (t * 24 + m))) →
      (∀ j, j < t * 24 ∨ t * 24 + 24 ≤ j → ml_G a14 a15 a16 j = G0 j) → wX_splitAll_3 post (nI t) (nI p) (nI k) (f + 1) (nI i) (nI 5) ts (nI M) rd mp mo mc a1 a2 a3 a4 a5 a6 a7 a8 a9 a10 a11 a12 a13 a14 a15 a16 a17 a18 a19 a20 := by
  intro f
  induction f with
  | zero =>
    intro i mp mo mc a14 a15 a16 a17 hi hR hG ho
    exact pk_le M i (fun _ => H mp mo mc a14 a15 a16 a17 hR (fun m hm => ⟨fun e => (hG m hm).1 ⟨by omega, e⟩, fun e => (hG m hm).2 (fun z => e z.2)⟩) ho) (fun z => absurd z (by omega))
  | succ f ih =>
    intro i mp mo mc a14 a15 a16 a17 hi hR hG ho
    have hi' : i < M := by omega
    refine pk_le M i (fun z => absurd z (by omega)) (fun _ => ⟨pk_in i 24 (by omega), ?_⟩)
    rw [nI_clamp (show i < 2 ^ 31 by omega), e8 i hi']
    have w5 := hW i hi'
    refine pk_eq (W i) p (fun z => ?_) (fun z => nm_r (nI_1 i) (ih (i + 1) mp mo mc a14 a15 a16 a17 (by omega) hR (fun m hm => ⟨fun e => (hG m hm).1 ⟨?_, e.2⟩, fun e => (hG m hm).2 (fun y => e ⟨by omega, y.2⟩)⟩) ho))
    · refine ml_split ht (by omega) hk w5 (e8 i hi') (h1 i hi') (h3 i hi') hg hR (fun p' o' c' R' hR' => ?_)
      refine nm_r (nI_1 i) (ih (i + 1) p' o' c' _ _ _ R' (by omega) (fun j hj => (hR' j hj).trans (hR j hj)) (fun m hm => ?_) (fun j hj => ?_))
      · by_cases e : m = i
        · refine ⟨fun _ => ?_, fun y => absurd ⟨by omega, by rw [e]; exact z⟩ y⟩
          rw [e, z, ml_Gs, hF i hi' z]
        · refine ⟨fun y => ?_, fun y => ?_⟩
          · rw [ml_Gn (by omega)]
            exact (hG m hm).1 ⟨by omega, y.2⟩
          · rw [ml_Gn (by omega)]
            exact (hG m hm).2 (fun v => y ⟨by omega, v.2⟩)
      · rw [ml_Gn (by omega)]
        exact ho j hj
    · have : m ≠ i := fun y => z (by rw [← y]; exact e.2)
      omega
theorem ml_splitAll {post : St2 → Prop} {ts rd mp mo mc : Int32} {a1 a2 a3 a4 a5 a6 a7 a8 a9 a10 a11 a12 a13 a14 a15 a16 a17 a18 a19 a20 : Nat → Int32} {t p k M : Nat} {q : ml_Q} {W : Nat → Nat} {opm conm : Nat → Nat → Int32} {r : Nat → Int32 × ml_Q × Nat}
    (ht : t < 6) (hk : k ≤ 100) (hM : M ≤ 24) (hp : p < 5) (e8 : ∀ m, m < M → a8 m = nI (W m)) (hW : ∀ m, m < M → W m < 5)
    (h1 : ∀ m, m < M → ∀ j, j < 5 → opm m j = if j = W m then (if a9 m = 0 then a1 (W m) else a10 m) else a1 j) (h3 : ∀ m, m < M → ∀ j, j < 5 → conm m j = if j = W m then (if a9 m = 0 then a10 m else a3 (W m)) else a3 j)
    (hg : ∀ j, j < 5 → a2 j &&& 3 = nI (ml_ra j) ∧ a2 j >>> ((2 : Int32) &&& 31) = nI (ml_rb j))
    (hF : ∀ m, m < M → W m = p → ml_rn (opm m) (conm m) (100 - k) (nI p) q k = r m) (hR : ∀ i, i < 4 → a17 i = ml_g q i)
    (H : ∀ (mp mo mc : Int32) (A14 A15 A16 a17 : Nat → Int32), (∀ i, i < 4 → a17 i = ml_g q i) → (∀ m, m < M → (W m = p → ml_G A14 A15 A16 (t * 24 + m) = ml_fin (r m)) ∧ (W m ≠ p → ml_G A14 A15 A16 (t * 24 + m) = ml_G a14 a15 a16 (t * 24 + m))) →
      (∀ j, j < t * 24 ∨ t * 24 + 24 ≤ j → ml_G A14 A15 A16 j = ml_G a14 a15 a16 j) → post (nI 5, ts, nI M, rd, mp, mo, mc, a1, a2, a3, a4, a5, a6, a7, a8, a9, a10, a11, a12, a13, A14, A15, A16, a17, a18, a19, a20)) :
    wpX_splitAll post (nI 5, ts, nI M, rd, mp, mo, mc, a1, a2, a3, a4, a5, a6, a7, a8, a9, a10, a11, a12, a13, a14, a15, a16, a17, a18, a19, a20) (nI t) (nI p) (nI k) :=
  ⟨M + 1, ml_sA3 ht hk hM hp e8 hW h1 h3 hg hF H M 0 mp mo mc a14 a15 a16 a17 (by omega) hR (fun m _ => ⟨fun e => absurd e.1 (by omega), fun _ => rfl⟩) (fun _ _ => rfl)⟩
end
section
/-! the program's run on a test, the mutants that split off, and those that share its outcome -/
theorem ml_bit : ∀ w, w < 32 → ∀ j, j < 5 → (((nI w >>> (nI j &&& 31)) &&& 1) = 0 ↔ w.testBit j = false) := by decide +kernel
theorem ml_or : ∀ w, w < 32 → ∀ p, p < 5 → (nI w ||| ((1 : Int32) <<< (nI p &&& 31)) = nI (w ||| 2 ^ p) ∧ (w ||| 2 ^ p) < 32) := by decide +kernel
theorem ml_orb : ∀ w, w < 32 → ∀ p, p < 5 → ∀ j, j < 5 → ((w ||| 2 ^ p).testBit j = true ↔ (w.testBit j = true ∨ j = p)) := by decide +kernel
theorem ml_share {post : St2 → Prop} {sz ts mu rd mp mo mc : Int32} {a1 a2 a3 a4 a5 a6 a7 a8 a9 a10 a11 a12 a13 a14 a15 a16 a17 a18 a19 a20 : Nat → Int32} {t m : Nat} (ht : t < 6) (hm : m < 24) (hz : a11 t = 0 ∨ a11 t = 1)
    (H : post (sz, ts, mu, rd, mp, mo, mc, a1, a2, a3, a4, a5, a6, a7, a8, a9, a10, a11, a12, a13, upd a14 (t * 24 + m) (a11 t), upd a15 (t * 24 + m) (a12 t), upd a16 (t * 24 + m) (a13 t), a17, a18, a19, a20)) : wpX_share post (sz, ts, mu, rd, mp, mo, mc, a1, a2, a3, a4, a5, a6, a7, a8, a9, a10, a11, a12, a13, a14, a15, a16, a17, a18, a19, a20) (nI t) (nI m) := by
  have ct : (nI t).toNatClampNeg = t := nI_clamp (by omega)
  have cA : (nI (t * 24 + m)).toNatClampNeg = t * 24 + m := nI_clamp (by omega)
  have it : vp_in (nI t) 6 := pk_in t 6 ht
  have iA : vp_in (nI (t * 24 + m)) 144 := pk_in (t * 24 + m) 144 (by omega)
  unfold wpX_share
  dsimp only
  refine nm_r (e' := nI (t * 24 + m)) (ml_at t m) ?_
  rw [ct, cA, ml_nar hz]
  exact ⟨it, iA, nm_e ⟨it, iA, nm_e ⟨it, iA, nm_e H⟩⟩⟩
theorem ml_170 {post : St2 → Prop} {sz ts rd mp mo mc : Int32} {a1 a2 a3 a4 a5 a6 a7 a8 a9 a10 a11 a12 a13 a17 a18 a19 a20 : Nat → Int32} {t w M : Nat} {W : Nat → Nat} {F G0 : Nat → Int32 × Int32 × Int32} (ht : t < 6) (hM : M ≤ 24) (hw : w < 32) (hz : a11 t = 0 ∨ a11 t = 1)
    (e8 : ∀ m, m < M → a8 m = nI (W m)) (hW : ∀ m, m < M → W m < 5) (hF : ∀ m, m < M → w.testBit (W m) = false → F m = ml_G a11 a12 a13 t)
    (H : ∀ (a14 a15 a16 : Nat → Int32), (∀ m, m < M → ml_G a14 a15 a16 (t * 24 + m) = F m) → (∀ j, j < t * 24 ∨ t * 24 + 24 ≤ j → ml_G a14 a15 a16 j = G0 j) → post (sz, ts, nI M, rd, mp, mo, mc, a1, a2, a3, a4, a5, a6, a7, a8, a9, a10, a11, a12, a13, a14, a15, a16, a17, a18, a19, a20)) :
    ∀ (f i : Nat) (a14 a15 a16 : Nat → Int32), i + f = M → (∀ m, m < M → (m < i ∨ w.testBit (W m) = true) → ml_G a14 a15 a16 (t * 24 + m) = F m) → (∀ j, j < t * 24 ∨ t * 24 + 24 ≤ j → ml_G a14 a15 a16 j = G0 j) →
      wX_runTest_170 post (nI t) (nI w) (f + 1) (nI i) sz ts (nI M) rd mp mo mc a1 a2 a3 a4 a5 a6 a7 a8 a9 a10 a11 a12 a13 a14 a15 a16 a17 a18 a19 a20 := by
  intro f
  induction f with
  | zero =>
    intro i a14 a15 a16 hi hG ho
    exact pk_le M i (fun _ => H a14 a15 a16 (fun m hm => hG m hm (Or.inl (by omega))) ho) (fun z => absurd z (by omega))
  | succ f ih =>
    intro i a14 a15 a16 hi hG ho
    have hi' : i < M := by omega
    refine pk_le M i (fun z => absurd z (by omega)) (fun _ => ⟨pk_in i 24 (by omega), ?_⟩)
    rw [nI_clamp (show i < 2 ^ 31 by omega), e8 i hi']
    refine ek_if (ml_bit w hw (W i) (hW i hi')) (fun z => ?_) (fun z => nm_r (nI_1 i) (ih (i + 1) a14 a15 a16 (by omega) (fun m hm e => ?_) ho))
    · refine ml_share ht (by omega) hz (nm_r (nI_1 i) (ih (i + 1) _ _ _ (by omega) (fun m hm e => ?_) (fun j hj => ?_)))
      · by_cases y : m = i
        · rw [y]
          have g := ml_Gs (A := a14) (B := a15) (C := a16) (j := t * 24 + i) (ml_G a11 a12 a13 t)
          rw [hF i hi' z]
          exact g
        · rw [ml_Gn (by omega)]
          exact hG m hm (e.elim (fun e => Or.inl (by omega)) Or.inr)
      · rw [ml_Gn (by omega)]
        exact ho j hj
    · by_cases y : m = i
      · rw [y]
        exact hG i hi' (Or.inr (eq_true_of_ne_false z))
      · exact hG m hm (e.elim (fun e => Or.inl (by omega)) Or.inr)
theorem ml_111 {post : St2 → Prop} {ts mu rd mp mo mc : Int32} {a1 a2 a3 a4 a5 a6 a7 a8 a9 a10 a11 a12 a13 a14 a15 a16 a17 a18 a19 a20 : Nat → Int32} {t : Nat} {x2 x4 pc : Int32} (ht : t < 6)
    (H : ∃ fu : Nat, wX_runTest_170 post (nI t) x2 fu 0 (nI 5) ts mu rd mp mo mc a1 a2 a3 a4 a5 a6 a7 a8 a9 a10 (upd a11 t (ml_e pc)) (upd a12 t (if ml_e pc = 0 then 0 else a17 0)) (upd a13 t x4) a14 a15 a16 a17 a18 a19 a20) : wX_runTest_111 post (nI t) x2 pc x4 (nI 5) ts mu rd mp mo mc a1 a2 a3 a4 a5 a6 a7 a8 a9 a10 a11 a12 a13 a14 a15 a16 a17 a18 a19 a20 := by
  have ct : (nI t).toNatClampNeg = t := nI_clamp (by omega)
  have it : vp_in (nI t) 6 := pk_in t 6 ht
  have D : ∀ z : Int32, z = (if ml_e pc = 0 then 0 else a17 0) → wX_runTest_158 post (nI t) x2 x4 z (nI t) (nI 5) ts mu rd mp mo mc a1 a2 a3 a4 a5 a6 a7 a8 a9 a10 (upd a11 t (ml_e pc)) a12 a13 a14 a15 a16 a17 a18 a19 a20 := by
    intro z hz
    unfold wX_runTest_158
    rw [ct, hz]
    exact ⟨it, nm_e ⟨it, nm_e H⟩⟩
  have C : ∀ z : Int32, z = ml_e pc → wX_runTest_133 post (nI t) x2 x4 z (nI t) (nI 5) ts mu rd mp mo mc a1 a2 a3 a4 a5 a6 a7 a8 a9 a10 a11 a12 a13 a14 a15 a16 a17 a18 a19 a20 := by
    intro z hz
    unfold wX_runTest_133
    rw [ct, hz, ml_nar (ml_e01 pc)]
    refine ⟨it, nm_e ⟨it, ?_⟩⟩
    rw [pk_us]
    exact br_c (fun g => D _ (by rw [if_pos g])) (fun g => D _ (by rw [if_neg g]))
  exact br_c (fun h => C 1 (ml_e1 h)) (fun h0 => br_c (fun h5 => C 0 (ml_e0 h0 h5)) (fun h5 => C 1 (ml_e5 h5)))
theorem ml_end {post : St2 → Prop} {ts rd mp mo mc : Int32} {a1 a2 a3 a4 a5 a6 a7 a8 a9 a10 a11 a12 a13 a14 a15 a16 a17 a18 a19 a20 : Nat → Int32} {t k w M : Nat} {pc : Int32} {q : ml_Q} {W : Nat → Nat} {r0 : Int32 × ml_Q × Nat} {r : Nat → Int32 × ml_Q × Nat} {G0 : Nat → Int32 × Int32 × Int32}
    (ht : t < 6) (hM : M ≤ 24) (hw : w < 32) (e8 : ∀ m, m < M → a8 m = nI (W m)) (hW : ∀ m, m < M → W m < 5) (hR : ∀ i, i < 4 → a17 i = ml_g q i) (hr : (pc, q, k) = r0)
    (hb : ∀ m, m < M → (w.testBit (W m) = true → ml_G a14 a15 a16 (t * 24 + m) = ml_fin (r m)) ∧ (w.testBit (W m) = false → (pc, q, k) = r m)) (ho : ∀ j, j < t * 24 ∨ t * 24 + 24 ≤ j → ml_G a14 a15 a16 j = G0 j)
    (H : ∀ (mp mo mc : Int32) (a14 a15 a16 a17 : Nat → Int32), (∀ m, m < M → ml_G a14 a15 a16 (t * 24 + m) = ml_fin (r m)) → (∀ j, j < t * 24 ∨ t * 24 + 24 ≤ j → ml_G a14 a15 a16 j = G0 j) →
      post (nI 5, ts, nI M, rd, mp, mo, mc, a1, a2, a3, a4, a5, a6, a7, a8, a9, a10, upd a11 t (ml_fin r0).1, upd a12 t (ml_fin r0).2.1, upd a13 t (ml_fin r0).2.2, a14, a15, a16, a17, a18, a19, a20)) :
    wX_runTest_111 post (nI t) (nI w) pc (nI k) (nI 5) ts (nI M) rd mp mo mc a1 a2 a3 a4 a5 a6 a7 a8 a9 a10 a11 a12 a13 a14 a15 a16 a17 a18 a19 a20 := by
  have g0 : a17 0 = q.1 := hR 0 (by omega)
  have ef : ml_fin r0 = (ml_e pc, if ml_e pc = 0 then 0 else q.1, nI k) := by rw [← hr]; rfl
  rw [ef] at H
  have X : ∃ fu : Nat, wX_runTest_170 post (nI t) (nI w) fu 0 (nI 5) ts (nI M) rd mp mo mc a1 a2 a3 a4 a5 a6 a7 a8 a9 a10 (upd a11 t (ml_e pc)) (upd a12 t (if ml_e pc = 0 then 0 else q.1)) (upd a13 t (nI k)) a14 a15 a16 a17 a18 a19 a20 := by
    refine ⟨M + 1, ml_170 (F := fun m => ml_fin (r m)) (G0 := G0) ht hM hw (by rw [pk_us]; exact ml_e01 pc) e8 hW (fun m hm z => ?_) (fun a14 a15 a16 h h' => H mp mo mc a14 a15 a16 a17 h h') M 0 a14 a15 a16 (by omega) (fun m hm e => (hb m hm).1 (e.elim (fun e => absurd e (by omega)) id)) ho⟩
    have e := (hb m hm).2 z
    show ml_fin (r m) = _
    rw [← e]
    exact (ml_Gs (ml_e pc, if ml_e pc = 0 then 0 else q.1, nI k)).symm
  rw [← g0] at X
  exact ml_111 ht X
theorem ml_r45 {post : St2 → Prop} {ts rd : Int32} {a1 a2 a3 a4 a5 a6 a7 a8 a9 a10 a11 a12 a13 a18 a19 a20 : Nat → Int32} {t M : Nat} {op con : Nat → Int32} {W : Nat → Nat} {opm conm : Nat → Nat → Int32} {r0 : Int32 × ml_Q × Nat} {r : Nat → Int32 × ml_Q × Nat} {G0 : Nat → Int32 × Int32 × Int32}
    (ht : t < 6) (hM : M ≤ 24) (h1 : ∀ j, j < 5 → a1 j = op j) (h3 : ∀ j, j < 5 → a3 j = con j) (hg : ∀ j, j < 5 → a2 j &&& 3 = nI (ml_ra j) ∧ a2 j >>> ((2 : Int32) &&& 31) = nI (ml_rb j))
    (e8 : ∀ m, m < M → a8 m = nI (W m)) (hW : ∀ m, m < M → W m < 5)
    (m1 : ∀ m, m < M → ∀ j, j < 5 → opm m j = if j = W m then (if a9 m = 0 then a1 (W m) else a10 m) else a1 j) (m3 : ∀ m, m < M → ∀ j, j < 5 → conm m j = if j = W m then (if a9 m = 0 then a10 m else a3 (W m)) else a3 j)
    (H : ∀ (mp mo mc : Int32) (a14 a15 a16 a17 : Nat → Int32), (∀ m, m < M → ml_G a14 a15 a16 (t * 24 + m) = ml_fin (r m)) → (∀ j, j < t * 24 ∨ t * 24 + 24 ≤ j → ml_G a14 a15 a16 j = G0 j) →
      post (nI 5, ts, nI M, rd, mp, mo, mc, a1, a2, a3, a4, a5, a6, a7, a8, a9, a10, upd a11 t (ml_fin r0).1, upd a12 t (ml_fin r0).2.1, upd a13 t (ml_fin r0).2.2, a14, a15, a16, a17, a18, a19, a20)) :
    ∀ (f k w : Nat) (pc : Int32) (q : ml_Q) (mp mo mc : Int32) (a14 a15 a16 a17 : Nat → Int32), k + f = 100 → w < 32 → (∀ i, i < 4 → a17 i = ml_g q i) → ml_rn op con f pc q k = r0 →
      (∀ m, m < M → (w.testBit (W m) = true → ml_G a14 a15 a16 (t * 24 + m) = ml_fin (r m)) ∧ (w.testBit (W m) = false → ml_rn (opm m) (conm m) f pc q k = r m)) →
      (∀ j, j < t * 24 ∨ t * 24 + 24 ≤ j → ml_G a14 a15 a16 j = G0 j) → wX_runTest_45 post (nI t) (f + 1) (nI w) pc (nI k) (nI 5) ts (nI M) rd mp mo mc a1 a2 a3 a4 a5 a6 a7 a8 a9 a10 a11 a12 a13 a14 a15 a16 a17 a18 a19 a20 := by
  intro f
  induction f with
  | zero =>
    intro k w pc q mp mo mc a14 a15 a16 a17 hk hw hR hr hb ho
    exact pk_le 100 k (fun _ => ml_end ht hM hw e8 hW hR hr hb ho H) (fun z => absurd z (by omega))
  | succ f ih =>
    intro k w pc q mp mo mc a14 a15 a16 a17 hk hw hR hr hb ho
    refine pk_le 100 k (fun z => absurd z (by omega)) (fun _ => br_c (fun h0 => ?_) (fun h0 => br_c (fun h5 => ?_) (fun h5 => ?_)))
    · rw [ml_rn_out (Or.inl h0)] at hr
      exact ml_end ht hM hw e8 hW hR hr (fun m hm => ⟨(hb m hm).1, fun z => by rw [← (hb m hm).2 z, ml_rn_out (Or.inl h0)]⟩) ho H
    · rw [ml_rn_out (Or.inr h5)] at hr
      exact ml_end ht hM hw e8 hW hR hr (fun m hm => ⟨(hb m hm).1, fun z => by rw [← (hb m hm).2 z, ml_rn_out (Or.inr h5)]⟩) ho H
    · obtain ⟨p, hp, e⟩ := ml_pl h0 h5
      subst e
      rw [ml_rn_in hp rfl rfl] at hr
      have cp : (nI p).toNatClampNeg = p := nI_clamp (by omega)
      have ip : vp_in (nI p) 12 := pk_in p 12 (by omega)
      have S : ∀ (mp mo mc : Int32) (a14 a15 a16 a17 : Nat → Int32), (∀ i, i < 4 → a17 i = ml_g q i) → (∀ m, m < M → ((w.testBit (W m) = true ∨ W m = p) → ml_G a14 a15 a16 (t * 24 + m) = ml_fin (r m))) → (∀ j, j < t * 24 ∨ t * 24 + 24 ≤ j → ml_G a14 a15 a16 j = G0 j) →
          wX_runTest_80 post (wX_runTest_45 post (nI t) (f + 1)) (nI t) (nI w) (nI p) (nI k) (nI 5) ts (nI M) rd mp mo mc a1 a2 a3 a4 a5 a6 a7 a8 a9 a10 a11 a12 a13 a14 a15 a16 a17 a18 a19 a20 := by
        intro mp mo mc a14 a15 a16 a17 hR hG ho
        unfold wX_runTest_80
        rw [cp, h1 p hp, h3 p hp]
        refine nm_r (ml_or w hw p hp).1 ⟨ip, ip, ?_⟩
        refine ml_carry (B := 0) (by omega) (by omega) (ml_ra4 p) (ml_rb4 p) (hg p hp).1 (hg p hp).2 (fun i hi => by rw [Nat.zero_add]; exact hR i hi) (fun R' hR' _ => nm_r (nI_1 k) (ih (k + 1) (w ||| 2 ^ p) _ _ mp mo mc a14 a15 a16 R' (by omega) (ml_or w hw p hp).2 (fun i hi => ?_) hr (fun m hm => ?_) ho))
        · have z := hR' i hi
          rw [Nat.zero_add] at z
          exact z
        · have o := ml_orb w hw p hp (W m) (hW m hm)
          refine ⟨fun z => hG m hm (o.mp z), fun z => ?_⟩
          have n1 : w.testBit (W m) = false := by
            rcases Bool.eq_false_or_eq_true (w.testBit (W m)) with y | y
            · rw [o.mpr (Or.inl y)] at z
              exact absurd z (by decide)
            · exact y
          have n2 : ¬ p = W m := fun y => by
            rw [o.mpr (Or.inr y.symm)] at z
            exact absurd z (by decide)
          have e := (hb m hm).2 n1
          rw [ml_rn_in hp (show opm m p = op p by rw [m1 m hm p hp, if_neg n2, h1 p hp]) (show conm m p = con p by rw [m3 m hm p hp, if_neg n2, h3 p hp])] at e
          exact e
      refine ek_if (ml_bit w hw p hp) (fun z => ?_) (fun z => ?_)
      · refine ml_splitAll (r := r) (q := q) (opm := opm) (conm := conm) (W := W) ht (by omega) hM hp e8 hW m1 m3 hg (fun m hm e => ?_) hR (fun mp mo mc A14 A15 A16 a17 hR' hG ho' => ?_)
        · rw [show 100 - k = f + 1 by omega]
          exact (hb m hm).2 (by rw [e]; exact z)
        · refine S mp mo mc A14 A15 A16 a17 hR' (fun m hm e => ?_) (fun j hj => (ho' j hj).trans (ho j hj))
          by_cases y : W m = p
          · exact (hG m hm).1 y
          · exact ((hG m hm).2 y).trans ((hb m hm).1 (e.elim id (fun e => absurd e y)))
      · refine S mp mo mc a14 a15 a16 a17 hR (fun m hm e => (hb m hm).1 (e.elim id (fun e => ?_))) ho
        rw [e]
        exact eq_true_of_ne_false z
theorem ml_run {post : St2 → Prop} {ts rd mp mo mc : Int32} {a1 a2 a3 a4 a5 a6 a7 a8 a9 a10 a11 a12 a13 a14 a15 a16 a17 a18 a19 a20 : Nat → Int32} {t M : Nat} {op con : Nat → Int32} {W : Nat → Nat} {opm conm : Nat → Nat → Int32} {X Y : Int32}
    (ht : t < 6) (hM : M ≤ 24) (h1 : ∀ j, j < 5 → a1 j = op j) (h3 : ∀ j, j < 5 → a3 j = con j) (hg : ∀ j, j < 5 → a2 j &&& 3 = nI (ml_ra j) ∧ a2 j >>> ((2 : Int32) &&& 31) = nI (ml_rb j))
    (e8 : ∀ m, m < M → a8 m = nI (W m)) (hW : ∀ m, m < M → W m < 5) (hX : a4 t = X) (hY : a5 t = Y)
    (m1 : ∀ m, m < M → ∀ j, j < 5 → opm m j = if j = W m then (if a9 m = 0 then a1 (W m) else a10 m) else a1 j) (m3 : ∀ m, m < M → ∀ j, j < 5 → conm m j = if j = W m then (if a9 m = 0 then a10 m else a3 (W m)) else a3 j)
    (H : ∀ (mp mo mc : Int32) (A14 A15 A16 a17 : Nat → Int32), (∀ m, m < M → ml_G A14 A15 A16 (t * 24 + m) = ml_fin (ml_rn (opm m) (conm m) 100 0 (X, Y, 0, 0) 0)) → (∀ j, j < t * 24 ∨ t * 24 + 24 ≤ j → ml_G A14 A15 A16 j = ml_G a14 a15 a16 j) →
      post (nI 5, ts, nI M, rd, mp, mo, mc, a1, a2, a3, a4, a5, a6, a7, a8, a9, a10, upd a11 t (ml_fin (ml_rn op con 100 0 (X, Y, 0, 0) 0)).1, upd a12 t (ml_fin (ml_rn op con 100 0 (X, Y, 0, 0) 0)).2.1, upd a13 t (ml_fin (ml_rn op con 100 0 (X, Y, 0, 0) 0)).2.2, A14, A15, A16, a17, a18, a19, a20)) :
    wpX_runTest post (nI 5, ts, nI M, rd, mp, mo, mc, a1, a2, a3, a4, a5, a6, a7, a8, a9, a10, a11, a12, a13, a14, a15, a16, a17, a18, a19, a20) (nI t) := by
  have ct : (nI t).toNatClampNeg = t := nI_clamp (by omega)
  have it : vp_in (nI t) 6 := pk_in t 6 ht
  unfold wpX_runTest
  dsimp only
  rw [ct, hX, hY]
  refine ⟨it, nm_e ⟨it, nm_e (nm_e (nm_e ⟨101, ?_⟩))⟩⟩
  exact ml_r45 (r0 := ml_rn op con 100 0 (X, Y, 0, 0) 0) (r := fun m => ml_rn (opm m) (conm m) 100 0 (X, Y, 0, 0) 0) (G0 := ml_G a14 a15 a16) ht hM h1 h3 hg e8 hW m1 m3 H 100 0 0 0 (X, Y, 0, 0) mp mo mc a14 a15 a16 _ (by omega) (by omega)
    (fun i hi => by have z := ml_ini a17 X Y i hi; rw [Nat.zero_add] at z; exact z) rfl (fun m hm => ⟨fun z => absurd z (by rw [Nat.zero_testBit]; decide), fun _ => rfl⟩) (fun _ _ => rfl)
end
section
/-! the plain law: what the program and its four mutants answer -/
def ml_op (j : Nat) : Int32 := if j = 0 then 6 else if j = 1 then 7 else if j = 2 then 7 else if j = 3 then 6 else 1
def ml_cn (s : Int32) (j : Nat) : Int32 := if j = 0 then 4 else if j = 1 then s else if j = 2 then -1 else 0
/-- the mutants: place, whether the op is changed, to what -/
def ml_W (m : Nat) : Nat := if m = 0 then 1 else if m = 1 then 4 else if m = 2 then 3 else 2
def ml_ic (m : Nat) : Int32 := if m = 0 then 0 else if m = 1 then 1 else if m = 2 then 0 else 1
def ml_ch (o : Int32) (m : Nat) : Int32 := if m = 0 then o else if m = 1 then 0 else if m = 2 then 4 else 1
def ml_opm (o : Int32) (m j : Nat) : Int32 := if j = ml_W m then (if ml_ic m = 0 then ml_op (ml_W m) else ml_ch o m) else ml_op j
def ml_cnm (s o : Int32) (m j : Nat) : Int32 := if j = ml_W m then (if ml_ic m = 0 then ml_ch o m else ml_cn s (ml_W m)) else ml_cn s j
/-- the outcome of mutant m (of the program itself: m = 0, o = s) from x -/
def ml_f (x : Nat) (s o : Int32) (m : Nat) : Int32 × Int32 × Int32 :=
  if m = 0 then (if x ≤ 24 then (1, nI x * o, nI (4 * x + 2)) else (0, 0, 100))
  else if m = 1 then (if x ≤ 24 then (1, 0, nI (4 * x + 2)) else (0, 0, 100))
  else if m = 2 then (if x = 0 then (1, 0, 2) else (1, nI x - 1 + s, 5))
  else (if x = 0 then (1, 0, 2) else (0, 0, 100))
theorem ml_t7 (a b : Nat) (pc c : Int32) (q : ml_Q) : ml_st a b pc 7 c q = (pc + 1, ml_s q a (ml_g q a + c)) := by
  unfold ml_st
  rw [if_neg (by decide), if_pos (by decide)]
theorem ml_t6 (a b : Nat) (pc c : Int32) (q : ml_Q) : ml_st a b pc 6 c q = (if ml_g q a = 0 then c else pc + 1, q) := by
  unfold ml_st
  rw [if_neg (by decide), if_neg (by decide), if_neg (by decide), if_neg (by decide), if_neg (by decide), if_neg (by decide), if_neg (by decide), if_neg (by decide)]
theorem ml_t1 (a b : Nat) (pc c : Int32) (q : ml_Q) : ml_st a b pc 1 c q = (pc + 1, ml_s q a (ml_g q a + ml_g q b)) := by
  unfold ml_st
  rw [if_neg (by decide), if_neg (by decide), if_neg (by decide), if_pos rfl]
theorem ml_t0 (a b : Nat) (pc c : Int32) (q : ml_Q) : ml_st a b pc 0 c q = (pc + 1, ml_s q a c) := by
  unfold ml_st
  rw [if_neg (by decide), if_neg (by decide), if_pos rfl]
section
variable {op con : Nat → Int32} {f k : Nat} {x y a b s c : Int32}
theorem ml_p0z (ho : op 0 = 6) (hc : con 0 = 4) : ml_rn op con (f + 1) (nI 0) (0, y, a, b) k = ml_rn op con f (nI 4) (0, y, a, b) (k + 1) := by
  rw [ml_rn_in (by omega) ho hc, ml_t6, if_pos (show ml_g (0, y, a, b) (ml_ra 0) = 0 from rfl)]
  rfl
theorem ml_p0n (ho : op 0 = 6) (hc : con 0 = 4) (hx : ¬ x = 0) : ml_rn op con (f + 1) (nI 0) (x, y, a, b) k = ml_rn op con f (nI 1) (x, y, a, b) (k + 1) := by
  rw [ml_rn_in (by omega) ho hc, ml_t6, if_neg (show ¬ ml_g (x, y, a, b) (ml_ra 0) = 0 from hx), nI_1]
theorem ml_p1 (ho : op 1 = 7) (hc : con 1 = s) : ml_rn op con (f + 1) (nI 1) (x, y, a, b) k = ml_rn op con f (nI 2) (x, y, a + s, b) (k + 1) := by
  rw [ml_rn_in (by omega) ho hc, ml_t7, nI_1]
  rfl
theorem ml_p2 (ho : op 2 = 7) (hc : con 2 = -1) : ml_rn op con (f + 1) (nI 2) (x, y, a, b) k = ml_rn op con f (nI 3) (x + (-1), y, a, b) (k + 1) := by
  rw [ml_rn_in (by omega) ho hc, ml_t7, nI_1]
  rfl
theorem ml_p2d (ho : op 2 = 1) : ml_rn op con (f + 1) (nI 2) (x, y, a, b) k = ml_rn op con f (nI 3) (x + x, y, a, b) (k + 1) := by
  rw [ml_rn_in (by omega) ho rfl, ml_t1, nI_1]
  rfl
theorem ml_p3 (ho : op 3 = 6) (hc : con 3 = c) : ml_rn op con (f + 1) (nI 3) (x, y, a, 0) k = ml_rn op con f c (x, y, a, 0) (k + 1) := by
  rw [ml_rn_in (by omega) ho hc, ml_t6, if_pos (show ml_g (x, y, a, 0) (ml_ra 3) = 0 from rfl)]
theorem ml_p4 (ho : op 4 = 1) : ml_rn op con (f + 1) (nI 4) (x, y, a, b) k = (nI 5, (x + a, y, a, b), k + 1) := by
  rw [ml_rn_in (by omega) ho rfl, ml_t1, nI_1, ml_rn_out (show nI (4 + 1) < 0 ∨ 5 ≤ nI (4 + 1) by decide)]
  rfl
theorem ml_p4z (ho : op 4 = 0) (hc : con 4 = 0) : ml_rn op con (f + 1) (nI 4) (x, y, a, b) k = (nI 5, (0, y, a, b), k + 1) := by
  rw [ml_rn_in (by omega) ho hc, ml_t0, nI_1, ml_rn_out (show nI (4 + 1) < 0 ∨ 5 ≤ nI (4 + 1) by decide)]
  rfl
/-- i turns of the loop -/
theorem ml_lp (o0 : op 0 = 6) (c0 : con 0 = 4) (o1 : op 1 = 7) (c1 : con 1 = s) (o2 : op 2 = 7) (c2 : con 2 = -1) (o3 : op 3 = 6) (c3 : con 3 = 0) (j : Nat) :
    ∀ (i k : Nat) (a : Int32), j + i < 2 ^ 31 → ml_rn op con (4 * i + f) (nI 0) (nI (j + i), y, a, 0) k = ml_rn op con f (nI 0) (nI j, y, a + nI i * s, 0) (k + 4 * i) := by
  intro i
  induction i with
  | zero =>
    intro k a _
    rw [show 4 * 0 + f = f by omega, show a + nI 0 * s = a by rw [nI_0]; grind]
    rfl
  | succ i ih =>
    intro k a h
    rw [show 4 * (i + 1) + f = 4 * i + f + 1 + 1 + 1 + 1 by omega, show j + (i + 1) = j + i + 1 by omega, ml_p0n o0 c0 (nI_ne0 (by omega) (by omega)), ml_p1 o1 c1, ml_p2 o2 c2, ml_p3 o3 c3, pk_m1]
    rw [show k + 1 + 1 + 1 + 1 = k + 4 by omega]
    have z := ih (k + 4) (a + s) (by omega)
    rw [show a + nI (i + 1) * s = a + s + nI i * s by rw [nI_succ]; grind, show k + 4 * (i + 1) = k + 4 + 4 * i by omega]
    exact z
/-- i turns of the loop that doubles -/
theorem ml_lpd (o0 : op 0 = 6) (c0 : con 0 = 4) (o1 : op 1 = 7) (c1 : con 1 = s) (o2 : op 2 = 1) (o3 : op 3 = 6) (c3 : con 3 = 0) :
    ∀ (i k v : Nat) (a : Int32), 0 < v → v * 2 ^ i < 2 ^ 31 → ∃ z a' : Int32, ml_rn op con (4 * i + f) (nI 0) (nI v, y, a, 0) k = ml_rn op con f (nI 0) (z, y, a', 0) (k + 4 * i) := by
  intro i
  induction i with
  | zero =>
    intro k v a _ _
    refine ⟨nI v, a, ?_⟩
    rw [show 4 * 0 + f = f by omega]
    rfl
  | succ i ih =>
    intro k v a h0 h
    have h2 : v * 2 ^ (i + 1) = (v + v) * 2 ^ i := by rw [Nat.pow_succ]; grind
    have h3 : v ≤ v * 2 ^ (i + 1) := Nat.le_mul_of_pos_right v (Nat.two_pow_pos _)
    rw [show 4 * (i + 1) + f = 4 * i + f + 1 + 1 + 1 + 1 by omega, ml_p0n o0 c0 (nI_ne0 h0 (by omega)), ml_p1 o1 c1, ml_p2d o2, ml_p3 o3 c3, nI_add]
    rw [show k + 1 + 1 + 1 + 1 = k + 4 by omega]
    obtain ⟨z, a', e⟩ := ih (k + 4) (v + v) (a + s) (by omega) (by omega)
    exact ⟨z, a', by rw [show k + 4 * (i + 1) = k + 4 + 4 * i by omega]; exact e⟩
end
section
variable {op con : Nat → Int32} {x : Nat} {y s o : Int32}
theorem ml_c0 (o0 : op 0 = 6) (c0 : con 0 = 4) (o1 : op 1 = 7) (c1 : con 1 = s) (o2 : op 2 = 7) (c2 : con 2 = -1) (o3 : op 3 = 6) (c3 : con 3 = 0) (hx : x < 40) :
    (x ≤ 24 → ml_rn op con 100 (nI 0) (nI x, y, 0, 0) 0 = ml_rn op con (100 - 4 * x - 2 + 1) (nI 4) (0, y, nI x * s, 0) (4 * x + 1)) ∧
    (¬ x ≤ 24 → ml_rn op con 100 (nI 0) (nI x, y, 0, 0) 0 = (nI 0, (nI (x - 25), y, nI 25 * s, 0), 100)) := by
  refine ⟨fun h => ?_, fun h => ?_⟩
  · have z := ml_lp (f := 100 - 4 * x) (y := y) o0 c0 o1 c1 o2 c2 o3 c3 0 x 0 0 (by omega)
    rw [show 4 * x + (100 - 4 * x) = 100 by omega, show 0 + x = x by omega, show 0 + 4 * x = 4 * x by omega, show 100 - 4 * x = 100 - 4 * x - 2 + 1 + 1 by omega, show (0 : Int32) + nI x * s = nI x * s by grind] at z
    rw [z]
    exact ml_p0z o0 c0
  · have z := ml_lp (f := 0) (y := y) o0 c0 o1 c1 o2 c2 o3 c3 (x - 25) 25 0 0 (by omega)
    rw [show x - 25 + 25 = x by omega, show (0 : Int32) + nI 25 * s = nI 25 * s by grind] at z
    exact z
theorem ml_main (hx : x < 40) (o0 : op 0 = 6) (c0 : con 0 = 4) (o1 : op 1 = 7) (c1 : con 1 = s) (o2 : op 2 = 7) (c2 : con 2 = -1) (o3 : op 3 = 6) (c3 : con 3 = 0) (o4 : op 4 = 1) :
    (x ≤ 24 → ml_rn op con 100 (nI 0) (nI x, y, 0, 0) 0 = (nI 5, (nI x * s, y, nI x * s, 0), 4 * x + 2)) ∧
    (¬ x ≤ 24 → ml_rn op con 100 (nI 0) (nI x, y, 0, 0) 0 = (nI 0, (nI (x - 25), y, nI 25 * s, 0), 100)) := by
  have z := ml_c0 (y := y) o0 c0 o1 c1 o2 c2 o3 c3 hx
  refine ⟨fun h => ?_, z.2⟩
  rw [z.1 h, ml_p4 o4, show (0 : Int32) + nI x * s = nI x * s by grind]
theorem ml_me5 : ml_e (nI 5) = 1 := by decide
theorem ml_me0 : ml_e (nI 0) = 0 := by decide
theorem ml_f5 (q : ml_Q) (k : Nat) : ml_fin (nI 5, q, k) = (1, q.1, nI k) := by
  show (ml_e (nI 5), if ml_e (nI 5) = 0 then 0 else q.1, nI k) = _
  rw [ml_me5, if_neg (by decide)]
theorem ml_f0 (q : ml_Q) (k : Nat) : ml_fin (nI 0, q, k) = (0, 0, nI k) := by
  show (ml_e (nI 0), if ml_e (nI 0) = 0 then 0 else q.1, nI k) = _
  rw [ml_me0, if_pos rfl]
theorem ml_k0 (hx : x < 40) (o0 : op 0 = 6) (c0 : con 0 = 4) (o1 : op 1 = 7) (c1 : con 1 = o) (o2 : op 2 = 7) (c2 : con 2 = -1) (o3 : op 3 = 6) (c3 : con 3 = 0) (o4 : op 4 = 1) :
    ml_fin (ml_rn op con 100 0 (nI x, y, 0, 0) 0) = ml_f x s o 0 := by
  have z := ml_main (y := y) hx o0 c0 o1 c1 o2 c2 o3 c3 o4
  show ml_fin (ml_rn op con 100 (nI 0) (nI x, y, 0, 0) 0) = if x ≤ 24 then (1, nI x * o, nI (4 * x + 2)) else (0, 0, 100)
  by_cases h : x ≤ 24
  · rw [z.1 h, ml_f5, if_pos h]
  · rw [z.2 h, ml_f0, if_neg h]
    rfl
theorem ml_k1 (hx : x < 40) (o0 : op 0 = 6) (c0 : con 0 = 4) (o1 : op 1 = 7) (c1 : con 1 = s) (o2 : op 2 = 7) (c2 : con 2 = -1) (o3 : op 3 = 6) (c3 : con 3 = 0) (o4 : op 4 = 0) (c4 : con 4 = 0) :
    ml_fin (ml_rn op con 100 0 (nI x, y, 0, 0) 0) = ml_f x s o 1 := by
  have z := ml_c0 (y := y) o0 c0 o1 c1 o2 c2 o3 c3 hx
  show ml_fin (ml_rn op con 100 (nI 0) (nI x, y, 0, 0) 0) = if x ≤ 24 then (1, 0, nI (4 * x + 2)) else (0, 0, 100)
  by_cases h : x ≤ 24
  · rw [z.1 h, ml_p4z o4 c4, ml_f5, if_pos h]
  · rw [z.2 h, ml_f0, if_neg h]
    rfl
theorem ml_k2 (hx : x < 40) (o0 : op 0 = 6) (c0 : con 0 = 4) (o1 : op 1 = 7) (c1 : con 1 = s) (o2 : op 2 = 7) (c2 : con 2 = -1) (o3 : op 3 = 6) (c3 : con 3 = 4) (o4 : op 4 = 1) :
    ml_fin (ml_rn op con 100 0 (nI x, y, 0, 0) 0) = ml_f x s o 2 := by
  show ml_fin (ml_rn op con (98 + 1 + 1) (nI 0) (nI x, y, 0, 0) 0) = if x = 0 then (1, 0, 2) else (1, nI x - 1 + s, 5)
  by_cases h : x = 0
  · rw [if_pos h, h, nI_0]
    have z : ml_rn op con (98 + 1 + 1) (nI 0) (0, y, 0, 0) 0 = (nI 5, (0 + 0, y, 0, 0), 2) := (ml_p0z o0 c0).trans (ml_p4 o4)
    rw [nI_0] at z
    rw [z]
    exact ml_f5 _ _
  · rw [if_neg h]
    have z : ml_rn op con (95 + 1 + 1 + 1 + 1 + 1) (nI 0) (nI x, y, 0, 0) 0 = (nI 5, (nI x + (-1) + (0 + s), y, 0 + s, 0), 5) := (ml_p0n o0 c0 (nI_ne0 (by omega) (by omega))).trans ((ml_p1 o1 c1).trans ((ml_p2 o2 c2).trans ((ml_p3 (c := nI 4) o3 c3).trans (ml_p4 o4))))
    have e : nI x + (-1) + (0 + s) = nI x - 1 + s := by grind
    rw [e] at z
    rw [show 98 + 1 + 1 = 95 + 1 + 1 + 1 + 1 + 1 from rfl, z]
    exact ml_f5 _ _
theorem ml_k3 (hx : x < 40) (o0 : op 0 = 6) (c0 : con 0 = 4) (o1 : op 1 = 7) (c1 : con 1 = s) (o2 : op 2 = 1) (o3 : op 3 = 6) (c3 : con 3 = 0) (o4 : op 4 = 1) :
    ml_fin (ml_rn op con 100 0 (nI x, y, 0, 0) 0) = ml_f x s o 3 := by
  show ml_fin (ml_rn op con (98 + 1 + 1) (nI 0) (nI x, y, 0, 0) 0) = if x = 0 then (1, 0, 2) else (0, 0, 100)
  by_cases h : x = 0
  · rw [if_pos h, h, nI_0]
    have z : ml_rn op con (98 + 1 + 1) (nI 0) (0, y, 0, 0) 0 = (nI 5, (0 + 0, y, 0, 0), 2) := (ml_p0z o0 c0).trans (ml_p4 o4)
    rw [nI_0] at z
    rw [z]
    exact ml_f5 _ _
  · rw [if_neg h]
    obtain ⟨v, a, e⟩ := ml_lpd (f := 0) (y := y) o0 c0 o1 c1 o2 o3 c3 25 0 x 0 (by omega) (by omega)
    have e' : ml_rn op con (98 + 1 + 1) (nI 0) (nI x, y, 0, 0) 0 = (nI 0, (v, y, a, 0), 100) := e
    rw [e']
    exact ml_f0 _ _
end
theorem ml_clo {x : Nat} {y s o : Int32} (hx : x < 40) : ml_fin (ml_rn ml_op (ml_cn s) 100 0 (nI x, y, 0, 0) 0) = ml_f x s s 0 :=
  ml_k0 hx rfl rfl rfl rfl rfl rfl rfl rfl rfl
theorem ml_clm {x m : Nat} {y s o : Int32} (hx : x < 40) (hm : m < 4) : ml_fin (ml_rn (ml_opm o m) (ml_cnm s o m) 100 0 (nI x, y, 0, 0) 0) = ml_f x s o m := by
  obtain rfl | rfl | rfl | rfl : m = 0 ∨ m = 1 ∨ m = 2 ∨ m = 3 := by omega
  · exact ml_k0 hx rfl rfl rfl rfl rfl rfl rfl rfl rfl
  · exact ml_k1 hx rfl rfl rfl rfl rfl rfl rfl rfl rfl rfl
  · exact ml_k2 hx rfl rfl rfl rfl rfl rfl rfl rfl rfl
  · exact ml_k3 hx rfl rfl rfl rfl rfl rfl rfl rfl
/-- what a test that takes its expectation from the run expects -/
theorem ml_clw {x : Nat} {y s : Int32} (hx : x < 40) : ml_e (ml_rn ml_op (ml_cn s) 100 0 (nI x, y, 0, 0) 0).1 = (if x ≤ 24 then 1 else 0) ∧ (ml_rn ml_op (ml_cn s) 100 0 (nI x, y, 0, 0) 0).2.1.1 = (if x ≤ 24 then nI x * s else nI (x - 25)) := by
  have z := ml_main (op := ml_op) (con := ml_cn s) (s := s) (y := y) hx rfl rfl rfl rfl rfl rfl rfl rfl rfl
  rw [nI_0] at z
  by_cases h : x ≤ 24
  · rw [z.1 h, if_pos h, if_pos h]
    exact ⟨ml_me5, rfl⟩
  · rw [z.2 h, if_neg h, if_neg h]
    exact ⟨ml_me0, rfl⟩
end
section
/-! pictures of the state, and what fills them -/
def ml_xt (x t : Nat) : Nat := if t = 1 then 0 else x
def ml_yt (t : Nat) : Int32 := if t = 0 then 7 else if t = 1 then 0 else 9
def ml_we (x t : Nat) : Int32 := if t = 0 then (if x ≤ 24 then 1 else 0) else 1
def ml_wo (x : Nat) (s : Int32) (t : Nat) : Int32 := if t = 0 then (if x ≤ 24 then nI x * s else nI (x - 25)) else if t = 1 then 0 else nI x * s
/-- the program, T tests, M mutants -/
def ml_B (x : Nat) (s o : Int32) (T M : Nat) (u : St2) : Prop := match u with
  | (sz, ts, mu, rd, mp, mo, mc, a1, a2, a3, a4, a5, a6, a7, a8, a9, a10, a11, a12, a13, a14, a15, a16, a17, a18, a19, a20) => sz = nI 5 ∧ ts = nI T ∧ mu = nI M ∧ (∀ j, j < 5 → a1 j = ml_op j ∧ a3 j = ml_cn s j ∧ a2 j &&& 3 = nI (ml_ra j) ∧ a2 j >>> ((2 : Int32) &&& 31) = nI (ml_rb j)) ∧
    (∀ t, t < T → a4 t = nI (ml_xt x t) ∧ a5 t = ml_yt t ∧ a6 t = ml_we x t ∧ a7 t = ml_wo x s t) ∧ (∀ m, m < M → a8 m = nI (ml_W m) ∧ a9 m = ml_ic m ∧ a10 m = ml_ch o m)
/-- ready: all outcomes stand -/
def ml_Z (x : Nat) (s o : Int32) (T M : Nat) (u : St2) : Prop := match u with
  | (sz, ts, mu, rd, mp, mo, mc, a1, a2, a3, a4, a5, a6, a7, a8, a9, a10, a11, a12, a13, a14, a15, a16, a17, a18, a19, a20) => rd = 1 ∧ (∀ t, t < T → ml_G a11 a12 a13 t = ml_f (ml_xt x t) s s 0) ∧ (∀ t, t < T → ∀ m, m < M → ml_G a14 a15 a16 (t * 24 + m) = ml_f (ml_xt x t) s o m)
def ml_rd (u : St2) : Int32 := u.2.2.2.1
theorem ml_W5 (m : Nat) : ml_W m < 5 := by
  unfold ml_W
  split
  · omega
  · split
    · omega
    · split <;> omega
theorem ml_xt40 {x : Nat} (hx : x < 40) (t : Nat) : ml_xt x t < 40 := by
  unfold ml_xt
  split <;> omega
theorem ml_emit {post : Int32 → St2 → Prop} {ts mu rd mp mo mc : Int32} {a1 a2 a3 a4 a5 a6 a7 a8 a9 a10 a11 a12 a13 a14 a15 a16 a17 a18 a19 a20 : Nat → Int32} {p0 p1 p2 : Int32} {n : Nat} (hn : n < 12) (h0 : ¬ p0 < 0) (h7 : p0 ≤ 7)
    (H : post (nI n) (nI (n + 1), ts, mu, 0, mp, mo, mc, upd a1 n p0, upd a2 n (p1 &&& 15), upd a3 n p2, a4, a5, a6, a7, a8, a9, a10, a11, a12, a13, a14, a15, a16, a17, a18, a19, a20)) : wpX_emit post (nI n, ts, mu, rd, mp, mo, mc, a1, a2, a3, a4, a5, a6, a7, a8, a9, a10, a11, a12, a13, a14, a15, a16, a17, a18, a19, a20) p0 p1 p2 := by
  have c : (nI n).toNatClampNeg = n := nI_clamp (by omega)
  have i : vp_in (nI n) 12 := pk_in n 12 hn
  unfold wpX_emit
  dsimp only
  rw [c]
  refine br_f h0 (br_t h7 (pk_lt n 12 (fun _ => ⟨i, nm_e ⟨i, nm_e ⟨i, nm_e (nm_r (nI_1 n) ?_)⟩⟩⟩) (fun z => absurd z (by omega))))
  rw [nI_pred]
  exact H
theorem ml_addT {x T M : Nat} {s o : Int32} {mu rd mp mo mc : Int32} {a1 a2 a3 a4 a5 a6 a7 a8 a9 a10 a11 a12 a13 a14 a15 a16 a17 a18 a19 a20 : Nat → Int32} {rd' : Int32} {p0 p1 p2 p3 : Int32} {R : Nat → Int32} (hB : ml_B x s o T M (nI 5, nI T, mu, rd, mp, mo, mc, a1, a2, a3, a4, a5, a6, a7, a8, a9, a10, a11, a12, a13, a14, a15, a16, a17, a18, a19, a20)) (e0 : p0 = nI (ml_xt x T)) (e1 : p1 = ml_yt T) (e2 : p2 = ml_we x T) (e3 : p3 = ml_wo x s T) :
    ml_B x s o (T + 1) M (nI 5, nI (T + 1), mu, rd', mp, mo, mc, a1, a2, a3, upd a4 T p0, upd a5 T p1, upd a6 T p2, upd a7 T p3, a8, a9, a10, a11, a12, a13, a14, a15, a16, R, a18, a19, a20) := by
  obtain ⟨b1, b2, b3, b4, b5, b6⟩ := hB
  refine ⟨rfl, rfl, b3, b4, fun t ht => ?_, b6⟩
  by_cases e : t = T
  · rw [e, pk_us, pk_us, pk_us, pk_us]
    exact ⟨e0, e1, e2, e3⟩
  · rw [pk_un e, pk_un e, pk_un e, pk_un e]
    exact b5 t (by omega)
theorem ml_snap {post : Int32 → St2 → Prop} {x T M : Nat} {s o p0 p1 : Int32} {u : St2} (hB : ml_B x s o T M u) (hT : T < 6) (hx : x < 40) (e0 : p0 = nI (ml_xt x T)) (e1 : p1 = ml_yt T)
    (e2 : (if ml_xt x T ≤ 24 then 1 else 0) = ml_we x T) (e3 : (if ml_xt x T ≤ 24 then nI (ml_xt x T) * s else nI (ml_xt x T - 25)) = ml_wo x s T)
    (H : ∀ u' : St2, ml_B x s o (T + 1) M u' → ml_rd u' = 0 → post (nI T) u') : wpX_snapshotTest post u p0 p1 := by
  obtain ⟨sz, ts, mu, rd, mp, mo, mc, a1, a2, a3, a4, a5, a6, a7, a8, a9, a10, a11, a12, a13, a14, a15, a16, a17, a18, a19, a20⟩ := u
  have hB' := hB
  obtain ⟨b1, b2, b3, b4, b5, b6⟩ := hB'
  subst b1 b2
  refine ml_snap0 hT (fun j hj => (b4 j hj).1) (fun j hj => (b4 j hj).2.1) (fun j hj => (b4 j hj).2.2) (fun R => H _ (ml_addT hB e0 e1 ?_ ?_) rfl)
  · rw [e0, ← e2]
    exact (ml_clw (ml_xt40 hx T)).1
  · rw [e0, ← e3]
    exact (ml_clw (ml_xt40 hx T)).2
theorem ml_test {post : Int32 → St2 → Prop} {x T M : Nat} {s o p0 p1 p2 : Int32} {u : St2} (hB : ml_B x s o T M u) (hT : T < 6) (e0 : p0 = nI (ml_xt x T)) (e1 : p1 = ml_yt T) (e2 : 1 = ml_we x T) (e3 : p2 = ml_wo x s T)
    (H : ∀ u' : St2, ml_B x s o (T + 1) M u' → ml_rd u' = 0 → post (nI T) u') : wpX_test post u p0 p1 p2 := by
  obtain ⟨sz, ts, mu, rd, mp, mo, mc, a1, a2, a3, a4, a5, a6, a7, a8, a9, a10, a11, a12, a13, a14, a15, a16, a17, a18, a19, a20⟩ := u
  have hB' := hB
  obtain ⟨b1, b2, b3, b4, b5, b6⟩ := hB'
  subst b1 b2
  unfold wpX_test
  dsimp only
  exact ml_addTest (p2 := 1) hT (Or.inr rfl) (H _ (ml_addT hB e0 e1 e2 e3) rfl)
theorem ml_addMutant {post : Int32 → St2 → Prop} {x T M : Nat} {s o p0 p1 p2 : Int32} {u : St2} (hB : ml_B x s o T M u) (hM : M < 24) (hz : p1 = 0 ∨ p1 = 1) (e0 : p0 = nI (ml_W M)) (e1 : p1 = ml_ic M) (e2 : p2 = ml_ch o M)
    (H : ∀ u' : St2, ml_B x s o T (M + 1) u' → ml_rd u' = 0 → post (nI M) u') : wpX_addMutant post u p0 p1 p2 := by
  obtain ⟨sz, ts, mu, rd, mp, mo, mc, a1, a2, a3, a4, a5, a6, a7, a8, a9, a10, a11, a12, a13, a14, a15, a16, a17, a18, a19, a20⟩ := u
  obtain ⟨b1, b2, b3, b4, b5, b6⟩ := hB
  subst b3
  have c : (nI M).toNatClampNeg = M := nI_clamp (by omega)
  have i : vp_in (nI M) 24 := pk_in M 24 hM
  unfold wpX_addMutant
  dsimp only
  rw [c, ml_nar hz]
  refine pk_lt M 24 (fun _ => ⟨i, nm_e ⟨i, nm_e ⟨i, nm_e (nm_r (nI_1 M) (H _ ⟨b1, b2, rfl, b4, b5, fun m hm => ?_⟩ rfl))⟩⟩⟩) (fun z => absurd z (by omega))
  by_cases e : m = M
  · rw [e, pk_us, pk_us, pk_us]
    exact ⟨e0, e1, e2⟩
  · rw [pk_un e, pk_un e, pk_un e]
    exact b6 m (by omega)
theorem ml_mutC {post : Int32 → St2 → Prop} {x T M p : Nat} {s o c : Int32} {u : St2} (hB : ml_B x s o T M u) (hM : M < 24) (hp : p < 5) (e0 : p = ml_W M) (e1 : 0 = ml_ic M) (e2 : c = ml_ch o M)
    (H : ∀ u' : St2, ml_B x s o T (M + 1) u' → ml_rd u' = 0 → post (nI M) u') : wpX_mutateC post u (nI p) c := by
  obtain ⟨sz, ts, mu, rd, mp, mo, mc, a1, a2, a3, a4, a5, a6, a7, a8, a9, a10, a11, a12, a13, a14, a15, a16, a17, a18, a19, a20⟩ := u
  have hB' := hB
  obtain ⟨b1, b2, b3, b4, b5, b6⟩ := hB'
  unfold wpX_mutateC
  dsimp only
  refine br_f (nI_pos (by omega)) (br_t (by rw [b1]; exact nI_lt hp (by decide)) (ml_addMutant hB hM (Or.inl rfl) (by rw [e0]) e1 e2 ?_))
  rintro ⟨sz', ts', mu', rd', mp', mo', mc', a1', a2', a3', a4', a5', a6', a7', a8', a9', a10', a11', a12', a13', a14', a15', a16', a17', a18', a19', a20'⟩ h h'
  exact H _ h h'
theorem ml_mutO {post : Int32 → St2 → Prop} {x T M p : Nat} {s o c : Int32} {u : St2} (hB : ml_B x s o T M u) (hM : M < 24) (hp : p < 5) (h0 : ¬ c < 0) (h7 : c ≤ 7) (e0 : p = ml_W M) (e1 : 1 = ml_ic M) (e2 : c = ml_ch o M)
    (H : ∀ u' : St2, ml_B x s o T (M + 1) u' → ml_rd u' = 0 → post (nI M) u') : wpX_mutateOp post u (nI p) c := by
  obtain ⟨sz, ts, mu, rd, mp, mo, mc, a1, a2, a3, a4, a5, a6, a7, a8, a9, a10, a11, a12, a13, a14, a15, a16, a17, a18, a19, a20⟩ := u
  have hB' := hB
  obtain ⟨b1, b2, b3, b4, b5, b6⟩ := hB'
  unfold wpX_mutateOp
  dsimp only
  refine br_f (nI_pos (by omega)) (br_t (by rw [b1]; exact nI_lt hp (by decide)) (br_f h0 (br_t h7 (ml_addMutant hB hM (Or.inr rfl) (by rw [e0]) e1 e2 ?_))))
  rintro ⟨sz', ts', mu', rd', mp', mo', mc', a1', a2', a3', a4', a5', a6', a7', a8', a9', a10', a11', a12', a13', a14', a15', a16', a17', a18', a19', a20'⟩ h h'
  exact H _ h h'
theorem ml_prep {post : St2 → Prop} {x T M : Nat} {s o : Int32} {u : St2} (hx : x < 40) (hT : T ≤ 6) (hM : M ≤ 4) (hB : ml_B x s o T M u) (hz : ml_rd u = 0 ∨ ml_Z x s o T M u)
    (H : ∀ u' : St2, ml_B x s o T M u' → ml_Z x s o T M u' → post u') : wpX_prepare post u := by
  obtain ⟨sz, ts, mu, rd, mp, mo, mc, a1, a2, a3, a4, a5, a6, a7, a8, a9, a10, a11, a12, a13, a14, a15, a16, a17, a18, a19, a20⟩ := u
  have hB' := hB
  obtain ⟨b1, b2, b3, b4, b5, b6⟩ := hB'
  rcases hz with hz | hz
  · have hr : rd = 0 := hz
    subst b1 b2 b3
    have L : ∀ (f i : Nat) (mp mo mc : Int32) (a11 a12 a13 a14 a15 a16 a17 : Nat → Int32), i + f = T → (∀ t, t < i → ml_G a11 a12 a13 t = ml_f (ml_xt x t) s s 0) → (∀ t, t < i → ∀ m, m < M → ml_G a14 a15 a16 (t * 24 + m) = ml_f (ml_xt x t) s o m) →
        wX_prepare_15 post (f + 1) (nI i) (nI 5) (nI T) (nI M) 1 mp mo mc a1 a2 a3 a4 a5 a6 a7 a8 a9 a10 a11 a12 a13 a14 a15 a16 a17 a18 a19 a20 := by
      intro f
      induction f with
      | zero =>
        intro i mp mo mc a11 a12 a13 a14 a15 a16 a17 hi h1 h2
        have hi' : i = T := by omega
        subst hi'
        exact pk_le i i (fun _ => H _ ⟨rfl, rfl, rfl, b4, b5, b6⟩ ⟨rfl, h1, h2⟩) (fun z => absurd z (by omega))
      | succ f ih =>
        intro i mp mo mc a11 a12 a13 a14 a15 a16 a17 hi h1 h2
        have b := b5 i (by omega)
        refine pk_le T i (fun z => absurd z (by omega)) (fun _ => ml_run (op := ml_op) (con := ml_cn s) (W := ml_W) (opm := ml_opm o) (conm := ml_cnm s o) (by omega) (by omega) (fun j hj => (b4 j hj).1) (fun j hj => (b4 j hj).2.1) (fun j hj => (b4 j hj).2.2) (fun m hm => (b6 m hm).1) (fun m _ => ml_W5 m) b.1 b.2.1
          (fun m hm j hj => ?_) (fun m hm j hj => ?_) (fun mp mo mc A14 A15 A16 a17 h h' => nm_r (nI_1 i) (ih (i + 1) mp mo mc _ _ _ A14 A15 A16 a17 (by omega) (fun t ht => ?_) (fun t ht m hm => ?_))))
        · unfold ml_opm
          rw [(b6 m hm).2.1, (b6 m hm).2.2, (b4 j hj).1, (b4 _ (ml_W5 m)).1]
        · unfold ml_cnm
          rw [(b6 m hm).2.1, (b6 m hm).2.2, (b4 j hj).2.1, (b4 _ (ml_W5 m)).2.1]
        · by_cases e : t = i
          · rw [e, ml_Gs]
            exact ml_clo (o := o) (ml_xt40 hx i)
          · rw [ml_Gn e]
            exact h1 t (by omega)
        · by_cases e : t = i
          · rw [e, h m hm]
            exact ml_clm (ml_xt40 hx i) (by omega)
          · rw [h' (t * 24 + m) (Or.inl (by omega))]
            exact h2 t (by omega) m hm
    exact br_t hr ⟨T + 1, L T 0 mp mo mc a11 a12 a13 a14 a15 a16 a17 (by omega) (fun t ht => absurd ht (by omega)) (fun t ht => absurd ht (by omega))⟩
  · have hz' := hz
    obtain ⟨z1, z2, z3⟩ := hz'
    exact br_f (by rw [z1]; decide) (H _ hB hz)
end
section
/-! questions over a state whose outcomes stand -/
def ml_ps (v : Int32 × Int32 × Int32) (we wo : Int32) : Int32 := if v.1 = we then (if v.1 = 0 then 1 else if v.2.1 = wo then 1 else 0) else 0
theorem ml_passes {post : Int32 → St2 → Prop} {x T M t : Nat} {s o : Int32} {u : St2} (hx : x < 40) (hT : T ≤ 6) (hM : M ≤ 4) (hB : ml_B x s o T M u) (hz : ml_rd u = 0 ∨ ml_Z x s o T M u) (ht : t < T)
    (H : ∀ u' : St2, ml_B x s o T M u' → ml_Z x s o T M u' → post (ml_ps (ml_f (ml_xt x t) s s 0) (ml_we x t) (ml_wo x s t)) u') : wpX_passes post u (nI t) := by
  obtain ⟨sz, ts, mu, rd, mp, mo, mc, a1, a2, a3, a4, a5, a6, a7, a8, a9, a10, a11, a12, a13, a14, a15, a16, a17, a18, a19, a20⟩ := u
  have hB' := hB
  obtain ⟨b1, b2, b3, b4, b5, b6⟩ := hB'
  have ct : (nI t).toNatClampNeg = t := nI_clamp (by omega)
  have it : vp_in (nI t) 6 := pk_in t 6 (by omega)
  unfold wpX_passes
  dsimp only
  refine br_f (nI_pos (by omega)) (br_t (by rw [b2]; exact nI_lt ht (by omega)) (ml_prep hx hT hM hB hz ?_))
  clear b1 b2 b3 b4 b5 b6 hB hz
  rintro ⟨sz', ts', mu', rd', mp', mo', mc', a1', a2', a3', a4', a5', a6', a7', a8', a9', a10', a11', a12', a13', a14', a15', a16', a17', a18', a19', a20'⟩ hB hz
  have P := H _ hB hz
  obtain ⟨b1, b2, b3, b4, b5, b6⟩ := hB
  obtain ⟨z1, z2, z3⟩ := hz
  have e := z2 t ht
  have e1 : a11' t = (ml_f (ml_xt x t) s s 0).1 := congrArg (fun v => v.1) e
  have e2 : a12' t = (ml_f (ml_xt x t) s s 0).2.1 := congrArg (fun v => v.2.1) e
  have e6 : a6' t = ml_we x t := (b5 t ht).2.2.1
  have e7 : a7' t = ml_wo x s t := (b5 t ht).2.2.2
  refine ⟨it, it, ?_⟩
  dsimp only
  rw [ct, e1, e2, e6, e7]
  unfold ml_ps at P
  refine br_c (fun g => ⟨it, br_c (fun g2 => ?_) (fun g2 => ⟨it, it, br_c (fun g3 => ?_) (fun g3 => ?_)⟩)⟩) (fun g => ?_)
  · rw [if_pos g, if_pos g2] at P
    exact P
  · rw [if_pos g, if_neg g2, if_pos g3] at P
    exact P
  · rw [if_pos g, if_neg g2, if_neg g3] at P
    exact P
  · rw [if_neg g] at P
    exact P
theorem ml_length {post : Int32 → St2 → Prop} {x T M t m : Nat} {s o : Int32} {u : St2} (hx : x < 40) (hT : T ≤ 6) (hM : M ≤ 4) (hB : ml_B x s o T M u) (hz : ml_rd u = 0 ∨ ml_Z x s o T M u) (ht : t < T) (hm : m < M)
    (H : ∀ u' : St2, ml_B x s o T M u' → ml_Z x s o T M u' → post (ml_f (ml_xt x t) s o m).2.2 u') : wpX_length post u (nI m) (nI t) := by
  obtain ⟨sz, ts, mu, rd, mp, mo, mc, a1, a2, a3, a4, a5, a6, a7, a8, a9, a10, a11, a12, a13, a14, a15, a16, a17, a18, a19, a20⟩ := u
  have hB' := hB
  obtain ⟨b1, b2, b3, b4, b5, b6⟩ := hB'
  have cA : (nI (t * 24 + m)).toNatClampNeg = t * 24 + m := nI_clamp (by omega)
  unfold wpX_length wpX_noMutant
  dsimp only
  refine br_f (nI_pos (by omega)) (br_t (by rw [b3]; exact nI_lt hm (by omega)) (br_t rfl (br_f (nI_pos (by omega)) (br_t (by rw [b2]; exact nI_lt ht (by omega)) (ml_prep hx hT hM hB hz ?_)))))
  clear b1 b2 b3 b4 b5 b6 hB hz
  rintro ⟨sz', ts', mu', rd', mp', mo', mc', a1', a2', a3', a4', a5', a6', a7', a8', a9', a10', a11', a12', a13', a14', a15', a16', a17', a18', a19', a20'⟩ hB hz
  have P := H _ hB hz
  obtain ⟨z1, z2, z3⟩ := hz
  have e : a16' (t * 24 + m) = (ml_f (ml_xt x t) s o m).2.2 := congrArg (fun v => v.2.2) (z3 t ht m hm)
  rw [← e] at P
  refine ⟨?_, ?_⟩
  · rw [ml_at]
    exact pk_in (t * 24 + m) 144 (by omega)
  · rw [ml_at, cA]
    exact P
theorem ml_output {post : Int32 → St2 → Prop} {x T M t m : Nat} {s o : Int32} {u : St2} (hx : x < 40) (hT : T ≤ 6) (hM : M ≤ 4) (hB : ml_B x s o T M u) (hz : ml_rd u = 0 ∨ ml_Z x s o T M u) (ht : t < T) (hm : m < M)
    (H : ∀ u' : St2, ml_B x s o T M u' → ml_Z x s o T M u' → post (ml_f (ml_xt x t) s o m).2.1 u') : wpX_output post u (nI m) (nI t) := by
  obtain ⟨sz, ts, mu, rd, mp, mo, mc, a1, a2, a3, a4, a5, a6, a7, a8, a9, a10, a11, a12, a13, a14, a15, a16, a17, a18, a19, a20⟩ := u
  have hB' := hB
  obtain ⟨b1, b2, b3, b4, b5, b6⟩ := hB'
  have cA : (nI (t * 24 + m)).toNatClampNeg = t * 24 + m := nI_clamp (by omega)
  unfold wpX_output wpX_noMutant
  dsimp only
  refine br_f (nI_pos (by omega)) (br_t (by rw [b3]; exact nI_lt hm (by omega)) (br_t rfl (br_f (nI_pos (by omega)) (br_t (by rw [b2]; exact nI_lt ht (by omega)) (ml_prep hx hT hM hB hz ?_)))))
  clear b1 b2 b3 b4 b5 b6 hB hz
  rintro ⟨sz', ts', mu', rd', mp', mo', mc', a1', a2', a3', a4', a5', a6', a7', a8', a9', a10', a11', a12', a13', a14', a15', a16', a17', a18', a19', a20'⟩ hB hz
  have P := H _ hB hz
  obtain ⟨z1, z2, z3⟩ := hz
  have e : a15' (t * 24 + m) = (ml_f (ml_xt x t) s o m).2.1 := congrArg (fun v => v.2.1) (z3 t ht m hm)
  rw [← e] at P
  refine ⟨?_, ?_⟩
  · rw [ml_at]
    exact pk_in (t * 24 + m) 144 (by omega)
  · rw [ml_at, cA]
    exact P
end
section
/-! who kills whom -/
def ml_kb (v : Int32 × Int32 × Int32) (we wo : Int32) : Int32 := if v.1 = we then (if v.1 = 0 then 0 else if v.2.1 = wo then 0 else 1) else 1
def ml_km (b : Nat → Int32) : Nat → Int32
  | 0 => 0
  | m + 1 => if b m = 0 then ml_km b m else ml_km b m ||| ((1 : Int32) <<< (nI m &&& 31))
def ml_K (x : Nat) (s o : Int32) (t : Nat) : Int32 := if t < 3 then ml_km (fun m => ml_kb (ml_f (ml_xt x t) s o m) (ml_we x t) (ml_wo x s t)) 4 else 0
def ml_k18 (u : St2) : Nat → Int32 := match u with
  | (sz, ts, mu, rd, mp, mo, mc, a1, a2, a3, a4, a5, a6, a7, a8, a9, a10, a11, a12, a13, a14, a15, a16, a17, a18, a19, a20) => a18
theorem ml_kI {post : Int32 → Prop} {sz ts mu rd mp mo mc : Int32} {a1 a2 a3 a4 a5 a6 a7 a8 a9 a10 a11 a12 a13 a14 a15 a16 a17 a18 a19 a20 : Nat → Int32} {t m : Nat} {v : Int32 × Int32 × Int32} {we wo : Int32} (ht : t < 6) (hm : m < 24) (e : ml_G a14 a15 a16 (t * 24 + m) = v) (e6 : a6 t = we) (e7 : a7 t = wo) (H : post (ml_kb v we wo)) : wpX_killsIt post (sz, ts, mu, rd, mp, mo, mc, a1, a2, a3, a4, a5, a6, a7, a8, a9, a10, a11, a12, a13, a14, a15, a16, a17, a18, a19, a20) (nI t) (nI m) := by
  have ct : (nI t).toNatClampNeg = t := nI_clamp (by omega)
  have cA : (nI (t * 24 + m)).toNatClampNeg = t * 24 + m := nI_clamp (by omega)
  have it : vp_in (nI t) 6 := pk_in t 6 ht
  have iA : vp_in (nI (t * 24 + m)) 144 := pk_in (t * 24 + m) 144 (by omega)
  have e1 : a14 (t * 24 + m) = v.1 := congrArg (fun v => v.1) e
  have e2 : a15 (t * 24 + m) = v.2.1 := congrArg (fun v => v.2.1) e
  unfold ml_kb at H
  unfold wpX_killsIt
  dsimp only
  refine nm_r (e' := nI (t * 24 + m)) (ml_at t m) ?_
  rw [ct, cA, e1, e2, e6, e7]
  refine ⟨iA, it, br_c (fun g => ⟨iA, br_c (fun g2 => ?_) (fun g2 => ⟨iA, it, br_c (fun g3 => ?_) (fun g3 => ?_)⟩)⟩) (fun g => ?_)⟩
  · rw [if_pos g, if_pos g2] at H
    exact H
  · rw [if_pos g, if_neg g2, if_pos g3] at H
    exact H
  · rw [if_pos g, if_neg g2, if_neg g3] at H
    exact H
  · rw [if_neg g] at H
    exact H
theorem ml_g21 {post : St2 → Prop} {J6 : Int32 → (Nat → Int32) → (Nat → Int32) → (Nat → Int32) → (Nat → Int32) → (Nat → Int32) → (Nat → Int32) → (Nat → Int32) → (Nat → Int32) → (Nat → Int32) → (Nat → Int32) → (Nat → Int32) → (Nat → Int32) → (Nat → Int32) → (Nat → Int32) → (Nat → Int32) → (Nat → Int32) → (Nat → Int32) → (Nat → Int32) → (Nat → Int32) → (Nat → Int32) → Prop} {sz rd mp mo mc : Int32} {a1 a2 a3 a4 a5 a6 a7 a8 a9 a10 a11 a12 a13 a14 a15 a16 a17 a18 a19 a20 : Nat → Int32} {t T M : Nat} {b : Nat → Int32} (ht : t < 6) (htT : t < T) (hT : T ≤ 6) (hM : M ≤ 24)
    (hk : ∀ (m : Nat) (a18 : Nat → Int32) (post : Int32 → Prop), m < M → post (b m) → wpX_killsIt post (sz, nI T, nI M, rd, mp, mo, mc, a1, a2, a3, a4, a5, a6, a7, a8, a9, a10, a11, a12, a13, a14, a15, a16, a17, a18, a19, a20) (nI t) (nI m))
    (H : ∀ A : Nat → Int32, A t = ml_km b M → (∀ j, j ≠ t → A j = a18 j) → J6 (nI (t + 1)) a1 a2 a3 a4 a5 a6 a7 a8 a9 a10 a11 a12 a13 a14 a15 a16 a17 A a19 a20) :
    ∀ (f i : Nat) (A : Nat → Int32), i + f = M → A t = ml_km b i → (∀ j, j ≠ t → A j = a18 j) → wX_gatherKills_21 post J6 (nI t) sz (nI T) (nI M) rd mp mo mc (f + 1) (nI i) a1 a2 a3 a4 a5 a6 a7 a8 a9 a10 a11 a12 a13 a14 a15 a16 a17 A a19 a20 := by
  have ct : (nI t).toNatClampNeg = t := nI_clamp (by omega)
  have it : vp_in (nI t) 6 := pk_in t 6 ht
  intro f
  induction f with
  | zero =>
    intro i A hi hA h
    have hi' : i = M := by omega
    rw [hi'] at hA
    exact pk_le M i (fun _ => nm_r (nI_1 t) (H A hA h)) (fun z => absurd z (by omega))
  | succ f ih =>
    intro i A hi hA h
    refine pk_le M i (fun z => absurd z (by omega)) (fun _ => pk_le T t (fun z => absurd z (by omega)) (fun _ => hk i A _ (by omega) ?_))
    refine br_c (fun g => nm_r (nI_1 i) (ih (i + 1) A (by omega) ?_ h)) (fun g => ⟨it, it, nm_r (e' := upd A t (A t ||| ((1 : Int32) <<< (nI i &&& 31)))) (by rw [ct]) (nm_r (nI_1 i) (ih (i + 1) _ (by omega) ?_ (fun j hj => by rw [pk_un hj]; exact h j hj)))⟩)
    · show A t = if b i = 0 then ml_km b i else ml_km b i ||| ((1 : Int32) <<< (nI i &&& 31))
      rw [if_pos g, hA]
    · show _ = if b i = 0 then ml_km b i else ml_km b i ||| ((1 : Int32) <<< (nI i &&& 31))
      rw [if_neg g, pk_us, hA]
theorem ml_g6 {post : St2 → Prop} {sz rd mp mo mc : Int32} {a1 a2 a3 a4 a5 a6 a7 a8 a9 a10 a11 a12 a13 a14 a15 a16 a17 a19 a20 : Nat → Int32} {T M : Nat} {b : Nat → Nat → Int32} (hT : T ≤ 6) (hM : M ≤ 24)
    (hk : ∀ (t m : Nat) (a18 : Nat → Int32) (post : Int32 → Prop), t < T → m < M → post (b t m) → wpX_killsIt post (sz, nI T, nI M, rd, mp, mo, mc, a1, a2, a3, a4, a5, a6, a7, a8, a9, a10, a11, a12, a13, a14, a15, a16, a17, a18, a19, a20) (nI t) (nI m))
    (H : ∀ a18 : Nat → Int32, (∀ j, j < 6 → a18 j = if j < T then ml_km (b j) M else 0) → post (sz, nI T, nI M, rd, mp, mo, mc, a1, a2, a3, a4, a5, a6, a7, a8, a9, a10, a11, a12, a13, a14, a15, a16, a17, a18, a19, a20)) :
    ∀ (f t : Nat) (a18 : Nat → Int32), t + f = 6 → (∀ j, j < t → a18 j = if j < T then ml_km (b j) M else 0) → wX_gatherKills_6 post sz (nI T) (nI M) rd mp mo mc (f + 1) (nI t) a1 a2 a3 a4 a5 a6 a7 a8 a9 a10 a11 a12 a13 a14 a15 a16 a17 a18 a19 a20 := by
  intro f
  induction f with
  | zero =>
    intro t a18 ht h
    have ht' : t = 6 := by omega
    subst ht'
    exact pk_le 6 6 (fun _ => H a18 h) (fun z => absurd z (by omega))
  | succ f ih =>
    intro t a18 ht h
    have ct : (nI t).toNatClampNeg = t := nI_clamp (by omega)
    have it : vp_in (nI t) 6 := pk_in t 6 (by omega)
    have S : ∀ A : Nat → Int32, A t = (if t < T then ml_km (b t) M else 0) → (∀ j, j ≠ t → A j = a18 j) → wX_gatherKills_6 post sz (nI T) (nI M) rd mp mo mc (f + 1) (nI (t + 1)) a1 a2 a3 a4 a5 a6 a7 a8 a9 a10 a11 a12 a13 a14 a15 a16 a17 A a19 a20 := by
      intro A h1 h2
      refine ih (t + 1) A (by omega) (fun j hj => ?_)
      by_cases e : j = t
      · rw [e]
        exact h1
      · rw [h2 j e]
        exact h j (by omega)
    refine pk_le 6 t (fun z => absurd z (by omega)) (fun _ => ⟨it, nm_r (e' := upd a18 t 0) (by rw [ct]) ?_⟩)
    by_cases hl : t < T
    · rw [if_pos hl] at S
      refine ⟨M + 1, ml_g21 (a18 := upd a18 t 0) (b := b t) (by omega) hl hT hM (fun m A post hm hp => hk t m A post hl hm hp) (fun A h1 h2 => S A h1 (fun j hj => by rw [h2 j hj, pk_un hj])) M 0 (upd a18 t 0) (by omega) pk_us (fun _ _ => rfl)⟩
    · rw [if_neg hl] at S
      have S0 := S (upd a18 t 0) pk_us (fun j hj => pk_un hj)
      exact ⟨0 + 1, pk_le M 0 (fun _ => nm_r (nI_1 t) S0) (fun _ => pk_le T t (fun _ => nm_r (nI_1 t) S0) (fun z => absurd z (by omega)))⟩
theorem ml_gather {post : St2 → Prop} {x : Nat} {s o : Int32} {u : St2} (hx : x < 40) (hB : ml_B x s o 3 4 u) (hz : ml_Z x s o 3 4 u)
    (H : ∀ u' : St2, ml_B x s o 3 4 u' → ml_Z x s o 3 4 u' → (∀ j, j < 6 → ml_k18 u' j = ml_K x s o j) → post u') : wpX_gatherKills post u := by
  obtain ⟨sz, ts, mu, rd, mp, mo, mc, a1, a2, a3, a4, a5, a6, a7, a8, a9, a10, a11, a12, a13, a14, a15, a16, a17, a18, a19, a20⟩ := u
  unfold wpX_gatherKills
  dsimp only
  refine ml_prep hx (by omega) (by omega) hB (Or.inr hz) ?_
  clear hB hz
  rintro ⟨sz', ts', mu', rd', mp', mo', mc', a1', a2', a3', a4', a5', a6', a7', a8', a9', a10', a11', a12', a13', a14', a15', a16', a17', a18', a19', a20'⟩ hB hz
  obtain ⟨b1, b2, b3, b4, b5, b6⟩ := hB
  obtain ⟨z1, z2, z3⟩ := hz
  subst b1 b2 b3
  exact ⟨7, ml_g6 (T := 3) (M := 4) (b := fun t m => ml_kb (ml_f (ml_xt x t) s o m) (ml_we x t) (ml_wo x s t)) (by omega) (by omega) (fun t m A post ht hm hp => ml_kI (by omega) (by omega) (z3 t ht m hm) (b5 t ht).2.2.1 (b5 t ht).2.2.2 hp)
    (fun A h => H _ ⟨rfl, rfl, rfl, b4, b5, b6⟩ ⟨z1, z2, z3⟩ h) 6 0 a18' (by omega) (fun j hj => absurd hj (by omega))⟩
/-! sets of tests -/
def ml_ko (K : Nat → Int32) (m : Int32) : Nat → Int32
  | 0 => 0
  | t + 1 => ml_ko K m t ||| (((K t >>> (m &&& 31)) &&& 1) <<< (nI t &&& 31))
def ml_on (x : Int32) : Nat → Int32
  | 0 => 0
  | i + 1 => ml_on x i + ((x >>> (nI i &&& 31)) &&& 1)
def ml_kt (K : Nat → Int32) (q : Int32) : Nat → Int32
  | 0 => 0
  | t + 1 => if ((q >>> (nI t &&& 31)) &&& 1) = 1 then ml_kt K q t ||| K t else ml_kt K q t
theorem ml_kO {post : Int32 → Prop} {sz mu rd mp mo mc : Int32} {a1 a2 a3 a4 a5 a6 a7 a8 a9 a10 a11 a12 a13 a14 a15 a16 a17 a18 a19 a20 : Nat → Int32} {K : Nat → Int32} {m : Int32} (hK : ∀ j, j < 6 → a18 j = K j) (H : post (ml_ko K m 3)) : wpX_killersOf post (sz, nI 3, mu, rd, mp, mo, mc, a1, a2, a3, a4, a5, a6, a7, a8, a9, a10, a11, a12, a13, a14, a15, a16, a17, a18, a19, a20) m := by
  refine pk_loop (fun n i v => wX_killersOf_4 post m sz (nI 3) mu rd mp mo mc a1 a2 a3 a4 a5 a6 a7 a8 a9 a10 a11 a12 a13 a14 a15 a16 a17 a18 a19 a20 n v (nI i)) (fun i v => v = ml_ko K m i) 3 0 0 (by omega) rfl (fun n v h => ?_) (fun n i v hi h hw => ?_)
  · subst h
    exact pk_le 3 3 (fun _ => H) (fun z => absurd z (by omega))
  · subst h
    refine pk_le 3 i (fun z => absurd z (by omega)) (fun _ => ⟨pk_in i 6 (by omega), nm_r ?_ (nm_r (nI_1 i) (hw _ rfl))⟩)
    rw [nI_clamp (show i < 2 ^ 31 by omega), hK i (by omega)]
    rfl
theorem ml_ones {post : Int32 → Prop} {x : Int32} (H : post (ml_on x 24)) : wpX_ones post () x := by
  refine pk_loop (fun n i v => wX_ones_4 post x n v (nI i)) (fun i v => v = ml_on x i) 24 0 0 (by omega) rfl (fun n v h => ?_) (fun n i v hi h hw => ?_)
  · subst h
    exact pk_le 24 24 (fun _ => H) (fun z => absurd z (by omega))
  · subst h
    exact pk_le 24 i (fun z => absurd z (by omega)) (fun _ => nm_r (e' := ml_on x (i + 1)) rfl (nm_r (nI_1 i) (hw _ rfl)))
theorem ml_killers {post : Int32 → St2 → Prop} {x m : Nat} {s o : Int32} {K : Nat → Int32} {u : St2} (hx : x < 40) (hB : ml_B x s o 3 4 u) (hz : ml_Z x s o 3 4 u) (hm : m < 4) (hK : ∀ j, j < 6 → ml_K x s o j = K j)
    (H : ∀ u' : St2, ml_B x s o 3 4 u' → ml_Z x s o 3 4 u' → post (ml_ko K (nI m) 3) u') : wpX_killers post u (nI m) := by
  obtain ⟨sz, ts, mu, rd, mp, mo, mc, a1, a2, a3, a4, a5, a6, a7, a8, a9, a10, a11, a12, a13, a14, a15, a16, a17, a18, a19, a20⟩ := u
  have hB' := hB
  obtain ⟨b1, b2, b3, b4, b5, b6⟩ := hB'
  unfold wpX_killers wpX_noMutant
  dsimp only
  refine br_f (nI_pos (by omega)) (br_t (by rw [b3]; exact nI_lt hm (by omega)) (br_t rfl (ml_gather hx hB hz ?_)))
  clear b1 b2 b3 b4 b5 b6 hB hz
  rintro ⟨sz', ts', mu', rd', mp', mo', mc', a1', a2', a3', a4', a5', a6', a7', a8', a9', a10', a11', a12', a13', a14', a15', a16', a17', a18', a19', a20'⟩ hB hz hk
  have P := H _ hB hz
  obtain ⟨b1, b2, b3, b4, b5, b6⟩ := hB
  subst b1 b2 b3
  exact ml_kO (K := K) (fun j hj => (hk j hj).trans (hK j hj)) P
theorem ml_killed {post : Int32 → St2 → Prop} {x : Nat} {s o q : Int32} {K : Nat → Int32} {u : St2} (hx : x < 40) (hB : ml_B x s o 3 4 u) (hz : ml_Z x s o 3 4 u) (hK : ∀ j, j < 6 → ml_K x s o j = K j)
    (H : ∀ u' : St2, ml_B x s o 3 4 u' → ml_Z x s o 3 4 u' → post (ml_on (ml_kt K q 6) 24) u') : wpX_killed post u q := by
  obtain ⟨sz, ts, mu, rd, mp, mo, mc, a1, a2, a3, a4, a5, a6, a7, a8, a9, a10, a11, a12, a13, a14, a15, a16, a17, a18, a19, a20⟩ := u
  unfold wpX_killed
  dsimp only
  refine ml_gather hx hB hz ?_
  clear hB hz
  rintro ⟨sz', ts', mu', rd', mp', mo', mc', a1', a2', a3', a4', a5', a6', a7', a8', a9', a10', a11', a12', a13', a14', a15', a16', a17', a18', a19', a20'⟩ hB hz hk
  have P := H _ hB hz
  have hk' : ∀ j, j < 6 → a18' j = K j := fun j hj => (hk j hj).trans (hK j hj)
  refine pk_loop (fun n i v => wX_killed_8 post q sz' ts' mu' rd' mp' mo' mc' a1' a2' a3' a4' a5' a6' a7' a8' a9' a10' a11' a12' a13' a14' a15' a16' a17' a18' a19' a20' n v (nI i)) (fun i v => v = ml_kt K q i) 6 0 0 (by omega) rfl (fun n v h => ?_) (fun n i v hi h hw => ?_)
  · subst h
    exact pk_le 6 6 (fun _ => ml_ones P) (fun z => absurd z (by omega))
  · subst h
    refine pk_le 6 i (fun z => absurd z (by omega)) (fun _ => br_c (fun g => ⟨pk_in i 6 (by omega), nm_r ?_ (nm_r (nI_1 i) (hw _ rfl))⟩) (fun g => nm_r (nI_1 i) (hw _ ?_)))
    · show _ = if ((q >>> (nI i &&& 31)) &&& 1) = 1 then ml_kt K q i ||| K i else ml_kt K q i
      rw [nI_clamp (show i < 2 ^ 31 by omega), hk' i hi, if_pos g]
    · show _ = if ((q >>> (nI i &&& 31)) &&& 1) = 1 then ml_kt K q i ||| K i else ml_kt K q i
      rw [if_neg g]
end
section
/-! the search for a smallest set of tests -/
def ml_cs (K : Nat → Int32) (left : Int32) : Nat → Int32 × Int32
  | 0 => (0, 7)
  | m + 1 => if ((left >>> (nI m &&& 31)) &&& 1) = 1 then (if (ml_cs K left m).2 ≤ ml_on (ml_ko K (nI m) 3) 24 then ml_cs K left m else (ml_ko K (nI m) 3, ml_on (ml_ko K (nI m) 3) 24)) else ml_cs K left m
def ml_kf (K : Nat → Int32) (bit : Int32) : Nat → Nat → Int32
  | 0, _ => 0
  | f + 1, t => if bit = ((1 : Int32) <<< (nI t &&& 31)) then K t else ml_kf K bit f (t + 1)
def ml_bs (U : Nat → Int32) (d : Nat) (best : Int32) : Int32 := if U d = 0 then (if best ≤ nI d then best else nI d) else best
def ml_lf (K U O : Nat → Int32) (d : Nat) : Int32 := U d &&& (ml_kf K (O d &&& (-(O d))) 6 0 ^^^ (-1))
def ml_sm (K : Nat → Int32) : Nat → Int32 → Nat → (Nat → Int32) → (Nat → Int32) → Option Int32
  | 0, _, _, _, _ => none
  | f + 1, best, d, U, O => if 7 ≤ d then none
    else if U d = 0 ∨ ml_bs U d best ≤ nI d + 1 ∨ O d = 0 then (if d = 0 then some (ml_bs U d best) else ml_sm K f (ml_bs U d best) (d - 1) U O)
    else ml_sm K f (ml_bs U d best) (d + 1) (upd U (d + 1) (ml_lf K U O d)) (upd (upd O d (O d - (O d &&& (-(O d))))) (d + 1) (ml_cs K (ml_lf K U O d) 4).1)
theorem ml_cS {post : Int32 → Prop} {sz rd mp mo mc : Int32} {a1 a2 a3 a4 a5 a6 a7 a8 a9 a10 a11 a12 a13 a14 a15 a16 a17 a18 a19 a20 : Nat → Int32} {K : Nat → Int32} {left : Int32} (hK : ∀ j, j < 6 → a18 j = K j) (H : post (ml_cs K left 4).1) : wpX_choices post (sz, nI 3, nI 4, rd, mp, mo, mc, a1, a2, a3, a4, a5, a6, a7, a8, a9, a10, a11, a12, a13, a14, a15, a16, a17, a18, a19, a20) left := by
  refine pk_loop (σ := Int32 × Int32) (fun n i v => wX_choices_8 post left sz (nI 3) (nI 4) rd mp mo mc a1 a2 a3 a4 a5 a6 a7 a8 a9 a10 a11 a12 a13 a14 a15 a16 a17 a18 a19 a20 n v.1 v.2 (nI i)) (fun i v => v = ml_cs K left i) 4 0 (0, 7) (by omega) rfl (fun n v h => ?_) (fun n i v hi h hw => ?_)
  · subst h
    exact pk_le 4 4 (fun _ => H) (fun z => absurd z (by omega))
  · subst h
    have E : ml_cs K left (i + 1) = if ((left >>> (nI i &&& 31)) &&& 1) = 1 then (if (ml_cs K left i).2 ≤ ml_on (ml_ko K (nI i) 3) 24 then ml_cs K left i else (ml_ko K (nI i) 3, ml_on (ml_ko K (nI i) 3) 24)) else ml_cs K left i := rfl
    refine pk_le 4 i (fun z => absurd z (by omega)) (fun _ => br_c (fun g => ml_kO (K := K) hK (ml_ones (br_c (fun g2 => nm_r (nI_1 i) ?_) (fun g2 => nm_r (nI_1 i) ?_)))) (fun g => nm_r (nI_1 i) ?_))
    · exact hw _ (by rw [E, if_pos g, if_pos g2])
    · exact hw (ml_ko K (nI i) 3, ml_on (ml_ko K (nI i) 3) 24) (by rw [E, if_pos g, if_neg g2])
    · exact hw _ (by rw [E, if_neg g])
theorem ml_kF {post : Int32 → Prop} {sz ts mu rd mp mo mc : Int32} {a1 a2 a3 a4 a5 a6 a7 a8 a9 a10 a11 a12 a13 a14 a15 a16 a17 a18 a19 a20 : Nat → Int32} {K : Nat → Int32} {bit : Int32} (hK : ∀ j, j < 6 → a18 j = K j) (H : post (ml_kf K bit 6 0)) : wpX_killsOf post (sz, ts, mu, rd, mp, mo, mc, a1, a2, a3, a4, a5, a6, a7, a8, a9, a10, a11, a12, a13, a14, a15, a16, a17, a18, a19, a20) bit := by
  have L : ∀ f t : Nat, t + f = 6 → post (ml_kf K bit f t) → wX_killsOf_2 post bit sz ts mu rd mp mo mc a1 a2 a3 a4 a5 a6 a7 a8 a9 a10 a11 a12 a13 a14 a15 a16 a17 a18 a19 a20 (f + 1) (nI t) := by
    intro f
    induction f with
    | zero =>
      intro t ht h
      exact pk_le 6 t (fun _ => h) (fun z => absurd z (by omega))
    | succ f ih =>
      intro t ht h
      have E : ml_kf K bit (f + 1) t = if bit = ((1 : Int32) <<< (nI t &&& 31)) then K t else ml_kf K bit f (t + 1) := rfl
      rw [E] at h
      refine pk_le 6 t (fun z => absurd z (by omega)) (fun _ => br_c (fun g => ⟨pk_in t 6 (by omega), ?_⟩) (fun g => nm_r (nI_1 t) (ih (t + 1) (by omega) ?_)))
      · rw [if_pos g] at h
        rw [nI_clamp (show t < 2 ^ 31 by omega), hK t (by omega)]
        exact h
      · rw [if_neg g] at h
        exact h
  exact ⟨7, L 6 0 (by omega) H⟩
theorem ml_s26 {post : Int32 → St2 → Prop} {sz rd mp mo mc : Int32} {a1 a2 a3 a4 a5 a6 a7 a8 a9 a10 a11 a12 a13 a14 a15 a16 a17 a18 : Nat → Int32} {K : Nat → Int32} {r : Int32} (hK : ∀ j, j < 6 → a18 j = K j) (H : ∀ a19 a20 : Nat → Int32, post r (sz, nI 3, nI 4, rd, mp, mo, mc, a1, a2, a3, a4, a5, a6, a7, a8, a9, a10, a11, a12, a13, a14, a15, a16, a17, a18, a19, a20)) :
    ∀ (f : Nat) (best : Int32) (d k : Nat) (U O a19 a20 : Nat → Int32), ml_sm K f best d U O = some r → k + f < 16000 → (∀ j, j ≤ d → a19 j = U j ∧ a20 j = O j) → wX_smallest_26 post sz (nI 3) (nI 4) rd mp mo mc (f + 1) best (nI d) (nI k) a1 a2 a3 a4 a5 a6 a7 a8 a9 a10 a11 a12 a13 a14 a15 a16 a17 a18 a19 a20 := by
  intro f
  induction f with
  | zero =>
    intro best d k U O a19 a20 h
    cases h
  | succ f ih =>
    intro best d k U O a19 a20 h hk hj
    have E : ml_sm K (f + 1) best d U O = if 7 ≤ d then none
      else if U d = 0 ∨ ml_bs U d best ≤ nI d + 1 ∨ O d = 0 then (if d = 0 then some (ml_bs U d best) else ml_sm K f (ml_bs U d best) (d - 1) U O)
      else ml_sm K f (ml_bs U d best) (d + 1) (upd U (d + 1) (ml_lf K U O d)) (upd (upd O d (O d - (O d &&& (-(O d))))) (d + 1) (ml_cs K (ml_lf K U O d) 4).1) := rfl
    rw [E] at h
    clear E
    by_cases h7 : 7 ≤ d
    · rw [if_pos h7] at h
      cases h
    rw [if_neg h7] at h
    have cd : (nI d).toNatClampNeg = d := nI_clamp (by omega)
    have cd1 : (nI (d + 1)).toNatClampNeg = d + 1 := nI_clamp (by omega)
    have i8 : vp_in (nI d) 8 := pk_in d 8 (by omega)
    have i9 : vp_in (nI (d + 1)) 8 := pk_in (d + 1) 8 (by omega)
    have eU : a19 d = U d := (hj d (by omega)).1
    have eO : a20 d = O d := (hj d (by omega)).2
    have S : ∀ b : Int32, b = ml_bs U d best → wX_smallest_54 post (wX_smallest_26 post sz (nI 3) (nI 4) rd mp mo mc (f + 1)) b (nI d) (nI k) sz (nI 3) (nI 4) rd mp mo mc a1 a2 a3 a4 a5 a6 a7 a8 a9 a10 a11 a12 a13 a14 a15 a16 a17 a18 a19 a20 := by
      intro b hb
      rw [← hb] at h
      have POP : (U d = 0 ∨ b ≤ nI d + 1 ∨ O d = 0) → ∀ x3 : Int32, x3 = nI d + (-1) → ∀ x4 : Int32, x4 = nI k + 1 → wX_smallest_26 post sz (nI 3) (nI 4) rd mp mo mc (f + 1) b x3 x4 a1 a2 a3 a4 a5 a6 a7 a8 a9 a10 a11 a12 a13 a14 a15 a16 a17 a18 a19 a20 := by
        intro c x3 e3 x4 e4
        rw [if_pos c] at h
        rw [e3, e4]
        by_cases d0 : d = 0
        · rw [if_pos d0] at h
          have h' : b = r := Option.some.inj h
          rw [d0, h']
          exact pk_le 16000 (k + 1) (fun z => absurd z (by omega)) (fun _ => br_t (by decide) (H a19 a20)) (hy := nI_1 k)
        · rw [if_neg d0] at h
          obtain ⟨e, he⟩ : ∃ e, d = e + 1 := ⟨d - 1, by omega⟩
          subst he
          rw [pk_m1, nI_1]
          exact ih b e (k + 1) U O a19 a20 h (by omega) (fun j hj' => hj j (by omega))
      unfold wX_smallest_54
      rw [cd, eU, eO]
      refine ⟨i8, br_c (fun g => POP (Or.inl g)) (fun g => br_c (fun g2 => POP (Or.inr (Or.inl g2))) (fun g2 => ⟨i8, br_c (fun g3 => POP (Or.inr (Or.inr g3))) (fun g3 => ?_)⟩))⟩
      rw [if_neg (fun c => c.elim g (fun c => c.elim g2 g3))] at h
      refine ⟨i8, i8, nm_e ⟨i8, i8, nm_e ⟨i8, ml_kF (K := K) hK (nm_e (nm_r (nI_1 d) ?_))⟩⟩⟩
      rw [cd1]
      refine ⟨i9, nm_e (ml_cS (K := K) hK ⟨i9, nm_e (nm_r (nI_1 k) (ih b (d + 1) (k + 1) _ _ _ _ h (by omega) (fun j hj' => ?_)))⟩)⟩
      by_cases e : j = d + 1
      · rw [e, pk_us, pk_us, pk_us, pk_us]
        exact ⟨rfl, rfl⟩
      · rw [pk_un e, pk_un e, pk_un e, pk_un e]
        by_cases e' : j = d
        · rw [e', pk_us, pk_us]
          exact ⟨eU, rfl⟩
        · rw [pk_un e', pk_un e']
          exact hj j (by omega)
    refine pk_le 16000 k (fun z => absurd z (by omega)) (fun _ => br_f (nI_pos (by omega)) ⟨i8, ?_⟩)
    rw [cd, eU]
    exact br_c (fun g => br_c (fun g2 => S _ (by unfold ml_bs; rw [if_pos g, if_pos g2])) (fun g2 => S _ (by unfold ml_bs; rw [if_pos g, if_neg g2]))) (fun g => S _ (by unfold ml_bs; rw [if_neg g]))
def ml_al (K : Nat → Int32) : Nat → Int32
  | 0 => 0
  | t + 1 => ml_al K t ||| K t
theorem ml_enough {post : Int32 → St2 → Prop} {x : Nat} {s o r : Int32} {K : Nat → Int32} {u : St2} (hx : x < 40) (hB : ml_B x s o 3 4 u) (hz : ml_Z x s o 3 4 u) (hK : ∀ j, j < 6 → ml_K x s o j = K j)
    (hs : ml_sm K 60 7 0 (fun _ => ml_al K 3) (fun _ => (ml_cs K (ml_al K 3) 4).1) = some r)
    (H : ∀ u' : St2, ml_B x s o 3 4 u' → ml_Z x s o 3 4 u' → post r u') : wpX_enough post u := by
  obtain ⟨sz, ts, mu, rd, mp, mo, mc, a1, a2, a3, a4, a5, a6, a7, a8, a9, a10, a11, a12, a13, a14, a15, a16, a17, a18, a19, a20⟩ := u
  unfold wpX_enough
  dsimp only
  refine ml_gather hx hB hz ?_
  clear hB hz
  rintro ⟨sz', ts', mu', rd', mp', mo', mc', a1', a2', a3', a4', a5', a6', a7', a8', a9', a10', a11', a12', a13', a14', a15', a16', a17', a18', a19', a20'⟩ hB hz hk
  have hk' : ∀ j, j < 6 → a18' j = K j := fun j hj => (hk j hj).trans (hK j hj)
  obtain ⟨b1, b2, b3, b4, b5, b6⟩ := hB
  obtain ⟨z1, z2, z3⟩ := hz
  subst b1 b2 b3
  refine pk_loop (fun n i v => wX_enough_8 post (nI 5) (nI 3) (nI 4) rd' mp' mo' mc' a1' a2' a3' a4' a5' a6' a7' a8' a9' a10' a11' a12' a13' a14' a15' a16' a17' a18' a19' a20' n v (nI i)) (fun i v => v = ml_al K i) 3 0 0 (by omega) rfl (fun n v h => ?_) (fun n i v hi h hw => ?_)
  · subst h
    refine pk_le 3 3 (fun _ => ?_) (fun z => absurd z (by omega))
    unfold wpX_smallest
    dsimp only
    refine nm_e (ml_cS (K := K) hk' (nm_e ⟨60 + 1, ml_s26 (K := K) hk' (fun a19 a20 => ?_) 60 7 0 0 _ _ _ _ hs (by omega) (fun j hj => ?_)⟩))
    · exact H _ ⟨rfl, rfl, rfl, b4, b5, b6⟩ ⟨z1, z2, z3⟩
    · have e : j = 0 := by omega
      rw [e, pk_us, pk_us]
      exact ⟨rfl, rfl⟩
  · subst h
    refine pk_le 3 i (fun z => absurd z (by omega)) (fun _ => ⟨pk_in i 6 (by omega), nm_r ?_ (nm_r (nI_1 i) (hw _ rfl))⟩)
    rw [nI_clamp (show i < 2 ^ 31 by omega), hk' i (by omega)]
    rfl
end
section
/-! the law's checks, over all that a script can bring about: x below 40, the step 1 to 4, the other constant -4 to 4 -/
def ml_x7 (x : Nat) : Int32 := if x ≤ 24 then 1 else 0
def ml_S (s : Nat) : Int32 := nI (s + 1)
def ml_O (o : Nat) : Int32 := nI o - 4
def ml_KK (k0 k1 k2 : Int32) (j : Nat) : Int32 := if j = 0 then k0 else if j = 1 then k1 else if j = 2 then k2 else 0
theorem ml_rem5 (v : Int32) : ∃ o : Nat, o < 9 ∧ v - v / 5 * 5 = ml_O o := by
  have h1 := Int32.toInt_lt v
  have h2 := Int32.le_toInt v
  have h5 : (5 : Int32).toInt = 5 := by decide
  have t1 := Int.tmod_lt_of_pos v.toInt (b := 5) (by decide)
  have t2 := Int.lt_tmod_of_pos v.toInt (b := 5) (by decide)
  have t3 := Int.mul_tdiv_add_tmod v.toInt 5
  have t4 : 0 ≤ v.toInt → 0 ≤ v.toInt.tmod 5 := fun h => Int.tmod_nonneg 5 h
  have t5 : v.toInt ≤ 0 → v.toInt.tmod 5 ≤ 0 := by
    intro h
    have z := Int.tmod_nonneg 5 (show 0 ≤ -v.toInt by omega)
    rw [Int.neg_tmod] at z
    omega
  have hd : (v / 5).toInt = v.toInt.tdiv 5 := by
    rw [Int32.toInt_div, h5]
    exact Int.bmod_eq_of_le (by omega) (by omega)
  have hm : (v / 5 * 5).toInt = v.toInt.tdiv 5 * 5 := by
    rw [Int32.toInt_mul, hd, h5]
    exact Int.bmod_eq_of_le (by omega) (by omega)
  have hs : (v - v / 5 * 5).toInt = v.toInt.tmod 5 := by
    rw [Int32.toInt_sub, hm, Int.bmod_eq_of_le (by omega) (by omega)]
    omega
  refine ⟨(v.toInt.tmod 5 + 4).toNat, by omega, ?_⟩
  apply Int32.toInt_inj.mp
  rw [hs]
  show _ = (nI (v.toInt.tmod 5 + 4).toNat - nI 4).toInt
  rw [pk_sub_toInt (by omega) (by omega)]
  omega
theorem ml_dp : ∀ x, x < 40 → ∀ s, s < 4 → (¬ ml_ps (ml_f (ml_xt x 0) (ml_S s) (ml_S s) 0) (ml_we x 0) (ml_wo x (ml_S s) 0) = 0) ∧ (¬ ml_ps (ml_f (ml_xt x 1) (ml_S s) (ml_S s) 0) (ml_we x 1) (ml_wo x (ml_S s) 1) = 0) ∧ ml_ps (ml_f (ml_xt x 2) (ml_S s) (ml_S s) 0) (ml_we x 2) (ml_wo x (ml_S s) 2) = ml_x7 x := by decide +kernel
theorem ml_d1 : ∀ x, x < 40 → ∀ s, s < 4 → ∀ o, o < 9 → (ml_f (ml_xt x 0) (ml_S s) (ml_O o) 0).2.2 = (if ml_x7 x = 0 then 100 else 4 * nI x + 2) ∧ (ml_f (ml_xt x 0) (ml_S s) (ml_O o) 0).2.1 = (if ml_x7 x = 0 then 0 else nI x * ml_O o) := by decide +kernel
theorem ml_d3 : ∀ s, s < 4 → ∀ o, o < 9 → (ml_f 0 (ml_S s) (ml_O o) 0).2.2 = 2 ∧ (ml_f 0 (ml_S s) (ml_O o) 0).2.1 = 0 := by decide +kernel
theorem ml_d4 : ∀ x, x < 40 → ∀ s, s < 4 → ∀ o, o < 9 → ml_ko (ml_K x (ml_S s) (ml_O o)) (nI 0) 3 = (if ml_x7 x = 0 ∨ nI x ≤ 0 ∨ ml_O o = ml_S s then (if ml_x7 x = 0 then 4 else 0) else 5) := by decide +kernel
theorem ml_d5 : ∀ x, x < 40 → ∀ s, s < 4 → ∀ o, o < 9 → ml_ko (ml_K x (ml_S s) (ml_O o)) (nI 1) 3 = (if ml_x7 x = 0 ∨ nI x ≤ 0 then (if ml_x7 x = 0 then 4 else 0) else 5) := by decide +kernel
theorem ml_d5o : ∀ x, x < 40 → ∀ s, s < 4 → ∀ o, o < 9 → (ml_f (ml_xt x 0) (ml_S s) (ml_O o) 1).2.1 = 0 := by decide +kernel
theorem ml_d6 : ∀ x, x < 40 → ∀ s, s < 4 → ∀ o, o < 9 → ml_ko (ml_K x (ml_S s) (ml_O o)) (nI 2) 3 = (if (if nI x = 0 then 0 else nI x - 1 + ml_S s) = nI x * ml_S s then (if nI x ≤ 0 then 0 else if ml_x7 x = 0 then 1 else if nI x - 1 + ml_S s = nI x * ml_S s then 0 else 1) else (if nI x ≤ 0 then 0 else if ml_x7 x = 0 then 1 else if nI x - 1 + ml_S s = nI x * ml_S s then 0 else 1) ||| 4) := by decide +kernel
theorem ml_d7 : ∀ x, x < 40 → ∀ s, s < 4 → ∀ o, o < 9 → (ml_f (ml_xt x 0) (ml_S s) (ml_O o) 2).2.2 = (if nI x = 0 then 2 else 5) ∧ (ml_f (ml_xt x 0) (ml_S s) (ml_O o) 2).2.1 = (if nI x = 0 then 0 else nI x - 1 + ml_S s) ∧ (ml_f (ml_xt x 0) (ml_S s) (ml_O o) 3).2.2 = (if nI x = 0 then 2 else 100) := by decide +kernel
theorem ml_d8 : ∀ x, x < 40 → ∀ s, s < 4 → ∀ o, o < 9 → ml_ko (ml_K x (ml_S s) (ml_O o)) (nI 3) 3 = (if nI x = 0 then 0 else if ml_x7 x = 0 then 4 else 5) := by decide +kernel
theorem ml_d8c : ∀ x, x < 40 → (if nI x = 0 then (0 : Int32) else if ml_x7 x = 0 then 4 else 5) &&& 2 = 0 ∧ (if nI x = 0 then (0 : Int32) else if ml_x7 x = 0 then 4 else 5) &&& 1 = (if ml_x7 x = 0 ∨ nI x ≤ 0 then 0 else 1) ∧ (if nI x = 0 then (0 : Int32) else if ml_x7 x = 0 then 4 else 5) &&& 4 = (if nI x = 0 then 0 else 4) := by decide +kernel
theorem ml_d9 : ∀ x, x < 40 → ∀ s, s < 4 → ∀ o, o < 9 → ml_K x (ml_S s) (ml_O o) 1 = 0 := by decide +kernel
theorem ml_d9k : ∀ (K : Nat → Int32), K 1 = 0 → ml_on (ml_kt K 2 6) 24 = 0 := by
  intro K h
  have e : ml_kt K 2 6 = 0 ||| K 1 := rfl
  rw [e, h]
  decide +kernel
theorem ml_d10 : ∀ x, x < 40 → ∀ s, s < 4 → ∀ o, o < 9 →
    ml_K x (ml_S s) (ml_O o) 0 = (if nI x = 0 then 0 else if ml_x7 x = 0 then 4 else if ml_O o = ml_S s then (if nI x - 1 + ml_S s = nI x * ml_S s then 10 else 14) else (if nI x - 1 + ml_S s = nI x * ml_S s then 11 else 15)) := by decide +kernel
theorem ml_d11 : ∀ x, x < 40 → ∀ s, s < 4 → ∀ o, o < 9 →
    ml_K x (ml_S s) (ml_O o) 2 = (if nI x = 0 then 0 else if ml_x7 x = 0 then (if nI x - 1 + ml_S s = nI x * ml_S s then 11 else 15) else if ml_O o = ml_S s then (if nI x - 1 + ml_S s = nI x * ml_S s then 10 else 14) else (if nI x - 1 + ml_S s = nI x * ml_S s then 11 else 15)) := by decide +kernel
/-- the search's answer, by the three tests' kills -/
def ml_en (k0 k2 : Int32) : Option Int32 := ml_sm (ml_KK k0 0 k2) 60 7 0 (fun _ => ml_al (ml_KK k0 0 k2) 3) (fun _ => (ml_cs (ml_KK k0 0 k2) (ml_al (ml_KK k0 0 k2) 3) 4).1)
def ml_k63 (k0 k2 : Int32) : Int32 := ml_on (ml_kt (ml_KK k0 0 k2) 63 6) 24
theorem ml_en0 : ml_en 0 0 = some 0 ∧ ml_k63 0 0 = 0 := by decide +kernel
theorem ml_en2 : ml_en 4 11 = some 2 ∧ ¬ ml_k63 4 11 = 0 := by decide +kernel
theorem ml_en1a : ml_en 4 15 = some 1 ∧ ¬ ml_k63 4 15 = 0 := by decide +kernel
theorem ml_en1b : ml_en 10 10 = some 1 ∧ ¬ ml_k63 10 10 = 0 := by decide +kernel
theorem ml_en1c : ml_en 11 11 = some 1 ∧ ¬ ml_k63 11 11 = 0 := by decide +kernel
theorem ml_en1d : ml_en 14 14 = some 1 ∧ ¬ ml_k63 14 14 = 0 := by decide +kernel
theorem ml_en1e : ml_en 15 15 = some 1 ∧ ¬ ml_k63 15 15 = 0 := by decide +kernel
theorem ml_end10 {x s o : Nat} (hx : x < 40) (hs : s < 4) (ho : o < 9) : ∃ k0 k2 r : Int32, (∀ j, j < 6 → ml_K x (ml_S s) (ml_O o) j = ml_KK k0 0 k2 j) ∧ ml_en k0 k2 = some r ∧
    ((ml_k63 k0 k2 = 0 ∧ r = 0) ∨ ((¬ ml_k63 k0 k2 = 0) ∧ r = 2 ∧ ml_x7 x = 0 ∧ nI x - 1 + ml_S s = nI x * ml_S s) ∨ ((¬ ml_k63 k0 k2 = 0) ∧ r = 1 ∧ ¬ (ml_x7 x = 0 ∧ nI x - 1 + ml_S s = nI x * ml_S s))) := by
  have q : ∀ k0 k2 : Int32, ml_K x (ml_S s) (ml_O o) 0 = k0 → ml_K x (ml_S s) (ml_O o) 2 = k2 → ∀ j, j < 6 → ml_K x (ml_S s) (ml_O o) j = ml_KK k0 0 k2 j := by
    intro k0 k2 h0 h2 j hj
    have h1 := ml_d9 x hx s hs o ho
    obtain rfl | rfl | rfl | h3 : j = 0 ∨ j = 1 ∨ j = 2 ∨ 3 ≤ j := by omega
    · exact h0
    · exact h1
    · exact h2
    · unfold ml_K ml_KK
      rw [if_neg (by omega), if_neg (by omega), if_neg (by omega), if_neg (by omega)]
  have a := ml_d10 x hx s hs o ho
  have b := ml_d11 x hx s hs o ho
  by_cases c0 : nI x = 0
  · rw [if_pos c0] at a b
    exact ⟨0, 0, 0, q 0 0 a b, ml_en0.1, Or.inl ⟨ml_en0.2, rfl⟩⟩
  rw [if_neg c0] at a b
  by_cases c7 : ml_x7 x = 0
  · rw [if_pos c7] at a b
    by_cases c : nI x - 1 + ml_S s = nI x * ml_S s
    · rw [if_pos c] at b
      exact ⟨4, 11, 2, q 4 11 a b, ml_en2.1, Or.inr (Or.inl ⟨ml_en2.2, rfl, c7, c⟩)⟩
    · rw [if_neg c] at b
      exact ⟨4, 15, 1, q 4 15 a b, ml_en1a.1, Or.inr (Or.inr ⟨ml_en1a.2, rfl, fun z => c z.2⟩)⟩
  rw [if_neg c7] at a b
  by_cases e : ml_O o = ml_S s
  · rw [if_pos e] at a b
    by_cases c : nI x - 1 + ml_S s = nI x * ml_S s
    · rw [if_pos c] at a b
      exact ⟨10, 10, 1, q 10 10 a b, ml_en1b.1, Or.inr (Or.inr ⟨ml_en1b.2, rfl, fun z => c7 z.1⟩)⟩
    · rw [if_neg c] at a b
      exact ⟨14, 14, 1, q 14 14 a b, ml_en1d.1, Or.inr (Or.inr ⟨ml_en1d.2, rfl, fun z => c7 z.1⟩)⟩
  · rw [if_neg e] at a b
    by_cases c : nI x - 1 + ml_S s = nI x * ml_S s
    · rw [if_pos c] at a b
      exact ⟨11, 11, 1, q 11 11 a b, ml_en1c.1, Or.inr (Or.inr ⟨ml_en1c.2, rfl, fun z => c7 z.1⟩)⟩
    · rw [if_neg c] at a b
      exact ⟨15, 15, 1, q 15 15 a b, ml_en1e.1, Or.inr (Or.inr ⟨ml_en1e.2, rfl, fun z => c7 z.1⟩)⟩
end
section
/-! the law, from its end -/
section
variable {post : Int32 → St0 → Prop} {MC MS kc ks x s o : Nat} {sz ts mu rd mp mo mc : Int32} {a1 a2 a3 a4 a5 a6 a7 a8 a9 a10 a11 a12 a13 a14 a15 a16 a17 a18 a19 a20 : Nat → Int32}
theorem ml_L574 {z0 z1 : Int32} (hp : post 1 ()) (hx : x < 40) (hs : s < 4) (ho : o < 9) (hB : ml_B x (ml_S s) (ml_O o) 3 4 (sz, ts, mu, rd, mp, mo, mc, a1, a2, a3, a4, a5, a6, a7, a8, a9, a10, a11, a12, a13, a14, a15, a16, a17, a18, a19, a20)) (hZ : ml_Z x (ml_S s) (ml_O o) 3 4 (sz, ts, mu, rd, mp, mo, mc, a1, a2, a3, a4, a5, a6, a7, a8, a9, a10, a11, a12, a13, a14, a15, a16, a17, a18, a19, a20)) (hz : z1 = z0) :
    wL_lawOf_574 post MC MS (nI x) (ml_S s) (ml_x7 x) (nI x - 1 + ml_S s) z0 z1 kc ks sz ts mu rd mp mo mc a1 a2 a3 a4 a5 a6 a7 a8 a9 a10 a11 a12 a13 a14 a15 a16 a17 a18 a19 a20 := by
  obtain ⟨k0, k2, r, hK, hr, hc⟩ := ml_end10 hx hs ho
  refine br_t hz (ml_killed (K := ml_K x (ml_S s) (ml_O o)) hx hB hZ (fun _ _ => rfl) ?_)
  clear hB hZ
  rintro ⟨sz', ts', mu', rd', mp', mo', mc', a1', a2', a3', a4', a5', a6', a7', a8', a9', a10', a11', a12', a13', a14', a15', a16', a17', a18', a19', a20'⟩ hB hZ
  refine br_t (ml_d9k _ (ml_d9 x hx s hs o ho)) (ml_enough hx hB hZ hK hr ?_)
  clear hB hZ
  rintro ⟨sz, ts, mu, rd, mp, mo, mc, a1, a2, a3, a4, a5, a6, a7, a8, a9, a10, a11, a12, a13, a14, a15, a16, a17, a18, a19, a20⟩ hB hZ
  refine ml_killed hx hB hZ hK ?_
  clear hB hZ
  rintro ⟨sz', ts', mu', rd', mp', mo', mc', a1', a2', a3', a4', a5', a6', a7', a8', a9', a10', a11', a12', a13', a14', a15', a16', a17', a18', a19', a20'⟩ hB hZ
  rcases hc with ⟨c1, c2⟩ | ⟨c1, c2, c3, c4⟩ | ⟨c1, c2, c3⟩
  · exact br_t c1 (br_t c2 hp)
  · exact br_f c1 (br_t c3 (br_t c4 (br_t c2 hp)))
  · exact br_f c1 (br_c (fun g => br_c (fun g2 => absurd ⟨g, g2⟩ c3) (fun g2 => br_t c2 hp)) (fun g => br_t c2 hp))
theorem ml_L557 {z0 z1 : Int32} (hp : post 1 ()) (hx : x < 40) (hs : s < 4) (ho : o < 9) (hB : ml_B x (ml_S s) (ml_O o) 3 4 (sz, ts, mu, rd, mp, mo, mc, a1, a2, a3, a4, a5, a6, a7, a8, a9, a10, a11, a12, a13, a14, a15, a16, a17, a18, a19, a20)) (hZ : ml_Z x (ml_S s) (ml_O o) 3 4 (sz, ts, mu, rd, mp, mo, mc, a1, a2, a3, a4, a5, a6, a7, a8, a9, a10, a11, a12, a13, a14, a15, a16, a17, a18, a19, a20)) (hz : z1 = z0) :
    wL_lawOf_557 post MC MS (nI x) (ml_S s) (ml_x7 x) (nI x - 1 + ml_S s) (ml_ko (ml_K x (ml_S s) (ml_O o)) (nI 3) 3) z0 z1 kc ks sz ts mu rd mp mo mc a1 a2 a3 a4 a5 a6 a7 a8 a9 a10 a11 a12 a13 a14 a15 a16 a17 a18 a19 a20 := by
  have d := (ml_d8c x hx).2.2
  rw [← ml_d8 x hx s hs o ho] at d
  exact br_t hz (br_c (fun g => ml_L574 hp hx hs ho hB hZ (by rw [d, if_pos g])) (fun g => ml_L574 hp hx hs ho hB hZ (by rw [d, if_neg g])))
theorem ml_L540 {x10 z0 z1 : Int32} (hp : post 1 ()) (hx : x < 40) (hs : s < 4) (ho : o < 9) (hB : ml_B x (ml_S s) (ml_O o) 3 4 (sz, ts, mu, rd, mp, mo, mc, a1, a2, a3, a4, a5, a6, a7, a8, a9, a10, a11, a12, a13, a14, a15, a16, a17, a18, a19, a20)) (hZ : ml_Z x (ml_S s) (ml_O o) 3 4 (sz, ts, mu, rd, mp, mo, mc, a1, a2, a3, a4, a5, a6, a7, a8, a9, a10, a11, a12, a13, a14, a15, a16, a17, a18, a19, a20))
    (h10 : (x10 = 0 ∧ (ml_x7 x = 0 ∨ nI x ≤ 0)) ∨ (x10 = 1 ∧ ¬ (ml_x7 x = 0 ∨ nI x ≤ 0))) (hz : z1 = z0) :
    wL_lawOf_540 post MC MS (nI x) (ml_S s) (ml_x7 x) x10 (nI x - 1 + ml_S s) (ml_ko (ml_K x (ml_S s) (ml_O o)) (nI 3) 3) z0 z1 kc ks sz ts mu rd mp mo mc a1 a2 a3 a4 a5 a6 a7 a8 a9 a10 a11 a12 a13 a14 a15 a16 a17 a18 a19 a20 := by
  have d := (ml_d8c x hx).2.1
  rw [← ml_d8 x hx s hs o ho] at d
  rcases h10 with ⟨e, c⟩ | ⟨e, c⟩
  · exact br_t hz (br_t e (ml_L557 hp hx hs ho hB hZ (by rw [d, if_pos c])))
  · exact br_t hz (br_f (by rw [e]; decide) (ml_L557 hp hx hs ho hB hZ (by rw [d, if_neg c])))
theorem ml_L504 {x10 z0 z1 : Int32} (hp : post 1 ()) (hx : x < 40) (hs : s < 4) (ho : o < 9) (hB : ml_B x (ml_S s) (ml_O o) 3 4 (sz, ts, mu, rd, mp, mo, mc, a1, a2, a3, a4, a5, a6, a7, a8, a9, a10, a11, a12, a13, a14, a15, a16, a17, a18, a19, a20)) (hZ : ml_Z x (ml_S s) (ml_O o) 3 4 (sz, ts, mu, rd, mp, mo, mc, a1, a2, a3, a4, a5, a6, a7, a8, a9, a10, a11, a12, a13, a14, a15, a16, a17, a18, a19, a20))
    (h10 : (x10 = 0 ∧ (ml_x7 x = 0 ∨ nI x ≤ 0)) ∨ (x10 = 1 ∧ ¬ (ml_x7 x = 0 ∨ nI x ≤ 0))) (hz : z1 = z0) :
    wL_lawOf_504 post MC MS (nI x) (ml_S s) (ml_x7 x) x10 (nI x - 1 + ml_S s) z0 z1 kc ks sz ts mu rd mp mo mc a1 a2 a3 a4 a5 a6 a7 a8 a9 a10 a11 a12 a13 a14 a15 a16 a17 a18 a19 a20 := by
  have d := (ml_d8c x hx).1
  rw [← ml_d8 x hx s hs o ho] at d
  have d7 := (ml_d7 x hx s hs o ho).2.2
  refine br_t hz (ml_killers (m := 3) (K := ml_K x (ml_S s) (ml_O o)) hx hB hZ (by omega) (fun _ _ => rfl) ?_)
  clear hB hZ
  rintro ⟨sz', ts', mu', rd', mp', mo', mc', a1', a2', a3', a4', a5', a6', a7', a8', a9', a10', a11', a12', a13', a14', a15', a16', a17', a18', a19', a20'⟩ hB hZ
  refine br_t d (ml_length (m := 3) (t := 0) hx (by omega) (by omega) hB (Or.inr hZ) (by omega) (by omega) ?_)
  clear hB hZ
  rintro ⟨sz, ts, mu, rd, mp, mo, mc, a1, a2, a3, a4, a5, a6, a7, a8, a9, a10, a11, a12, a13, a14, a15, a16, a17, a18, a19, a20⟩ hB hZ
  exact br_c (fun g => ml_L540 hp hx hs ho hB hZ h10 (by rw [d7, if_pos g])) (fun g => ml_L540 hp hx hs ho hB hZ h10 (by rw [d7, if_neg g]))
theorem ml_L484 {x10 z0 z1 : Int32} (hp : post 1 ()) (hx : x < 40) (hs : s < 4) (ho : o < 9) (hB : ml_B x (ml_S s) (ml_O o) 3 4 (sz, ts, mu, rd, mp, mo, mc, a1, a2, a3, a4, a5, a6, a7, a8, a9, a10, a11, a12, a13, a14, a15, a16, a17, a18, a19, a20)) (hZ : ml_Z x (ml_S s) (ml_O o) 3 4 (sz, ts, mu, rd, mp, mo, mc, a1, a2, a3, a4, a5, a6, a7, a8, a9, a10, a11, a12, a13, a14, a15, a16, a17, a18, a19, a20))
    (h10 : (x10 = 0 ∧ (ml_x7 x = 0 ∨ nI x ≤ 0)) ∨ (x10 = 1 ∧ ¬ (ml_x7 x = 0 ∨ nI x ≤ 0))) (hz : z1 = z0) :
    wL_lawOf_484 post MC MS (nI x) (ml_S s) (ml_x7 x) x10 (nI x - 1 + ml_S s) z0 z1 kc ks sz ts mu rd mp mo mc a1 a2 a3 a4 a5 a6 a7 a8 a9 a10 a11 a12 a13 a14 a15 a16 a17 a18 a19 a20 := by
  have d7 := (ml_d7 x hx s hs o ho).2.1
  refine br_t hz (ml_output (m := 2) (t := 0) hx (by omega) (by omega) hB (Or.inr hZ) (by omega) (by omega) ?_)
  clear hB hZ
  rintro ⟨sz', ts', mu', rd', mp', mo', mc', a1', a2', a3', a4', a5', a6', a7', a8', a9', a10', a11', a12', a13', a14', a15', a16', a17', a18', a19', a20'⟩ hB hZ
  exact br_c (fun g => ml_L504 hp hx hs ho hB hZ h10 (by rw [d7, if_pos g])) (fun g => ml_L504 hp hx hs ho hB hZ h10 (by rw [d7, if_neg g]))
theorem ml_L456 {x10 z0 : Int32} (hp : post 1 ()) (hx : x < 40) (hs : s < 4) (ho : o < 9) (hB : ml_B x (ml_S s) (ml_O o) 3 4 (sz, ts, mu, rd, mp, mo, mc, a1, a2, a3, a4, a5, a6, a7, a8, a9, a10, a11, a12, a13, a14, a15, a16, a17, a18, a19, a20)) (hZ : ml_Z x (ml_S s) (ml_O o) 3 4 (sz, ts, mu, rd, mp, mo, mc, a1, a2, a3, a4, a5, a6, a7, a8, a9, a10, a11, a12, a13, a14, a15, a16, a17, a18, a19, a20))
    (h10 : (x10 = 0 ∧ (ml_x7 x = 0 ∨ nI x ≤ 0)) ∨ (x10 = 1 ∧ ¬ (ml_x7 x = 0 ∨ nI x ≤ 0))) (hz : ml_ko (ml_K x (ml_S s) (ml_O o)) (nI 2) 3 = z0) :
    wL_lawOf_456 post MC MS (nI x) (ml_S s) (ml_x7 x) x10 (nI x - 1 + ml_S s) z0 kc ks sz ts mu rd mp mo mc a1 a2 a3 a4 a5 a6 a7 a8 a9 a10 a11 a12 a13 a14 a15 a16 a17 a18 a19 a20 := by
  have d7 := (ml_d7 x hx s hs o ho).1
  refine ml_killers (m := 2) (K := ml_K x (ml_S s) (ml_O o)) hx hB hZ (by omega) (fun _ _ => rfl) ?_
  clear hB hZ
  rintro ⟨sz', ts', mu', rd', mp', mo', mc', a1', a2', a3', a4', a5', a6', a7', a8', a9', a10', a11', a12', a13', a14', a15', a16', a17', a18', a19', a20'⟩ hB hZ
  refine br_t hz (ml_length (m := 2) (t := 0) hx (by omega) (by omega) hB (Or.inr hZ) (by omega) (by omega) ?_)
  clear hB hZ
  rintro ⟨sz, ts, mu, rd, mp, mo, mc, a1, a2, a3, a4, a5, a6, a7, a8, a9, a10, a11, a12, a13, a14, a15, a16, a17, a18, a19, a20⟩ hB hZ
  exact br_c (fun g => ml_L484 hp hx hs ho hB hZ h10 (by rw [d7, if_pos g])) (fun g => ml_L484 hp hx hs ho hB hZ h10 (by rw [d7, if_neg g]))
theorem ml_L426 {x10 z0 : Int32} (hp : post 1 ()) (hx : x < 40) (hs : s < 4) (ho : o < 9) (hB : ml_B x (ml_S s) (ml_O o) 3 4 (sz, ts, mu, rd, mp, mo, mc, a1, a2, a3, a4, a5, a6, a7, a8, a9, a10, a11, a12, a13, a14, a15, a16, a17, a18, a19, a20)) (hZ : ml_Z x (ml_S s) (ml_O o) 3 4 (sz, ts, mu, rd, mp, mo, mc, a1, a2, a3, a4, a5, a6, a7, a8, a9, a10, a11, a12, a13, a14, a15, a16, a17, a18, a19, a20))
    (h10 : (x10 = 0 ∧ (ml_x7 x = 0 ∨ nI x ≤ 0)) ∨ (x10 = 1 ∧ ¬ (ml_x7 x = 0 ∨ nI x ≤ 0)))
    (hz : ml_ko (ml_K x (ml_S s) (ml_O o)) (nI 2) 3 = (if (if nI x = 0 then 0 else nI x - 1 + ml_S s) = nI x * ml_S s then z0 else z0 ||| 4)) :
    wL_lawOf_426 post MC MS (nI x) (ml_S s) (ml_x7 x) x10 (nI x - 1 + ml_S s) z0 kc ks sz ts mu rd mp mo mc a1 a2 a3 a4 a5 a6 a7 a8 a9 a10 a11 a12 a13 a14 a15 a16 a17 a18 a19 a20 := by
  refine br_c (fun g => ?_) (fun g => ?_)
  · rw [if_pos g] at hz
    exact br_c (fun g2 => ml_L456 hp hx hs ho hB hZ h10 (by rw [hz, if_pos g2])) (fun g2 => ml_L456 hp hx hs ho hB hZ h10 (by rw [hz, if_neg g2]))
  · rw [if_neg g] at hz
    exact br_c (fun g2 => ml_L456 hp hx hs ho hB hZ h10 (by rw [hz, if_pos g2])) (fun g2 => ml_L456 hp hx hs ho hB hZ h10 (by rw [hz, if_neg g2]))
theorem ml_L413 {x10 : Int32} (hp : post 1 ()) (hx : x < 40) (hs : s < 4) (ho : o < 9) (hB : ml_B x (ml_S s) (ml_O o) 3 4 (sz, ts, mu, rd, mp, mo, mc, a1, a2, a3, a4, a5, a6, a7, a8, a9, a10, a11, a12, a13, a14, a15, a16, a17, a18, a19, a20)) (hZ : ml_Z x (ml_S s) (ml_O o) 3 4 (sz, ts, mu, rd, mp, mo, mc, a1, a2, a3, a4, a5, a6, a7, a8, a9, a10, a11, a12, a13, a14, a15, a16, a17, a18, a19, a20))
    (h10 : (x10 = 0 ∧ (ml_x7 x = 0 ∨ nI x ≤ 0)) ∨ (x10 = 1 ∧ ¬ (ml_x7 x = 0 ∨ nI x ≤ 0)))
    (hz : ml_ko (ml_K x (ml_S s) (ml_O o)) (nI 2) 3 = (if (if nI x = 0 then 0 else nI x - 1 + ml_S s) = nI x * ml_S s then 0 else 0 ||| 4)) :
    wL_lawOf_413 post MC MS (nI x) (ml_S s) (ml_x7 x) x10 (nI x - 1 + ml_S s) kc ks sz ts mu rd mp mo mc a1 a2 a3 a4 a5 a6 a7 a8 a9 a10 a11 a12 a13 a14 a15 a16 a17 a18 a19 a20 := by
  unfold wL_lawOf_413
  exact br_t rfl (ml_L426 hp hx hs ho hB hZ h10 hz)
theorem ml_L409 {x10 : Int32} (hp : post 1 ()) (hx : x < 40) (hs : s < 4) (ho : o < 9) (hB : ml_B x (ml_S s) (ml_O o) 3 4 (sz, ts, mu, rd, mp, mo, mc, a1, a2, a3, a4, a5, a6, a7, a8, a9, a10, a11, a12, a13, a14, a15, a16, a17, a18, a19, a20)) (hZ : ml_Z x (ml_S s) (ml_O o) 3 4 (sz, ts, mu, rd, mp, mo, mc, a1, a2, a3, a4, a5, a6, a7, a8, a9, a10, a11, a12, a13, a14, a15, a16, a17, a18, a19, a20))
    (h10 : (x10 = 0 ∧ (ml_x7 x = 0 ∨ nI x ≤ 0)) ∨ (x10 = 1 ∧ ¬ (ml_x7 x = 0 ∨ nI x ≤ 0)))
    (hz : ml_ko (ml_K x (ml_S s) (ml_O o)) (nI 2) 3 = (if (if nI x = 0 then 0 else nI x - 1 + ml_S s) = nI x * ml_S s then 1 else 1 ||| 4)) :
    wL_lawOf_409 post MC MS (nI x) (ml_S s) (ml_x7 x) x10 (nI x - 1 + ml_S s) kc ks sz ts mu rd mp mo mc a1 a2 a3 a4 a5 a6 a7 a8 a9 a10 a11 a12 a13 a14 a15 a16 a17 a18 a19 a20 := by
  unfold wL_lawOf_409
  exact br_f (by decide) (ml_L426 hp hx hs ho hB hZ h10 hz)
theorem ml_L366 {x10 z0 z1 : Int32} (hp : post 1 ()) (hx : x < 40) (hs : s < 4) (ho : o < 9) (hB : ml_B x (ml_S s) (ml_O o) 3 4 (sz, ts, mu, rd, mp, mo, mc, a1, a2, a3, a4, a5, a6, a7, a8, a9, a10, a11, a12, a13, a14, a15, a16, a17, a18, a19, a20)) (hZ : ml_Z x (ml_S s) (ml_O o) 3 4 (sz, ts, mu, rd, mp, mo, mc, a1, a2, a3, a4, a5, a6, a7, a8, a9, a10, a11, a12, a13, a14, a15, a16, a17, a18, a19, a20))
    (h10 : (x10 = 0 ∧ (ml_x7 x = 0 ∨ nI x ≤ 0)) ∨ (x10 = 1 ∧ ¬ (ml_x7 x = 0 ∨ nI x ≤ 0))) (hz : z1 = z0) :
    wL_lawOf_366 post MC MS (nI x) (ml_S s) (ml_x7 x) x10 z0 z1 kc ks sz ts mu rd mp mo mc a1 a2 a3 a4 a5 a6 a7 a8 a9 a10 a11 a12 a13 a14 a15 a16 a17 a18 a19 a20 := by
  have d := ml_d6 x hx s hs o ho
  refine br_t hz (ml_output (m := 1) (t := 0) hx (by omega) (by omega) hB (Or.inr hZ) (by omega) (by omega) ?_)
  clear hB hZ
  rintro ⟨sz', ts', mu', rd', mp', mo', mc', a1', a2', a3', a4', a5', a6', a7', a8', a9', a10', a11', a12', a13', a14', a15', a16', a17', a18', a19', a20'⟩ hB hZ
  refine br_t (ml_d5o x hx s hs o ho) (nm_e (br_c (fun g => ?_) (fun g => br_c (fun g2 => ?_) (fun g2 => br_c (fun g3 => ?_) (fun g3 => ?_)))))
  · rw [if_pos g] at d
    exact ml_L413 hp hx hs ho hB hZ h10 d
  · rw [if_neg g, if_pos g2] at d
    exact ml_L409 hp hx hs ho hB hZ h10 d
  · rw [if_neg g, if_neg g2, if_pos g3] at d
    exact ml_L413 hp hx hs ho hB hZ h10 d
  · rw [if_neg g, if_neg g2, if_neg g3] at d
    exact ml_L409 hp hx hs ho hB hZ h10 d
theorem ml_L340 {z0 : Int32} (hp : post 1 ()) (hx : x < 40) (hs : s < 4) (ho : o < 9) (hB : ml_B x (ml_S s) (ml_O o) 3 4 (sz, ts, mu, rd, mp, mo, mc, a1, a2, a3, a4, a5, a6, a7, a8, a9, a10, a11, a12, a13, a14, a15, a16, a17, a18, a19, a20)) (hZ : ml_Z x (ml_S s) (ml_O o) 3 4 (sz, ts, mu, rd, mp, mo, mc, a1, a2, a3, a4, a5, a6, a7, a8, a9, a10, a11, a12, a13, a14, a15, a16, a17, a18, a19, a20))
    (h10 : (z0 = 0 ∧ (ml_x7 x = 0 ∨ nI x ≤ 0)) ∨ (z0 = 1 ∧ ¬ (ml_x7 x = 0 ∨ nI x ≤ 0))) :
    wL_lawOf_340 post MC MS (nI x) (ml_S s) (ml_x7 x) z0 kc ks sz ts mu rd mp mo mc a1 a2 a3 a4 a5 a6 a7 a8 a9 a10 a11 a12 a13 a14 a15 a16 a17 a18 a19 a20 := by
  have d := ml_d5 x hx s hs o ho
  refine ml_killers (m := 1) (K := ml_K x (ml_S s) (ml_O o)) hx hB hZ (by omega) (fun _ _ => rfl) ?_
  clear hB hZ
  rintro ⟨sz', ts', mu', rd', mp', mo', mc', a1', a2', a3', a4', a5', a6', a7', a8', a9', a10', a11', a12', a13', a14', a15', a16', a17', a18', a19', a20'⟩ hB hZ
  have h10' := h10
  rcases h10' with ⟨e, c⟩ | ⟨e, c⟩
  · rw [if_pos c] at d
    exact br_t e (br_c (fun g => ml_L366 hp hx hs ho hB hZ h10 (by rw [d, if_pos g])) (fun g => ml_L366 hp hx hs ho hB hZ h10 (by rw [d, if_neg g])))
  · rw [if_neg c] at d
    exact br_f (by rw [e]; decide) (ml_L366 hp hx hs ho hB hZ h10 d)
theorem ml_L320 {z0 z1 : Int32} (hp : post 1 ()) (hx : x < 40) (hs : s < 4) (ho : o < 9) (hB : ml_B x (ml_S s) (ml_O o) 3 4 (sz, ts, mu, rd, mp, mo, mc, a1, a2, a3, a4, a5, a6, a7, a8, a9, a10, a11, a12, a13, a14, a15, a16, a17, a18, a19, a20)) (hZ : ml_Z x (ml_S s) (ml_O o) 3 4 (sz, ts, mu, rd, mp, mo, mc, a1, a2, a3, a4, a5, a6, a7, a8, a9, a10, a11, a12, a13, a14, a15, a16, a17, a18, a19, a20)) (hz : z1 = z0) :
    wL_lawOf_320 post MC MS (nI x) (ml_S s) (ml_x7 x) z0 z1 kc ks sz ts mu rd mp mo mc a1 a2 a3 a4 a5 a6 a7 a8 a9 a10 a11 a12 a13 a14 a15 a16 a17 a18 a19 a20 := by
  refine br_t hz (br_c (fun g => ?_) (fun g => br_c (fun g2 => ?_) (fun g2 => ?_)))
  · unfold wL_lawOf_339
    exact ml_L340 hp hx hs ho hB hZ (Or.inl ⟨rfl, Or.inl g⟩)
  · unfold wL_lawOf_339
    exact ml_L340 hp hx hs ho hB hZ (Or.inl ⟨rfl, Or.inr g2⟩)
  · exact ml_L340 hp hx hs ho hB hZ (Or.inr ⟨rfl, fun c => c.elim g g2⟩)
theorem ml_L294 {z0 : Int32} (hp : post 1 ()) (hx : x < 40) (hs : s < 4) (ho : o < 9) (hB : ml_B x (ml_S s) (ml_O o) 3 4 (sz, ts, mu, rd, mp, mo, mc, a1, a2, a3, a4, a5, a6, a7, a8, a9, a10, a11, a12, a13, a14, a15, a16, a17, a18, a19, a20)) (hZ : ml_Z x (ml_S s) (ml_O o) 3 4 (sz, ts, mu, rd, mp, mo, mc, a1, a2, a3, a4, a5, a6, a7, a8, a9, a10, a11, a12, a13, a14, a15, a16, a17, a18, a19, a20))
    (h9 : (z0 = 0 ∧ (ml_x7 x = 0 ∨ nI x ≤ 0 ∨ ml_O o = ml_S s)) ∨ (z0 = 1 ∧ ¬ (ml_x7 x = 0 ∨ nI x ≤ 0 ∨ ml_O o = ml_S s))) :
    wL_lawOf_294 post MC MS (nI x) (ml_S s) (ml_x7 x) z0 kc ks sz ts mu rd mp mo mc a1 a2 a3 a4 a5 a6 a7 a8 a9 a10 a11 a12 a13 a14 a15 a16 a17 a18 a19 a20 := by
  have d := ml_d4 x hx s hs o ho
  refine ml_killers (m := 0) (K := ml_K x (ml_S s) (ml_O o)) hx hB hZ (by omega) (fun _ _ => rfl) ?_
  clear hB hZ
  rintro ⟨sz', ts', mu', rd', mp', mo', mc', a1', a2', a3', a4', a5', a6', a7', a8', a9', a10', a11', a12', a13', a14', a15', a16', a17', a18', a19', a20'⟩ hB hZ
  rcases h9 with ⟨e, c⟩ | ⟨e, c⟩
  · rw [if_pos c] at d
    exact br_t e (br_c (fun g => ml_L320 hp hx hs ho hB hZ (by rw [d, if_pos g])) (fun g => ml_L320 hp hx hs ho hB hZ (by rw [d, if_neg g])))
  · rw [if_neg c] at d
    exact br_f (by rw [e]; decide) (ml_L320 hp hx hs ho hB hZ d)
theorem ml_L248 {z0 z1 : Int32} (hp : post 1 ()) (hx : x < 40) (hs : s < 4) (ho : o < 9) (hB : ml_B x (ml_S s) (ml_O o) 3 4 (sz, ts, mu, rd, mp, mo, mc, a1, a2, a3, a4, a5, a6, a7, a8, a9, a10, a11, a12, a13, a14, a15, a16, a17, a18, a19, a20)) (hZ : ml_Z x (ml_S s) (ml_O o) 3 4 (sz, ts, mu, rd, mp, mo, mc, a1, a2, a3, a4, a5, a6, a7, a8, a9, a10, a11, a12, a13, a14, a15, a16, a17, a18, a19, a20)) (hz : z1 = z0) :
    wL_lawOf_248 post MC MS (nI x) (ml_S s) (ml_O o) (ml_x7 x) z0 z1 kc ks sz ts mu rd mp mo mc a1 a2 a3 a4 a5 a6 a7 a8 a9 a10 a11 a12 a13 a14 a15 a16 a17 a18 a19 a20 := by
  have d := ml_d3 s hs o ho
  refine br_t hz (ml_length (m := 0) (t := 1) hx (by omega) (by omega) hB (Or.inr hZ) (by omega) (by omega) ?_)
  clear hB hZ
  rintro ⟨sz', ts', mu', rd', mp', mo', mc', a1', a2', a3', a4', a5', a6', a7', a8', a9', a10', a11', a12', a13', a14', a15', a16', a17', a18', a19', a20'⟩ hB hZ
  refine br_t d.1 (ml_output (m := 0) (t := 1) hx (by omega) (by omega) hB (Or.inr hZ) (by omega) (by omega) ?_)
  clear hB hZ
  rintro ⟨sz, ts, mu, rd, mp, mo, mc, a1, a2, a3, a4, a5, a6, a7, a8, a9, a10, a11, a12, a13, a14, a15, a16, a17, a18, a19, a20⟩ hB hZ
  refine br_t d.2 (br_c (fun g => ?_) (fun g => br_c (fun g2 => ?_) (fun g2 => br_c (fun g3 => ?_) (fun g3 => ?_))))
  · unfold wL_lawOf_293
    exact ml_L294 hp hx hs ho hB hZ (Or.inl ⟨rfl, Or.inl g⟩)
  · unfold wL_lawOf_293
    exact ml_L294 hp hx hs ho hB hZ (Or.inl ⟨rfl, Or.inr (Or.inl g2)⟩)
  · unfold wL_lawOf_293
    exact ml_L294 hp hx hs ho hB hZ (Or.inl ⟨rfl, Or.inr (Or.inr g3)⟩)
  · exact ml_L294 hp hx hs ho hB hZ (Or.inr ⟨rfl, fun c => c.elim g (fun c => c.elim g2 g3)⟩)
theorem ml_L215 {z0 : Int32} (hp : post 1 ()) (hx : x < 40) (hs : s < 4) (ho : o < 9) (hB : ml_B x (ml_S s) (ml_O o) 3 4 (sz, ts, mu, rd, mp, mo, mc, a1, a2, a3, a4, a5, a6, a7, a8, a9, a10, a11, a12, a13, a14, a15, a16, a17, a18, a19, a20)) (hr : ml_rd (sz, ts, mu, rd, mp, mo, mc, a1, a2, a3, a4, a5, a6, a7, a8, a9, a10, a11, a12, a13, a14, a15, a16, a17, a18, a19, a20) = 0) (hz : (if ml_x7 x = 0 then 100 else 4 * nI x + 2) = z0) :
    wL_lawOf_215 post MC MS (nI x) (ml_S s) (ml_O o) (ml_x7 x) z0 kc ks sz ts mu rd mp mo mc a1 a2 a3 a4 a5 a6 a7 a8 a9 a10 a11 a12 a13 a14 a15 a16 a17 a18 a19 a20 := by
  have d := ml_d1 x hx s hs o ho
  refine ml_length (m := 0) (t := 0) hx (by omega) (by omega) hB (Or.inl hr) (by omega) (by omega) ?_
  clear hB hr
  rintro ⟨sz', ts', mu', rd', mp', mo', mc', a1', a2', a3', a4', a5', a6', a7', a8', a9', a10', a11', a12', a13', a14', a15', a16', a17', a18', a19', a20'⟩ hB hZ
  refine br_t (d.1.trans hz) (ml_output (m := 0) (t := 0) hx (by omega) (by omega) hB (Or.inr hZ) (by omega) (by omega) ?_)
  clear hB hZ
  rintro ⟨sz, ts, mu, rd, mp, mo, mc, a1, a2, a3, a4, a5, a6, a7, a8, a9, a10, a11, a12, a13, a14, a15, a16, a17, a18, a19, a20⟩ hB hZ
  exact br_c (fun g => ml_L248 hp hx hs ho hB hZ (by rw [d.2, if_pos g])) (fun g => ml_L248 hp hx hs ho hB hZ (by rw [d.2, if_neg g]))
theorem ml_L87 {z0 : Int32} (hp : post 1 ()) (hx : x < 40) (hs : s < 4) (ho : o < 9) (hz : z0 = ml_x7 x) (hB : ml_B x (ml_S s) (ml_O o) 0 0 (sz, ts, mu, rd, mp, mo, mc, a1, a2, a3, a4, a5, a6, a7, a8, a9, a10, a11, a12, a13, a14, a15, a16, a17, a18, a19, a20)) :
    wL_lawOf_87 post MC MS (nI x) (ml_S s) (ml_O o) z0 kc ks sz ts mu rd mp mo mc a1 a2 a3 a4 a5 a6 a7 a8 a9 a10 a11 a12 a13 a14 a15 a16 a17 a18 a19 a20 := by
  subst hz
  have d := ml_dp x hx s hs
  refine ml_snap hB (by omega) hx rfl rfl rfl rfl ?_
  clear hB
  rintro ⟨sz', ts', mu', rd', mp', mo', mc', a1', a2', a3', a4', a5', a6', a7', a8', a9', a10', a11', a12', a13', a14', a15', a16', a17', a18', a19', a20'⟩ hB hr
  refine br_t rfl (ml_snap hB (by omega) hx rfl rfl rfl ?_ ?_)
  · show nI 0 * ml_S s = 0
    rw [nI_0, Int32.zero_mul]
  clear hB hr
  rintro ⟨sz, ts, mu, rd, mp, mo, mc, a1, a2, a3, a4, a5, a6, a7, a8, a9, a10, a11, a12, a13, a14, a15, a16, a17, a18, a19, a20⟩ hB hr
  refine br_t rfl (ml_test hB (by omega) rfl rfl rfl rfl ?_)
  clear hB hr
  rintro ⟨sz', ts', mu', rd', mp', mo', mc', a1', a2', a3', a4', a5', a6', a7', a8', a9', a10', a11', a12', a13', a14', a15', a16', a17', a18', a19', a20'⟩ hB hr
  refine br_t rfl (ml_passes (t := 0) hx (by omega) (by omega) hB (Or.inl hr) (by omega) ?_)
  clear hB hr
  rintro ⟨sz, ts, mu, rd, mp, mo, mc, a1, a2, a3, a4, a5, a6, a7, a8, a9, a10, a11, a12, a13, a14, a15, a16, a17, a18, a19, a20⟩ hB hZ
  refine br_f d.1 (ml_passes (t := 1) hx (by omega) (by omega) hB (Or.inr hZ) (by omega) ?_)
  clear hB hZ
  rintro ⟨sz', ts', mu', rd', mp', mo', mc', a1', a2', a3', a4', a5', a6', a7', a8', a9', a10', a11', a12', a13', a14', a15', a16', a17', a18', a19', a20'⟩ hB hZ
  refine br_f d.2.1 (ml_passes (t := 2) hx (by omega) (by omega) hB (Or.inr hZ) (by omega) ?_)
  clear hB hZ
  rintro ⟨sz, ts, mu, rd, mp, mo, mc, a1, a2, a3, a4, a5, a6, a7, a8, a9, a10, a11, a12, a13, a14, a15, a16, a17, a18, a19, a20⟩ hB hZ
  refine br_t d.2.2 (ml_mutC (p := 1) hB (by omega) (by omega) rfl rfl rfl ?_)
  clear hB hZ
  rintro ⟨sz', ts', mu', rd', mp', mo', mc', a1', a2', a3', a4', a5', a6', a7', a8', a9', a10', a11', a12', a13', a14', a15', a16', a17', a18', a19', a20'⟩ hB hr
  refine br_t rfl (ml_mutO (p := 4) hB (by omega) (by omega) (by decide) (by decide) rfl rfl rfl ?_)
  clear hB hr
  rintro ⟨sz, ts, mu, rd, mp, mo, mc, a1, a2, a3, a4, a5, a6, a7, a8, a9, a10, a11, a12, a13, a14, a15, a16, a17, a18, a19, a20⟩ hB hr
  refine br_t rfl (ml_mutC (p := 3) hB (by omega) (by omega) rfl rfl rfl ?_)
  clear hB hr
  rintro ⟨sz', ts', mu', rd', mp', mo', mc', a1', a2', a3', a4', a5', a6', a7', a8', a9', a10', a11', a12', a13', a14', a15', a16', a17', a18', a19', a20'⟩ hB hr
  refine br_t rfl (ml_mutO (p := 2) hB (by omega) (by omega) (by decide) (by decide) rfl rfl rfl ?_)
  clear hB hr
  rintro ⟨sz, ts, mu, rd, mp, mo, mc, a1, a2, a3, a4, a5, a6, a7, a8, a9, a10, a11, a12, a13, a14, a15, a16, a17, a18, a19, a20⟩ hB hr
  exact br_t rfl (br_c (fun g => ml_L215 hp hx hs ho hB hr (by rw [if_pos g])) (fun g => ml_L215 hp hx hs ho hB hr (by rw [if_neg g])))
end
theorem ml_top {post : Int32 → St0 → Prop} (hp : post 1 ()) (p0 p1 p2 : Int32) : wpL_lawOf post 21 639 () p0 p1 p2 := by
  obtain ⟨j, hj, ej⟩ := pk_andE p0 (m := 2147483647) 31 (by decide)
  obtain ⟨s, hs, es⟩ := pk_andE p1 (m := 3) 2 (by decide)
  obtain ⟨o, ho, eo⟩ := ml_rem5 p2
  have hx : j % 40 < 40 := Nat.mod_lt _ (by decide)
  have ex : (p0 &&& 2147483647) - (p0 &&& 2147483647) / 40 * 40 = nI (j % 40) := by
    rw [ej]
    exact pk_rem hj (by decide) (by decide)
  have es' : 1 + (p1 &&& 3) = ml_S s := by
    rw [es]
    show nI 1 + nI s = nI (s + 1)
    rw [nI_add, Nat.add_comm]
  unfold wpL_lawOf
  refine ⟨by decide, by decide, 20, 612, by decide, by decide, ?_⟩
  unfold wpX_init
  refine ⟨by decide, by decide, by decide, by decide, by decide, by decide, by decide, by decide, by decide, by decide, by decide, by decide, by decide, by decide, by decide, by decide, by decide, by decide, by decide, by decide, by decide, by decide, by decide, by decide, by decide, by decide, by decide, by decide, by decide, by decide, by decide, by decide, by decide, by decide, by decide, by decide, by decide, by decide, by decide, by decide, ?_⟩
  refine ⟨by decide, nm_r ex (nm_r es' ⟨by decide, nm_r eo ?_⟩)⟩
  refine ml_emit (n := 0) (by decide) (by decide) (by decide) ?_
  refine ml_emit (n := 1) (by decide) (by decide) (by decide) ?_
  refine ml_emit (n := 2) (by decide) (by decide) (by decide) ?_
  refine ml_emit (n := 3) (by decide) (by decide) (by decide) ?_
  refine ml_emit (n := 4) (by decide) (by decide) (by decide) ?_
  have hq : ∀ k : Nat, k < 40 → (24 : Int32) < nI k → ml_x7 k = 0 := by decide +kernel
  have hq' : ∀ k : Nat, k < 40 → ¬ (24 : Int32) < nI k → ml_x7 k = 1 := by decide +kernel
  refine br_c (fun g => ?_) (fun g => ?_)
  · refine ml_L87 hp hx hs ho (hq _ hx g).symm ⟨rfl, rfl, rfl, fun j hj => ?_, fun t ht => absurd ht (by omega), fun t ht => absurd ht (by omega)⟩
    obtain rfl | rfl | rfl | rfl | rfl : j = 0 ∨ j = 1 ∨ j = 2 ∨ j = 3 ∨ j = 4 := by omega
    all_goals exact ⟨rfl, rfl, by decide, by decide⟩
  · refine ml_L87 hp hx hs ho (hq' _ hx g).symm ⟨rfl, rfl, rfl, fun j hj => ?_, fun t ht => absurd ht (by omega), fun t ht => absurd ht (by omega)⟩
    obtain rfl | rfl | rfl | rfl | rfl : j = 0 ∨ j = 1 ∨ j = 2 ∨ j = 3 ∨ j = 4 := by omega
    all_goals exact ⟨rfl, rfl, by decide, by decide⟩
end
section
theorem ml_cell {post : Int32 → Prop} {L : Nat} {xs : Nat → Int32} {u : St0} (i : Nat) (hi : i < 2 ^ 31) (hL : L ≤ 3) (h : ∀ r, post r) : wpL_cellAt post L xs u (nI i) := by
  refine br_c (fun _ => h _) (fun z => ⟨?_, h _⟩)
  have z' : ¬ nI L ≤ nI i := z
  rw [nI_leI (by omega) hi] at z'
  exact vp_in_nI (by omega) (by omega)
theorem i_vc (xs : Nat → Int32) (L : Nat) (hL : L ≤ 3) : wpL_law (fun r => r = 1) L xs :=
  ml_cell 0 (by decide) hL (fun r1 => ml_cell 1 (by decide) hL (fun r2 => ml_cell 2 (by decide) hL (fun r3 => ⟨21, 639, by decide, by decide, ml_top (post := fun r _ => r = 1) rfl r1 r2 r3⟩)))
end
