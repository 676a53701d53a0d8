section
/-! rows of the kit to paste (kit/rows): a starting text -/
theorem pk_us {f : Nat → Int32} {k : Nat} {x : Int32} : upd f k x k = x := if_pos rfl
theorem pk_un {f : Nat → Int32} {k j : Nat} {x : Int32} (h : j ≠ k) : upd f k x j = f j := if_neg h
theorem pk_sub {a b : Nat} (h : b ≤ a) : nI a - nI b = nI (a - b) := by
  obtain ⟨c, rfl⟩ : ∃ c, a = c + b := ⟨a - b, by omega⟩
  rw [← nI_add, Int32.add_sub_cancel, Nat.add_sub_cancel]
theorem pk_m1 (n : Nat) : nI (n + 1) + (-1) = nI n := by
  rw [← nI_1, Int32.add_assoc, show (1 : Int32) + (-1) = 0 from rfl, Int32.add_zero]
theorem pk_mul (a b : Nat) : nI a * nI b = nI (a * b) := (Int32.ofNat_mul a b).symm
theorem pk_ix (x : Int32) {n : Nat} (hn : n < 2 ^ 31) : x < 0 ∨ nI n ≤ x ∨ ∃ j : Nat, j < n ∧ x = nI j := by
  by_cases h : x < 0
  · exact Or.inl h
  · obtain ⟨j, hj, rfl⟩ := nI_of h
    by_cases h2 : j < n
    · exact Or.inr (Or.inr ⟨j, h2, rfl⟩)
    · exact Or.inr (Or.inl (nI_le (by omega) hj))
theorem pk_le {x y : Int32} {A B : Prop} (a b : Nat) (f : a ≤ b → A) (g : b < a → B) (hx : x = nI a := by rfl) (hy : y = nI b := by rfl) (ha : a < 2 ^ 31 := by omega) (hb : b < 2 ^ 31 := by omega) : (x ≤ y → A) ∧ (¬ x ≤ y → B) := by
  subst hx hy
  rw [nI_leI ha hb]
  exact ⟨f, fun z => g (by omega)⟩
theorem pk_lt {x y : Int32} {A B : Prop} (a b : Nat) (f : a < b → A) (g : b ≤ a → B) (hx : x = nI a := by rfl) (hy : y = nI b := by rfl) (ha : a < 2 ^ 31 := by omega) (hb : b < 2 ^ 31 := by omega) : (x < y → A) ∧ (¬ x < y → B) := by
  subst hx hy
  rw [nI_ltI ha hb]
  exact ⟨f, fun z => g (by omega)⟩
theorem pk_eq {x y : Int32} {A B : Prop} (a b : Nat) (f : a = b → A) (g : a ≠ b → B) (hx : x = nI a := by rfl) (hy : y = nI b := by rfl) (ha : a < 2 ^ 31 := by omega) (hb : b < 2 ^ 31 := by omega) : (x = y → A) ∧ (¬ x = y → B) := by
  subst hx hy
  rw [nI_eq ha hb]
  exact ⟨f, g⟩
theorem pk_in {x : Int32} (n N : Nat) (h : n < N) (hx : x = nI n := by rfl) (hN : N < 2 ^ 31 := by omega) : vp_in x N := by
  subst hx
  exact vp_in_nI h hN
theorem pk_cl {x : Int32} (n : Nat) (hx : x = nI n := by rfl) (h : n < 2 ^ 31 := by omega) : x.toNatClampNeg = n := by
  subst hx
  exact nI_clamp h
theorem pk_tn {n : Nat} (h : n < 2 ^ 32) : (nI n).toBitVec.toNat = n := Nat.mod_eq_of_lt h
def bt (x : Int32) (i : Nat) : Bool := x.toBitVec.getLsbD i
theorem b_ext {x y : Int32} (h : ∀ i, i < 32 → bt x i = bt y i) : x = y := Int32.toBitVec_inj.mp (BitVec.eq_of_getLsbD_eq (fun i hi => h i hi))
theorem b_or (x y : Int32) (i : Nat) : bt (x ||| y) i = (bt x i || bt y i) := by unfold bt; rw [Int32.toBitVec_or, BitVec.getLsbD_or]
theorem b_and (x y : Int32) (i : Nat) : bt (x &&& y) i = (bt x i && bt y i) := by unfold bt; rw [Int32.toBitVec_and, BitVec.getLsbD_and]
theorem b_big {x : Int32} {i : Nat} (h : 32 ≤ i) : bt x i = false := BitVec.getLsbD_of_ge _ _ h
theorem b_0 (i : Nat) : bt 0 i = false := BitVec.getLsbD_zero
theorem s_l : ∀ n, n < 32 → ((nI n &&& 31).toBitVec.smod 32).toNat = n := by decide +kernel
theorem b_shl (n : Nat) (hn : n < 32) (x : Int32) {i : Nat} (hi : i < 32) : bt (x <<< (nI n &&& 31)) i = (decide (n ≤ i) && bt x (i - n)) := by
  unfold bt
  rw [Int32.toBitVec_shiftLeft]
  show (x.toBitVec <<< ((nI n &&& 31).toBitVec.smod 32).toNat).getLsbD i = _
  rw [s_l n hn, BitVec.getLsbD_shiftLeft]
  rcases Nat.lt_or_ge i n with h | h
  · simp [h, Nat.not_le.mpr h]
  · simp [hi, h, Nat.not_lt.mpr h]
theorem b_sshr (n : Nat) (hn : n < 32) (x : Int32) {i : Nat} (hi : i < 32) : bt (x >>> (nI n &&& 31)) i = if n + i < 32 then bt x (n + i) else bt x 31 := by
  unfold bt
  rw [Int32.toBitVec_shiftRight]
  show (x.toBitVec.sshiftRight ((nI n &&& 31).toBitVec.smod 32).toNat).getLsbD i = _
  rw [s_l n hn, BitVec.getLsbD_sshiftRight, BitVec.msb_eq_getLsbD_last]
  simp [hi]
end
section
/-! the pure evaluation of a body: its pile and what it needs, in order; and what can be derived -/
/-- bodies and inputs: token, first, second, length, given -/
abbrev rq_D : Type := (Nat → Int32) × (Nat → Int32) × (Nat → Int32) × (Nat → Int32) × (Nat → Int32)
def rq_op (o x y : Int32) : Int32 := if o = 0 then x + y else if o = 1 then x - y else if o = 2 then x * y else if y ≤ x then 0 else 1
/-- what the token at i needs, if it needs something: inputs 0 .. 5, queries from 6 on -/
def rq_nx (D : rq_D) (i : Nat) (s : List Int32) : Option Nat :=
  if D.1 i = 2 then some (6 + (D.2.1 i).toNatClampNeg)
  else if D.1 i = 3 then some (6 + (if s.headD 0 = 0 then (D.2.2.1 i).toNatClampNeg else (D.2.1 i).toNatClampNeg))
  else if D.1 i = 1 then some (D.2.1 i).toNatClampNeg
  else none
def rq_tk (D : rq_D) (E : Nat → Int32) (i : Nat) (z : List Int32 × List Nat) : List Int32 × List Nat :=
  match rq_nx D i z.1 with
  | some d => (E d :: (if D.1 i = 3 then z.1.tail else z.1), z.2 ++ [d])
  | none => (if D.1 i = 0 then D.2.1 i :: z.1 else rq_op (D.2.1 i) (z.1.tail.headD 0) (z.1.headD 0) :: z.1.tail.tail, z.2)
def rq_ev (D : rq_D) (E : Nat → Int32) (b : Nat) : Nat → List Int32 × List Nat
  | 0 => ([], [])
  | p + 1 => rq_tk D E (b + p) (rq_ev D E b p)
theorem rq_tk_s {D : rq_D} {E : Nat → Int32} {i d : Nat} {z : List Int32 × List Nat} (h : rq_nx D i z.1 = some d) : rq_tk D E i z = (E d :: (if D.1 i = 3 then z.1.tail else z.1), z.2 ++ [d]) := by
  simp only [rq_tk, h]
theorem rq_tk_n {D : rq_D} {E : Nat → Int32} {i : Nat} {z : List Int32 × List Nat} (h : rq_nx D i z.1 = none) : rq_tk D E i z = (if D.1 i = 0 then D.2.1 i :: z.1 else rq_op (D.2.1 i) (z.1.tail.headD 0) (z.1.headD 0) :: z.1.tail.tail, z.2) := by
  simp only [rq_tk, h]
theorem rq_tk_m (D : rq_D) (E : Nat → Int32) (i : Nat) (z : List Int32 × List Nat) : ∃ l, (rq_tk D E i z).2 = z.2 ++ l := by
  rcases h : rq_nx D i z.1 with _ | d
  · rw [rq_tk_n h]; exact ⟨[], (List.append_nil _).symm⟩
  · rw [rq_tk_s h]; exact ⟨[d], rfl⟩
theorem rq_ev_pre (D : rq_D) (E : Nat → Int32) (b p k : Nat) : ∃ l, (rq_ev D E b (p + k)).2 = (rq_ev D E b p).2 ++ l := by
  induction k with
  | zero => exact ⟨[], (List.append_nil _).symm⟩
  | succ k ih =>
    obtain ⟨l, e⟩ := ih
    obtain ⟨l', e'⟩ := rq_tk_m D E (b + (p + k)) (rq_ev D E b (p + k))
    refine ⟨l ++ l', ?_⟩
    show (rq_tk D E (b + (p + k)) (rq_ev D E b (p + k))).2 = _
    rw [e', e, List.append_assoc]
theorem rq_ev_mem {D : rq_D} {E : Nat → Int32} {b p p' d : Nat} (h : p ≤ p') (hd : d ∈ (rq_ev D E b p).2) : d ∈ (rq_ev D E b p').2 := by
  obtain ⟨k, rfl⟩ := Nat.exists_eq_add_of_le h
  obtain ⟨l, e⟩ := rq_ev_pre D E b p k
  rw [e]
  exact List.mem_append_left _ hd
theorem rq_ev_len (D : rq_D) (E : Nat → Int32) (b p : Nat) : (rq_ev D E b p).2.length ≤ p := by
  induction p with
  | zero => exact Nat.le_refl _
  | succ p ih =>
    show (rq_tk D E (b + p) (rq_ev D E b p)).2.length ≤ p + 1
    rcases h : rq_nx D (b + p) (rq_ev D E b p).1 with _ | d
    · rw [rq_tk_n h]; exact Nat.le_succ_of_le ih
    · rw [rq_tk_s h]
      show ((rq_ev D E b p).2 ++ [d]).length ≤ p + 1
      rw [List.length_append]
      exact Nat.add_le_add_right ih 1
theorem rq_ev_in {D : rq_D} {E : Nat → Int32} {b p d : Nat} (h : rq_nx D (b + p) (rq_ev D E b p).1 = some d) : d ∈ (rq_ev D E b (p + 1)).2 := by
  show d ∈ (rq_tk D E (b + p) (rq_ev D E b p)).2
  rw [rq_tk_s h]
  exact List.mem_append_right _ (List.mem_singleton.mpr rfl)
/-- two environments that agree on what both runs need give the same run -/
theorem rq_ev_agree {D : rq_D} {E E' : Nat → Int32} {b : Nat} : ∀ {p : Nat}, (∀ d, d ∈ (rq_ev D E b p).2 → d ∈ (rq_ev D E' b p).2 → E d = E' d) → rq_ev D E b p = rq_ev D E' b p := by
  intro p
  induction p with
  | zero => intro _; rfl
  | succ p ih =>
    intro H
    have e : rq_ev D E b p = rq_ev D E' b p := ih (fun d h h' => H d (rq_ev_mem (Nat.le_succ p) h) (rq_ev_mem (Nat.le_succ p) h'))
    rcases h : rq_nx D (b + p) (rq_ev D E' b p).1 with _ | d
    · show rq_tk D E (b + p) (rq_ev D E b p) = rq_tk D E' (b + p) (rq_ev D E' b p)
      rw [e, rq_tk_n h, rq_tk_n h]
    · have h1 : E d = E' d := H d (rq_ev_in (by rw [e]; exact h)) (rq_ev_in h)
      show rq_tk D E (b + p) (rq_ev D E b p) = rq_tk D E' (b + p) (rq_ev D E' b p)
      rw [e, rq_tk_s h, rq_tk_s h, h1]
theorem rq_ev_congr {D : rq_D} {E E' : Nat → Int32} {b p : Nat} (H : ∀ d, d ∈ (rq_ev D E b p).2 → E d = E' d) : rq_ev D E' b p = rq_ev D E b p :=
  (rq_ev_agree fun d h _ => H d h).symm
/-- the i-th need stands as long as the ones ahead of it read the same -/
theorem rq_ev_nth {D : rq_D} {R E : Nat → Int32} {b i : Nat} : ∀ {p : Nat}, (∀ j, j < i → ∀ d, (rq_ev D R b p).2[j]? = some d → d ∈ (rq_ev D E b p).2 → R d = E d) → ∀ d, (rq_ev D R b p).2[i]? = some d → d ∈ (rq_ev D E b p).2 := by
  intro p
  induction p with
  | zero =>
    intro _ d hd
    have h : ([] : List Nat)[i]? = some d := hd
    simp at h
  | succ p ih =>
    intro H d hd
    obtain ⟨l, el⟩ := rq_ev_pre D R b p 1
    rcases Nat.lt_or_ge i (rq_ev D R b p).2.length with hi | hi
    · refine rq_ev_mem (Nat.le_succ p) (ih (fun j hj d' hd' hm => H j hj d' ?_ (rq_ev_mem (Nat.le_succ p) hm)) d ?_)
      · rw [el, List.getElem?_append_left (by omega)]; exact hd'
      · rw [el, List.getElem?_append_left hi] at hd; exact hd
    · rcases h : rq_nx D (b + p) (rq_ev D R b p).1 with _ | d0
      · have e2 : (rq_ev D R b (p + 1)).2 = (rq_ev D R b p).2 := by
          show (rq_tk D R (b + p) (rq_ev D R b p)).2 = _
          rw [rq_tk_n h]
        rw [e2, List.getElem?_eq_none hi] at hd
        exact absurd hd (by simp)
      · have e2 : (rq_ev D R b (p + 1)).2 = (rq_ev D R b p).2 ++ [d0] := by
          show (rq_tk D R (b + p) (rq_ev D R b p)).2 = _
          rw [rq_tk_s h]
        have hi2 : i = (rq_ev D R b p).2.length := by
          rcases Nat.lt_or_ge i ((rq_ev D R b p).2 ++ [d0]).length with z | z
          · rw [List.length_append, List.length_singleton] at z; omega
          · rw [e2, List.getElem?_eq_none z] at hd; exact absurd hd (by simp)
        have ed : d = d0 := by
          rw [e2, hi2, List.getElem?_append_right (Nat.le_refl _), Nat.sub_self] at hd
          exact (Option.some.inj hd).symm
        have ag : rq_ev D R b p = rq_ev D E b p := by
          refine rq_ev_agree fun d' h1 h2 => ?_
          obtain ⟨j, hj⟩ := List.getElem?_of_mem h1
          have hjl : j < (rq_ev D R b p).2.length := by
            rcases Nat.lt_or_ge j (rq_ev D R b p).2.length with z | z
            · exact z
            · rw [List.getElem?_eq_none z] at hj; exact absurd hj (by simp)
          refine H j (by omega) d' ?_ (rq_ev_mem (Nat.le_succ p) h2)
          rw [e2, List.getElem?_append_left hjl]; exact hj
        rw [ed]
        exact rq_ev_in (by rw [← ag]; exact h)
/-! the least fixed point: what follows from the bodies -/
def rq_L (D : rq_D) (q : Nat) : Nat := (D.2.2.2.1 q).toNatClampNeg
def rq_tr (D : rq_D) (E : Nat → Int32) (q : Nat) : List Nat := (rq_ev D E (10 * q) (rq_L D q)).2
def rq_vl (D : rq_D) (E : Nat → Int32) (q : Nat) : Int32 := (rq_ev D E (10 * q) (rq_L D q)).1.headD 0
/-- the environment reads the inputs and values in S wherever q's run asks -/
def rq_Fit (D : rq_D) (S : Nat → Int32 → Prop) (E : Nat → Int32) (q : Nat) : Prop :=
  ∀ d, d ∈ rq_tr D E q → (d < 6 → E d = D.2.2.2.2 d) ∧ (6 ≤ d → S (d - 6) (E d))
def rq_Rl (D : rq_D) (S : Nat → Int32 → Prop) (q : Nat) (v : Int32) : Prop :=
  q < 8 ∧ ∃ E : Nat → Int32, rq_Fit D S E q ∧ v = rq_vl D E q
def rq_Der (D : rq_D) (q : Nat) (v : Int32) : Prop := ∀ S : Nat → Int32 → Prop, (∀ q v, rq_Rl D S q v → S q v) → S q v
theorem rq_Fit_mono {D : rq_D} {S T : Nat → Int32 → Prop} {E : Nat → Int32} {q : Nat} (h : ∀ q v, S q v → T q v) (H : rq_Fit D S E q) : rq_Fit D T E q :=
  fun d hd => ⟨(H d hd).1, fun h6 => h _ _ ((H d hd).2 h6)⟩
theorem rq_Rl_mono {D : rq_D} {S T : Nat → Int32 → Prop} {q : Nat} {v : Int32} (h : ∀ q v, S q v → T q v) (H : rq_Rl D S q v) : rq_Rl D T q v := by
  obtain ⟨h8, E, hE, e⟩ := H
  exact ⟨h8, E, rq_Fit_mono h hE, e⟩
theorem rq_mk {D : rq_D} {q : Nat} {v : Int32} (H : rq_Rl D (rq_Der D) q v) : rq_Der D q v :=
  fun S hS => hS q v (rq_Rl_mono (fun _ _ h => h S hS) H)
theorem rq_inv {D : rq_D} {q : Nat} {v : Int32} (H : rq_Der D q v) : rq_Rl D (rq_Der D) q v :=
  H (rq_Rl D (rq_Der D)) (fun _ _ h => rq_Rl_mono (fun _ _ h => rq_mk h) h)
theorem rq_ind {D : rq_D} {P : Nat → Int32 → Prop} (hP : ∀ q v, rq_Rl D (fun q v => rq_Der D q v ∧ P q v) q v → P q v) {q : Nat} {v : Int32} (H : rq_Der D q v) : P q v :=
  (H (fun q v => rq_Der D q v ∧ P q v) (fun q v h => ⟨rq_mk (rq_Rl_mono (fun _ _ h => h.1) h), hP q v h⟩)).2
theorem rq_lt8 {D : rq_D} {q : Nat} {v : Int32} (H : rq_Der D q v) : q < 8 := (rq_inv H).1
theorem rq_det {D : rq_D} {q : Nat} {v : Int32} (H : rq_Der D q v) : ∀ v', rq_Der D q v' → v = v' := by
  refine rq_ind (P := fun q v => ∀ v', rq_Der D q v' → v = v') ?_ H
  intro q v h v' h'
  obtain ⟨_, E, hE, e⟩ := h
  obtain ⟨_, E', hE', e'⟩ := rq_inv h'
  have ag : rq_ev D E (10 * q) (rq_L D q) = rq_ev D E' (10 * q) (rq_L D q) := by
    refine rq_ev_agree fun d h1 h2 => ?_
    rcases Nat.lt_or_ge d 6 with z | z
    · rw [(hE d h1).1 z, (hE' d h2).1 z]
    · exact ((hE d h1).2 z).2 _ ((hE' d h2).2 z)
  rw [e, e', rq_vl, rq_vl, ag]
/-- q can't be derived without k -/
def rq_Must (D : rq_D) (q k : Nat) : Prop := ∀ E, rq_Fit D (rq_Der D) E q → 6 + k ∈ rq_tr D E q
theorem rq_circ {D : rq_D} {C : Nat → Prop} (H : ∀ c, C c → ∃ c', rq_Must D c c' ∧ (C c' ∨ ∀ v, ¬ rq_Der D c' v)) {c : Nat} (hc : C c) (v : Int32) : ¬ rq_Der D c v := by
  intro hd
  refine rq_ind (P := fun q _ => ¬ C q) ?_ hd hc
  intro q v h hq
  obtain ⟨_, E, hE, _⟩ := h
  obtain ⟨c', hm, hc'⟩ := H q hq
  have hF := hE (6 + c') (hm E (rq_Fit_mono (fun _ _ h => h.1) hE))
  have hx := hF.2 (by omega)
  rw [show 6 + c' - 6 = c' by omega] at hx
  rcases hc' with z | z
  · exact hx.2 z
  · exact z _ hx.1
/-- the environment E reads right wherever the first p tokens of q ask -/
def rq_Rd (D : rq_D) (E : Nat → Int32) (d : Nat) : Prop := (d < 6 → E d = D.2.2.2.2 d) ∧ (6 ≤ d → rq_Der D (d - 6) (E d))
theorem rq_Rd_eq {D : rq_D} {E E' : Nat → Int32} {d : Nat} (h : rq_Rd D E d) (h' : rq_Rd D E' d) : E d = E' d := by
  rcases Nat.lt_or_ge d 6 with z | z
  · rw [h.1 z, h'.1 z]
  · exact rq_det (h.2 z) _ (h'.2 z)
theorem rq_must_w {D : rq_D} {E : Nat → Int32} {q p k : Nat} (hp : p < rq_L D q) (hr : ∀ d, d ∈ (rq_ev D E (10 * q) p).2 → rq_Rd D E d) (hn : rq_nx D (10 * q + p) (rq_ev D E (10 * q) p).1 = some (6 + k)) : rq_Must D q k := by
  intro E' hE'
  have ag : rq_ev D E (10 * q) p = rq_ev D E' (10 * q) p := rq_ev_agree fun d h1 h2 => rq_Rd_eq (hr d h1) (hE' d (rq_ev_mem (Nat.le_of_lt hp) h2))
  exact rq_ev_mem hp (rq_ev_in (by rw [← ag]; exact hn))
theorem rq_must_c {D : rq_D} {E R : Nat → Int32} {q i k : Nat} (hr : ∀ j, j < i → ∀ d, (rq_tr D R q)[j]? = some d → E d = R d ∧ rq_Rd D E d) (hn : (rq_tr D R q)[i]? = some (6 + k)) : rq_Must D q k := by
  intro E' hE'
  refine rq_ev_nth (R := R) (fun j hj d hd hm => ?_) _ hn
  have h := hr j hj d hd
  rw [← h.1]
  exact rq_Rd_eq h.2 (hE' d hm)
theorem rq_der_of {D : rq_D} {E : Nat → Int32} {q : Nat} (h8 : q < 8) (hr : ∀ d, d ∈ rq_tr D E q → rq_Rd D E d) : rq_Der D q (rq_vl D E q) :=
  rq_mk ⟨h8, E, hr, rfl⟩
end
section
/-! well-formed bodies: heights, and what a token may need -/
def rq_ht (t : Nat → Int32) (b : Nat) : Nat → Nat
  | 0 => 0
  | p + 1 => if t (b + p) = 3 then rq_ht t b p else if t (b + p) = 4 then rq_ht t b p - 1 else rq_ht t b p + 1
theorem rq_ht_3 {t : Nat → Int32} {b p : Nat} (h : t (b + p) = 3) : rq_ht t b (p + 1) = rq_ht t b p := if_pos h
theorem rq_ht_4 {t : Nat → Int32} {b p : Nat} (h : t (b + p) = 4) : rq_ht t b (p + 1) = rq_ht t b p - 1 :=
  (if_neg (by rw [h]; decide)).trans (if_pos h)
theorem rq_ht_o {t : Nat → Int32} {b p : Nat} (h3 : t (b + p) ≠ 3) (h4 : t (b + p) ≠ 4) : rq_ht t b (p + 1) = rq_ht t b p + 1 :=
  (if_neg h3).trans (if_neg h4)
theorem rq_ht_le (t : Nat → Int32) (b p : Nat) : rq_ht t b p ≤ p := by
  induction p with
  | zero => exact Nat.le_refl _
  | succ p ih =>
    by_cases h3 : t (b + p) = 3
    · rw [rq_ht_3 h3]; omega
    · by_cases h4 : t (b + p) = 4
      · rw [rq_ht_4 h4]; omega
      · rw [rq_ht_o h3 h4]; omega
theorem rq_ht_congr {t t' : Nat → Int32} {b b' : Nat} : ∀ {p : Nat}, (∀ i, i < p → t' (b' + i) = t (b + i)) → rq_ht t' b' p = rq_ht t b p := by
  intro p
  induction p with
  | zero => intro _; rfl
  | succ p ih =>
    intro H
    have e := H p (Nat.lt_succ_self p)
    have i := ih (fun i hi => H i (by omega))
    show (if t' (b' + p) = 3 then rq_ht t' b' p else if t' (b' + p) = 4 then rq_ht t' b' p - 1 else rq_ht t' b' p + 1) = _
    rw [e, i]
    rfl
def rq_WB (t : Nat → Int32) (b L : Nat) : Prop := ∀ p, p < L → (t (b + p) = 3 → 1 ≤ rq_ht t b p) ∧ (t (b + p) = 4 → 2 ≤ rq_ht t b p)
theorem rq_WB_congr {t t' : Nat → Int32} {b b' L : Nat} (H : ∀ i, i < L → t' (b' + i) = t (b + i)) (W : rq_WB t b L) : rq_WB t' b' L := by
  intro p hp
  rw [H p hp, rq_ht_congr (fun i hi => H i (by omega))]
  exact W p hp
/-- the token at i is one of the five kinds, its operands in range -/
def rq_TX (D : rq_D) (i : Nat) : Prop :=
  D.1 i = 0 ∨ (D.1 i = 1 ∧ ∃ j, j < 6 ∧ D.2.1 i = nI j) ∨ (D.1 i = 2 ∧ ∃ j, j < 8 ∧ D.2.1 i = nI j) ∨
  (D.1 i = 3 ∧ (∃ j, j < 8 ∧ D.2.1 i = nI j) ∧ ∃ j, j < 8 ∧ D.2.2.1 i = nI j) ∨ (D.1 i = 4 ∧ ∃ o, o < 4 ∧ D.2.1 i = nI o)
def rq_BX (D : rq_D) : Prop :=
  (∀ i, i < 90 → rq_TX D i) ∧ ∀ q, q < 8 → rq_L D q ≤ 10 ∧ D.2.2.2.1 q = nI (rq_L D q) ∧ rq_WB D.1 (10 * q) (rq_L D q) ∧ rq_ht D.1 (10 * q) (rq_L D q) = 1
theorem rq_nx_0 {D : rq_D} {i : Nat} {s : List Int32} (h : D.1 i = 0) : rq_nx D i s = none := by
  unfold rq_nx
  rw [if_neg (by rw [h]; decide), if_neg (by rw [h]; decide), if_neg (by rw [h]; decide)]
theorem rq_nx_4 {D : rq_D} {i : Nat} {s : List Int32} (h : D.1 i = 4) : rq_nx D i s = none := by
  unfold rq_nx
  rw [if_neg (by rw [h]; decide), if_neg (by rw [h]; decide), if_neg (by rw [h]; decide)]
theorem rq_nx_1 {D : rq_D} {i j : Nat} {s : List Int32} (h : D.1 i = 1) (e : D.2.1 i = nI j) (hj : j < 6) : rq_nx D i s = some j := by
  unfold rq_nx
  rw [if_neg (by rw [h]; decide), if_neg (by rw [h]; decide), if_pos h, e, nI_clamp (by omega)]
theorem rq_nx_2 {D : rq_D} {i j : Nat} {s : List Int32} (h : D.1 i = 2) (e : D.2.1 i = nI j) (hj : j < 8) : rq_nx D i s = some (6 + j) := by
  unfold rq_nx
  rw [if_pos h, e, nI_clamp (by omega)]
theorem rq_nx_3t {D : rq_D} {i j : Nat} {s : List Int32} (h : D.1 i = 3) (hs : s.headD 0 = 0) (e : D.2.2.1 i = nI j) (hj : j < 8) : rq_nx D i s = some (6 + j) := by
  unfold rq_nx
  rw [if_neg (by rw [h]; decide), if_pos h, if_pos hs, e, nI_clamp (by omega)]
theorem rq_nx_3f {D : rq_D} {i j : Nat} {s : List Int32} (h : D.1 i = 3) (hs : ¬ s.headD 0 = 0) (e : D.2.1 i = nI j) (hj : j < 8) : rq_nx D i s = some (6 + j) := by
  unfold rq_nx
  rw [if_neg (by rw [h]; decide), if_pos h, if_neg hs, e, nI_clamp (by omega)]
theorem rq_nx_b {D : rq_D} {i d : Nat} {s : List Int32} (T : rq_TX D i) (h : rq_nx D i s = some d) : d < 14 := by
  rcases T with z | ⟨z, j, hj, e⟩ | ⟨z, j, hj, e⟩ | ⟨z, ⟨j, hj, e⟩, j', hj', e'⟩ | ⟨z, -⟩
  · rw [rq_nx_0 z] at h; exact absurd h (by simp)
  · rw [rq_nx_1 z e hj] at h; cases h; omega
  · rw [rq_nx_2 z e hj] at h; cases h; omega
  · by_cases hs : s.headD 0 = 0
    · rw [rq_nx_3t z hs e' hj'] at h; cases h; omega
    · rw [rq_nx_3f z hs e hj] at h; cases h; omega
  · rw [rq_nx_4 z] at h; exact absurd h (by simp)
theorem rq_ev_b {D : rq_D} {E : Nat → Int32} {b : Nat} (T : ∀ i, i < 90 → rq_TX D i) : ∀ {p : Nat}, b + p ≤ 90 → ∀ d, d ∈ (rq_ev D E b p).2 → d < 14 := by
  intro p
  induction p with
  | zero => intro _ d hd; exact absurd hd List.not_mem_nil
  | succ p ih =>
    intro hp d hd
    have hd' : d ∈ (rq_tk D E (b + p) (rq_ev D E b p)).2 := hd
    rcases h : rq_nx D (b + p) (rq_ev D E b p).1 with _ | d0
    · rw [rq_tk_n h] at hd'
      exact ih (by omega) d hd'
    · rw [rq_tk_s h] at hd'
      rcases List.mem_append.mp hd' with z | z
      · exact ih (by omega) d z
      · rw [List.mem_singleton.mp z]
        exact rq_nx_b (T _ (by omega)) h
theorem rq_ev_ht {D : rq_D} {E : Nat → Int32} {b L : Nat} (T : ∀ i, i < 90 → rq_TX D i) (hb : b + L ≤ 90) (W : rq_WB D.1 b L) : ∀ {p : Nat}, p ≤ L → (rq_ev D E b p).1.length = rq_ht D.1 b p := by
  intro p
  induction p with
  | zero => intro _; rfl
  | succ p ih =>
    intro hp
    have i := ih (by omega)
    have w := W p (by omega)
    show (rq_tk D E (b + p) (rq_ev D E b p)).1.length = _
    rcases T (b + p) (by omega) with z | ⟨z, j, hj, e⟩ | ⟨z, j, hj, e⟩ | ⟨z, ⟨j, hj, e⟩, j', hj', e'⟩ | ⟨z, -⟩
    · rw [rq_tk_n (rq_nx_0 z), rq_ht_o (by rw [z]; decide) (by rw [z]; decide), ← i]
      show List.length (if D.1 (b + p) = 0 then _ else _) = _
      rw [if_pos z, List.length_cons]
    · rw [rq_tk_s (rq_nx_1 z e hj), rq_ht_o (by rw [z]; decide) (by rw [z]; decide), ← i]
      show (E j :: (if D.1 (b + p) = 3 then _ else _)).length = _
      rw [if_neg (by rw [z]; decide), List.length_cons]
    · rw [rq_tk_s (rq_nx_2 z e hj), rq_ht_o (by rw [z]; decide) (by rw [z]; decide), ← i]
      show (E (6 + j) :: (if D.1 (b + p) = 3 then _ else _)).length = _
      rw [if_neg (by rw [z]; decide), List.length_cons]
    · have w1 := w.1 z
      rw [← i] at w1
      by_cases hs : (rq_ev D E b p).1.headD 0 = 0
      · rw [rq_tk_s (rq_nx_3t z hs e' hj'), rq_ht_3 z, ← i]
        show (E (6 + j') :: (if D.1 (b + p) = 3 then _ else _)).length = _
        rw [if_pos z, List.length_cons, List.length_tail]
        omega
      · rw [rq_tk_s (rq_nx_3f z hs e hj), rq_ht_3 z, ← i]
        show (E (6 + j) :: (if D.1 (b + p) = 3 then _ else _)).length = _
        rw [if_pos z, List.length_cons, List.length_tail]
        omega
    · have w2 := w.2 z
      rw [← i] at w2
      rw [rq_tk_n (rq_nx_4 z), rq_ht_4 z, ← i]
      show List.length (if D.1 (b + p) = 0 then _ else _) = _
      rw [if_neg (by rw [z]; decide), List.length_cons, List.length_tail, List.length_tail]
      omega
theorem rq_tr_b {D : rq_D} (B : rq_BX D) {E : Nat → Int32} {q p : Nat} (hq : q < 8) (hp : p ≤ 10) : ∀ d, d ∈ (rq_ev D E (10 * q) p).2 → d < 14 :=
  rq_ev_b B.1 (by omega)
theorem rq_tr_l {D : rq_D} (B : rq_BX D) (E : Nat → Int32) {q : Nat} (hq : q < 8) : (rq_tr D E q).length ≤ 10 :=
  Nat.le_trans (rq_ev_len D E (10 * q) (rq_L D q)) (B.2 q hq).1
theorem rq_pl_l {D : rq_D} (B : rq_BX D) (E : Nat → Int32) {q p : Nat} (hq : q < 8) (hp : p ≤ rq_L D q) : (rq_ev D E (10 * q) p).1.length = rq_ht D.1 (10 * q) p := by
  have h := B.2 q hq
  exact rq_ev_ht B.1 (by omega) h.2.2.1 hp
end
section
/-! what is remembered: the invariant of the memory -/
/-- known, stale, memo, validAt, changedAt, circularAt, steady, needCount, need -/
abbrev rq_S : Type := (Nat → Int32) × (Nat → Int32) × (Nat → Int32) × (Nat → Int32) × (Nat → Int32) × (Nat → Int32) × (Nat → Int32) × (Nat → Int32) × (Nat → Int32)
def rq_E (gv mm : Nat → Int32) (d : Nat) : Int32 := if d < 6 then gv d else mm (d - 6)
def rq_st (gt ca : Nat → Int32) (d : Nat) : Int32 := if d < 6 then gt d else ca (d - 6)
def rq_Fr (rv : Int32) (z : rq_S) (q : Nat) : Prop := z.1 q ≠ 0 ∧ z.2.1 q = 0 ∧ z.2.2.2.1 q = rv
def rq_Gd (sc : Int32) (z : rq_S) (q : Nat) : Prop := z.1 q ≠ 0 ∧ z.2.1 q = 0 ∧ z.2.2.2.2.2.2.1 q ≠ 0 ∧ sc ≤ z.2.2.2.1 q
def rq_Ok (rv sc : Int32) (z : rq_S) (q : Nat) : Prop := rq_Fr rv z q ∨ rq_Gd sc z q
def rq_NL (z : rq_S) (q : Nat) (l : List Nat) : Prop := z.2.2.2.2.2.2.2.1 q = nI l.length ∧ ∀ i d, l[i]? = some d → z.2.2.2.2.2.2.2.2 (10 * q + i) = nI d
def rq_QM (D : rq_D) (rv sc : Int32) (gt : Nat → Int32) (z : rq_S) (q : Nat) (r : Nat → Int32) : Prop :=
  rq_NL z q (rq_tr D r q) ∧ z.2.2.1 q = rq_vl D r q ∧
  (∀ d, d ∈ rq_tr D r q → rq_st gt z.2.2.2.2.1 d ≤ z.2.2.2.1 q → rq_E D.2.2.2.2 z.2.2.1 d = r d) ∧
  (rq_Ok rv sc z q → ∀ d, d ∈ rq_tr D r q → rq_E D.2.2.2.2 z.2.2.1 d = r d ∧ (6 ≤ d → rq_Ok rv sc z (d - 6))) ∧
  (rq_Gd sc z q → ∀ d, d ∈ rq_tr D r q → (d < 6 → 3 ≤ d) ∧ (6 ≤ d → rq_Gd sc z (d - 6)))
def rq_QI (D : rq_D) (rv sc : Int32) (gt : Nat → Int32) (z : rq_S) (q : Nat) : Prop :=
  (z.2.2.2.1 q ≤ rv ∧ z.2.2.2.2.1 q ≤ rv ∧ z.2.2.2.2.2.1 q ≤ rv) ∧
  (z.1 q ≠ 0 → z.2.1 q = 0 → ∃ r, rq_QM D rv sc gt z q r) ∧
  (rq_Ok rv sc z q → rq_Der D q (z.2.2.1 q)) ∧
  (z.2.2.2.2.2.1 q = rv → ∀ v, ¬ rq_Der D q v)
def rq_BI (D : rq_D) (rv sc : Int32) (gt : Nat → Int32) (z : rq_S) : Prop := ∀ q, q < 8 → rq_QI D rv sc gt z q
/-- y is z but for what is remembered of k -/
def rq_Off (z y : rq_S) (k : Nat) : Prop :=
  (∀ j, j ≠ k → y.1 j = z.1 j ∧ y.2.1 j = z.2.1 j ∧ y.2.2.1 j = z.2.2.1 j ∧ y.2.2.2.1 j = z.2.2.2.1 j ∧ y.2.2.2.2.1 j = z.2.2.2.2.1 j ∧ y.2.2.2.2.2.2.1 j = z.2.2.2.2.2.2.1 j ∧ y.2.2.2.2.2.2.2.1 j = z.2.2.2.2.2.2.2.1 j ∧ ∀ i, i < 10 → y.2.2.2.2.2.2.2.2 (10 * j + i) = z.2.2.2.2.2.2.2.2 (10 * j + i)) ∧ y.2.2.2.2.2.1 = z.2.2.2.2.2.1
section
variable {D : rq_D} {rv sc : Int32} {gt gv : Nat → Int32} {z y : rq_S} {k j q d : Nat}
theorem rq_off_Fr (H : rq_Off z y k) (h : j ≠ k) : rq_Fr rv y j ↔ rq_Fr rv z j := by
  obtain ⟨a, b, _, c, _⟩ := H.1 j h
  unfold rq_Fr
  rw [a, b, c]
theorem rq_off_Gd (H : rq_Off z y k) (h : j ≠ k) : rq_Gd sc y j ↔ rq_Gd sc z j := by
  obtain ⟨a, b, _, c, _, e, _⟩ := H.1 j h
  unfold rq_Gd
  rw [a, b, c, e]
theorem rq_off_Ok (H : rq_Off z y k) (h : j ≠ k) : rq_Ok rv sc y j ↔ rq_Ok rv sc z j := by
  unfold rq_Ok
  rw [rq_off_Fr H h, rq_off_Gd H h]
theorem rq_E_q (gv mm : Nat → Int32) (k : Nat) : rq_E gv mm (6 + k) = mm k := by
  unfold rq_E
  rw [if_neg (by omega), show 6 + k - 6 = k by omega]
theorem rq_st_q (gv mm : Nat → Int32) (k : Nat) : rq_st gv mm (6 + k) = mm k := by
  unfold rq_st
  rw [if_neg (by omega), show 6 + k - 6 = k by omega]
theorem rq_E_i (gv mm : Nat → Int32) {d : Nat} (h : d < 6) : rq_E gv mm d = gv d := if_pos h
theorem rq_st_i (gv mm : Nat → Int32) {d : Nat} (h : d < 6) : rq_st gv mm d = gv d := if_pos h
theorem rq_off_E (H : rq_Off z y k) (h : d ≠ 6 + k) : rq_E gv y.2.2.1 d = rq_E gv z.2.2.1 d := by
  unfold rq_E
  by_cases h6 : d < 6
  · rw [if_pos h6, if_pos h6]
  · rw [if_neg h6, if_neg h6]
    exact (H.1 (d - 6) (by omega)).2.2.1
theorem rq_off_st (H : rq_Off z y k) (h : d ≠ 6 + k) : rq_st gv y.2.2.2.2.1 d = rq_st gv z.2.2.2.2.1 d := by
  unfold rq_st
  by_cases h6 : d < 6
  · rw [if_pos h6, if_pos h6]
  · rw [if_neg h6, if_neg h6]
    exact (H.1 (d - 6) (by omega)).2.2.2.2.1
theorem rq_off_NL (H : rq_Off z y k) (h : j ≠ k) {l : List Nat} (hl : l.length ≤ 10) (N : rq_NL z j l) : rq_NL y j l := by
  obtain ⟨_, _, _, _, _, _, e, f⟩ := H.1 j h
  refine ⟨e.trans N.1, fun i d hd => ?_⟩
  have hi : i < l.length := by
    rcases Nat.lt_or_ge i l.length with z | z
    · exact z
    · rw [List.getElem?_eq_none z] at hd; exact absurd hd (by simp)
  exact (f i (by omega)).trans (N.2 i d hd)
/-- what may happen to k, so that all others keep their invariant -/
def rq_Ch (rv sc : Int32) (z y : rq_S) (k : Nat) : Prop :=
  (¬ rq_Ok rv sc z k ∧ ((y.2.2.1 k = z.2.2.1 k ∧ y.2.2.2.2.1 k = z.2.2.2.2.1 k) ∨ y.2.2.2.2.1 k = rv)) ∨ (rq_Gd sc y k ∧ y.2.2.1 k = z.2.2.1 k ∧ y.2.2.2.2.1 k = z.2.2.2.2.1 k)
theorem rq_off_QI (X : rq_BX D) (H : rq_Off z y k) (B : rq_BI D rv sc gt z) (hc : rq_Ch rv sc z y k) (hq : q < 8) (hk : q ≠ k) : rq_QI D rv sc gt y q := by
  obtain ⟨⟨v1, v2, v3⟩, hm, ho, hci⟩ := B q hq
  obtain ⟨ekn, esl, emm, eva, eca, esd, enc, end_⟩ := H.1 q hk
  have same : ∀ d, d = 6 + k → (y.2.2.1 k = z.2.2.1 k ∧ y.2.2.2.2.1 k = z.2.2.2.2.1 k) → rq_E D.2.2.2.2 y.2.2.1 d = rq_E D.2.2.2.2 z.2.2.1 d ∧ rq_st gt y.2.2.2.2.1 d = rq_st gt z.2.2.2.2.1 d := by
    intro d hd e
    rw [hd, rq_E_q, rq_E_q, rq_st_q, rq_st_q]
    exact e
  refine ⟨⟨by rw [eva]; exact v1, by rw [eca]; exact v2, by rw [H.2]; exact v3⟩, ?_, ?_, by rw [H.2]; exact hci⟩
  · intro h1 h2
    obtain ⟨r, n1, n2, n3, n4, n5⟩ := hm (by rw [← ekn]; exact h1) (by rw [← esl]; exact h2)
    refine ⟨r, rq_off_NL H hk (rq_tr_l X r hq) n1, by rw [emm]; exact n2, ?_, ?_, ?_⟩
    · intro d hd hs
      rw [eva] at hs
      by_cases hdk : d = 6 + k
      · rcases hc with ⟨hn, e | e⟩ | ⟨_, e⟩
        · rw [(same d hdk e).1]
          rw [(same d hdk e).2] at hs
          exact n3 d hd hs
        · exfalso
          rw [hdk, rq_st_q, e] at hs
          have hf : rq_Fr rv z q := ⟨by rw [← ekn]; exact h1, by rw [← esl]; exact h2, Int32.le_antisymm v1 hs⟩
          have := (n4 (Or.inl hf) d hd).2 (by omega)
          rw [hdk, show 6 + k - 6 = k by omega] at this
          exact hn this
        · rw [(same d hdk e).1]
          rw [(same d hdk e).2] at hs
          exact n3 d hd hs
      · rw [rq_off_E H hdk]
        rw [rq_off_st H hdk] at hs
        exact n3 d hd hs
    · intro hok d hd
      obtain ⟨a, b⟩ := n4 ((rq_off_Ok H hk).mp hok) d hd
      by_cases hdk : d = 6 + k
      · have b' := b (by omega)
        rw [hdk, show 6 + k - 6 = k by omega] at b'
        rcases hc with ⟨hn, _⟩ | ⟨hg, e⟩
        · exact absurd b' hn
        · rw [(same d hdk e).1]
          refine ⟨a, fun _ => ?_⟩
          rw [hdk, show 6 + k - 6 = k by omega]
          exact Or.inr hg
      · rw [rq_off_E H hdk]
        exact ⟨a, fun h6 => (rq_off_Ok H (by omega)).mpr (b h6)⟩
    · intro hgd d hd
      obtain ⟨a, b⟩ := n5 ((rq_off_Gd H hk).mp hgd) d hd
      refine ⟨a, fun h6 => ?_⟩
      have b' := b h6
      by_cases hdk : d = 6 + k
      · rw [hdk, show 6 + k - 6 = k by omega] at b' ⊢
        rcases hc with ⟨hn, _⟩ | ⟨hg, _⟩
        · exact absurd (Or.inr b') hn
        · exact hg
      · exact (rq_off_Gd H (by omega)).mpr b'
  · intro hok
    rw [emm]
    exact ho ((rq_off_Ok H hk).mp hok)
theorem rq_off_BI (X : rq_BX D) (H : rq_Off z y k) (B : rq_BI D rv sc gt z) (hc : rq_Ch rv sc z y k) (hk : rq_QI D rv sc gt y k) : rq_BI D rv sc gt y := by
  intro q hq
  by_cases h : q = k
  · rw [h]; exact hk
  · exact rq_off_QI X H B hc hq h
/-- what is fresh is read right -/
theorem rq_rd (B : rq_BI D rv sc gt z) (hd : d < 14) (hf : 6 ≤ d → rq_Fr rv z (d - 6)) : rq_Rd D (rq_E D.2.2.2.2 z.2.2.1) d := by
  refine ⟨fun h => rq_E_i _ _ h, fun h => ?_⟩
  have := (B (d - 6) (by omega)).2.2.1 (Or.inl (hf h))
  unfold rq_E
  rw [if_neg (by omega)]
  exact this
end
/-! work under way: query, works, position, its share of the pile -/
abbrev rq_F : Type := Nat × Bool × Nat × List Int32
def rq_FW (D : rq_D) (rv : Int32) (z : rq_S) (q p : Nat) (s : List Int32) : Prop :=
  z.2.1 q ≠ 0 ∧ p ≤ rq_L D q ∧ s = (rq_ev D (rq_E D.2.2.2.2 z.2.2.1) (10 * q) p).1 ∧ rq_NL z q (rq_ev D (rq_E D.2.2.2.2 z.2.2.1) (10 * q) p).2 ∧
  ∀ d, d ∈ (rq_ev D (rq_E D.2.2.2.2 z.2.2.1) (10 * q) p).2 → 6 ≤ d → rq_Fr rv z (d - 6)
def rq_FC (rv : Int32) (gt : Nat → Int32) (z : rq_S) (q p : Nat) (s : List Int32) : Prop :=
  z.1 q ≠ 0 ∧ z.2.1 q = 0 ∧ s = [] ∧ (∃ c, z.2.2.2.2.2.2.2.1 q = nI c ∧ p ≤ c ∧ c ≤ 10) ∧
  ∀ i, i < p → ∀ d, d < 14 → z.2.2.2.2.2.2.2.2 (10 * q + i) = nI d → rq_st gt z.2.2.2.2.1 d ≤ z.2.2.2.1 q ∧ (6 ≤ d → rq_Fr rv z (d - 6))
def rq_FO (D : rq_D) (rv sc : Int32) (gt : Nat → Int32) (z : rq_S) (x : rq_F) : Prop :=
  x.1 < 8 ∧ ¬ rq_Ok rv sc z x.1 ∧ (x.2.1 = true → rq_FW D rv z x.1 x.2.2.1 x.2.2.2) ∧ (x.2.1 = false → rq_FC rv gt z x.1 x.2.2.1 x.2.2.2)
/-- x waits for k -/
def rq_AW (D : rq_D) (z : rq_S) (x : rq_F) (k : Nat) : Prop :=
  k < 8 ∧ (x.2.1 = true → x.2.2.1 < rq_L D x.1 ∧ rq_nx D (10 * x.1 + x.2.2.1) x.2.2.2 = some (6 + k)) ∧
  (x.2.1 = false → ∃ c, z.2.2.2.2.2.2.2.1 x.1 = nI c ∧ x.2.2.1 < c ∧ c ≤ 10 ∧ z.2.2.2.2.2.2.2.2 (10 * x.1 + x.2.2.1) = nI (6 + k))
def rq_CH (D : rq_D) (z : rq_S) : Nat → List rq_F → Prop
  | _, [] => True
  | k, x :: r => rq_AW D z x k ∧ rq_CH D z x.1 r
def rq_CT (D : rq_D) (z : rq_S) : List rq_F → Prop
  | [] => True
  | x :: r => rq_CH D z x.1 r
def rq_qs (K : List rq_F) : List Nat := K.map (fun x => x.1)
def rq_SK (D : rq_D) (rv sc : Int32) (gt : Nat → Int32) (z : rq_S) (K : List rq_F) : Prop :=
  (∀ x, x ∈ K → rq_FO D rv sc gt z x) ∧ (rq_qs K).Nodup ∧ rq_CT D z K
section
variable {D : rq_D} {rv sc : Int32} {gt gv : Nat → Int32} {z y : rq_S} {k j q d : Nat}
theorem rq_off_FO {x : rq_F} (X : rq_BX D) (H : rq_Off z y k) (hk : ¬ rq_Fr rv z k) (hx : x.1 ≠ k) (F : rq_FO D rv sc gt z x) : rq_FO D rv sc gt y x := by
  obtain ⟨h8, hn, hw, hc⟩ := F
  obtain ⟨ekn, esl, emm, eva, eca, esd, enc, end_⟩ := H.1 x.1 hx
  have fr : ∀ d, 6 ≤ d → rq_Fr rv z (d - 6) → d ≠ 6 + k ∧ rq_Fr rv y (d - 6) := by
    intro d h6 hf
    have : d ≠ 6 + k := by
      intro e
      rw [e, show 6 + k - 6 = k by omega] at hf
      exact hk hf
    exact ⟨this, (rq_off_Fr H (by omega)).mpr hf⟩
  refine ⟨h8, fun h => hn ((rq_off_Ok H hx).mp h), fun h => ?_, fun h => ?_⟩
  · obtain ⟨a, b, c, e, f⟩ := hw h
    have ag : rq_ev D (rq_E D.2.2.2.2 y.2.2.1) (10 * x.1) x.2.2.1 = rq_ev D (rq_E D.2.2.2.2 z.2.2.1) (10 * x.1) x.2.2.1 := by
      refine rq_ev_congr fun d hd => ?_
      by_cases h6 : 6 ≤ d
      · exact (rq_off_E H (fr d h6 (f d hd h6)).1).symm
      · exact (rq_off_E H (by omega)).symm
    unfold rq_FW
    rw [ag]
    refine ⟨by rw [esl]; exact a, b, c, rq_off_NL H hx (Nat.le_trans (rq_ev_len _ _ _ _) (Nat.le_trans b (X.2 _ h8).1)) e, fun d hd h6 => (fr d h6 (f d hd h6)).2⟩
  · obtain ⟨a, b, c, ⟨n, e1, e2, e3⟩, f⟩ := hc h
    refine ⟨by rw [ekn]; exact a, by rw [esl]; exact b, c, ⟨n, enc.trans e1, e2, e3⟩, fun i hi d hd hnd => ?_⟩
    rw [end_ i (by omega)] at hnd
    obtain ⟨g1, g2⟩ := f i hi d hd hnd
    rw [eva]
    by_cases h6 : 6 ≤ d
    · rw [rq_off_st H (fr d h6 (g2 h6)).1]
      exact ⟨g1, fun h => (fr d h (g2 h)).2⟩
    · rw [rq_off_st H (by omega)]
      exact ⟨g1, fun h => absurd h h6⟩
theorem rq_off_AW {x : rq_F} (H : rq_Off z y k) (hx : x.1 ≠ k) (A : rq_AW D z x j) : rq_AW D y x j := by
  obtain ⟨ekn, esl, emm, eva, eca, esd, enc, end_⟩ := H.1 x.1 hx
  refine ⟨A.1, A.2.1, fun h => ?_⟩
  obtain ⟨c, a1, a2, a3, a4⟩ := A.2.2 h
  exact ⟨c, enc.trans a1, a2, a3, (end_ _ (by omega)).trans a4⟩
theorem rq_off_CH (H : rq_Off z y k) : ∀ {r : List rq_F} {j : Nat}, (∀ x, x ∈ r → x.1 ≠ k) → rq_CH D z j r → rq_CH D y j r
  | [], _, _, _ => trivial
  | x :: r, _, h, c => ⟨rq_off_AW H (h x List.mem_cons_self) c.1, rq_off_CH H (fun x' hx' => h x' (List.mem_cons_of_mem _ hx')) c.2⟩
theorem rq_notin {x : rq_F} {K : List rq_F} (h : k ∉ rq_qs K) (hx : x ∈ K) : x.1 ≠ k :=
  fun e => h (by rw [← e]; exact List.mem_map_of_mem hx)
/-- the frames below the top one keep, whatever happens to the top one's query -/
theorem rq_off_rest {x : rq_F} {r : List rq_F} (X : rq_BX D) (H : rq_Off z y x.1) (K : rq_SK D rv sc gt z (x :: r)) : (∀ x', x' ∈ r → rq_FO D rv sc gt y x') ∧ (rq_qs r).Nodup ∧ x.1 ∉ rq_qs r ∧ rq_CH D y x.1 r := by
  obtain ⟨hF, hN, hC⟩ := K
  have hN' : x.1 ∉ rq_qs r ∧ (rq_qs r).Nodup := List.nodup_cons.mp hN
  have hx := hF x List.mem_cons_self
  exact ⟨fun x' h' => rq_off_FO X H (fun h => hx.2.1 (Or.inl h)) (rq_notin hN'.1 h') (hF x' (List.mem_cons_of_mem _ h')), hN'.2, hN'.1, rq_off_CH H (fun x' h' => rq_notin hN'.1 h') hC⟩
theorem rq_CH_CT : ∀ {r : List rq_F} {j : Nat}, rq_CH D z j r → rq_CT D z r
  | [], _, _ => trivial
  | _ :: _, _, c => c.2
theorem rq_must {x : rq_F} (X : rq_BX D) (B : rq_BI D rv sc gt z) (F : rq_FO D rv sc gt z x) (A : rq_AW D z x k) : rq_Must D x.1 k := by
  obtain ⟨h8, hn, hw, hc⟩ := F
  rcases hb : x.2.1 with _ | _
  · obtain ⟨a, b, c, ⟨n, e1, e2, e3⟩, f⟩ := hc hb
    obtain ⟨n', a1, a2, a3, a4⟩ := A.2.2 hb
    obtain ⟨r, n1, n2, n3, n4, n5⟩ := (B x.1 h8).2.1 a b
    have hl := rq_tr_l X r h8
    have hlen : n' = (rq_tr D r x.1).length := (nI_eq (by omega) (by omega)).mp (a1.symm.trans n1.1)
    have hb' : ∀ i d, (rq_tr D r x.1)[i]? = some d → d ∈ rq_tr D r x.1 ∧ d < 14 := fun i d h => ⟨List.mem_of_getElem? h, rq_tr_b X h8 (X.2 _ h8).1 d (List.mem_of_getElem? h)⟩
    have hp : x.2.2.1 < (rq_tr D r x.1).length := by omega
    have hg : (rq_tr D r x.1)[x.2.2.1]? = some ((rq_tr D r x.1)[x.2.2.1]) := List.getElem?_eq_getElem hp
    have hk8 : (rq_tr D r x.1)[x.2.2.1] = 6 + k :=
      (nI_eq (by have := (hb' _ _ hg).2; omega) (by have := A.1; omega)).mp ((n1.2 _ _ hg).symm.trans a4)
    refine rq_must_c (E := rq_E D.2.2.2.2 z.2.2.1) (R := r) (i := x.2.2.1) (fun i hi d hd => ?_) (by rw [hg, hk8])
    obtain ⟨d1, d2⟩ := hb' i d hd
    obtain ⟨f1, f2⟩ := f i hi d d2 (n1.2 i d hd)
    exact ⟨n3 d d1 f1, rq_rd B d2 f2⟩
  · obtain ⟨a, b, c, e, f⟩ := hw hb
    obtain ⟨a1, a2⟩ := A.2.1 hb
    rw [c] at a2
    have hp10 : x.2.2.1 ≤ 10 := Nat.le_trans b (X.2 _ h8).1
    exact rq_must_w a1 (fun d hd => rq_rd B (rq_tr_b X h8 hp10 d hd) (f d hd)) a2
end
end
section
/-! the run: what each step keeps -/
section
variable {D : rq_D} {rv sc : Int32} {gt gv : Nat → Int32} {z y : rq_S} {k j q d root : Nat}
theorem rq_CH_must (X : rq_BX D) (B : rq_BI D rv sc gt z) : ∀ {r : List rq_F} {j : Nat}, (∀ x, x ∈ r → rq_FO D rv sc gt z x) → rq_CH D z j r → ∀ x, x ∈ r → ∃ c', rq_Must D x.1 c' ∧ (c' = j ∨ c' ∈ rq_qs r)
  | [], _, _, _, _, h => absurd h List.not_mem_nil
  | x :: r, j, hF, c, x', h' => by
    rcases List.mem_cons.mp h' with e | e
    · rw [e]
      exact ⟨j, rq_must X B (hF x List.mem_cons_self) c.1, Or.inl rfl⟩
    · obtain ⟨c', m, o⟩ := rq_CH_must X B (fun y hy => hF y (List.mem_cons_of_mem _ hy)) c.2 x' e
      refine ⟨c', m, Or.inr ?_⟩
      show c' ∈ x.1 :: rq_qs r
      rcases o with o | o
      · rw [o]; exact List.mem_cons_self
      · exact List.mem_cons_of_mem _ o
/-- a request that meets a waiting or a circular query: all that is under way is circular -/
theorem rq_fail {K : List rq_F} (X : rq_BX D) (B : rq_BI D rv sc gt z) (S : rq_SK D rv sc gt z K) (hA : ∀ x r, K = x :: r → rq_AW D z x k) (hk : k < 8) (h : k ∈ rq_qs K ∨ z.2.2.2.2.2.1 k = rv) : (∀ x, x ∈ K → ∀ v, ¬ rq_Der D x.1 v) ∧ ∀ v, ¬ rq_Der D k v := by
  have hn : ∀ x, x ∈ K → ∃ c', rq_Must D x.1 c' ∧ (c' = k ∨ c' ∈ rq_qs K) := by
    cases K with
    | nil => intro x h; exact absurd h List.not_mem_nil
    | cons x r =>
      intro x' h'
      rcases List.mem_cons.mp h' with e | e
      · rw [e]
        exact ⟨k, rq_must X B (S.1 x List.mem_cons_self) (hA x r rfl), Or.inl rfl⟩
      · obtain ⟨c', m, o⟩ := rq_CH_must X B (fun y hy => S.1 y (List.mem_cons_of_mem _ hy)) S.2.2 x' e
        refine ⟨c', m, Or.inr ?_⟩
        show c' ∈ x.1 :: rq_qs r
        rcases o with o | o
        · rw [o]; exact List.mem_cons_self
        · exact List.mem_cons_of_mem _ o
  have hC : ∀ c, c ∈ rq_qs K → ∃ c', rq_Must D c c' ∧ (c' ∈ rq_qs K ∨ ∀ v, ¬ rq_Der D c' v) := by
    intro c hc
    obtain ⟨x, hx, e⟩ := List.mem_map.mp hc
    obtain ⟨c', m, o⟩ := hn x hx
    refine ⟨c', by rw [← e]; exact m, ?_⟩
    rcases o with o | o
    · rcases h with h | h
      · rw [o]; exact Or.inl h
      · rw [o]; exact Or.inr ((B k hk).2.2.2 h)
    · exact Or.inl o
  have hall : ∀ c, c ∈ rq_qs K → ∀ v, ¬ rq_Der D c v := fun c hc v => rq_circ (C := fun c => c ∈ rq_qs K) hC hc v
  refine ⟨fun x hx => hall _ (List.mem_map_of_mem hx), ?_⟩
  rcases h with h | h
  · exact hall k h
  · exact (B k hk).2.2.2 h
def rq_UC (rv : Int32) (z : rq_S) (K : List rq_F) (U : List Nat) : Prop := (∀ q, q < 8 → ¬ rq_Fr rv z q → q ∉ rq_qs K → q ∈ U) ∧ K.length + U.length ≤ 8
def rq_RT (rv : Int32) (z : rq_S) (root : Nat) (K : List rq_F) : Prop := (∃ l, rq_qs K = l ++ [root]) ∨ (K = [] ∧ rq_Fr rv z root)
def rq_w (x : rq_F) : Nat := if x.2.1 = true then 11 - x.2.2.1 else 22 - x.2.2.1
def rq_ws : List rq_F → Nat
  | [] => 0
  | x :: r => rq_w x + rq_ws r
def rq_RI (D : rq_D) (rv sc : Int32) (gt : Nat → Int32) (root : Nat) (z : rq_S) (K : List rq_F) (U : List Nat) : Prop :=
  rq_BI D rv sc gt z ∧ rq_SK D rv sc gt z K ∧ rq_UC rv z K U ∧ rq_RT rv z root K
theorem rq_off_refl (z : rq_S) (k : Nat) : rq_Off z z k := ⟨fun _ _ => ⟨rfl, rfl, rfl, rfl, rfl, rfl, rfl, fun _ _ => rfl⟩, rfl⟩
theorem rq_pop {x : rq_F} {r : List rq_F} {U : List Nat} (X : rq_BX D) (R : rq_RI D rv sc gt root z (x :: r) U) (H : rq_Off z y x.1) (B' : rq_BI D rv sc gt y) (hf : rq_Fr rv y x.1) : rq_RI D rv sc gt root y r U := by
  obtain ⟨B, S, ⟨u1, u2⟩, T⟩ := R
  obtain ⟨f, n, m, c⟩ := rq_off_rest X H S
  refine ⟨B', ⟨f, n, rq_CH_CT c⟩, ⟨fun q hq hn hk => ?_, by rw [List.length_cons] at u2; omega⟩, ?_⟩
  · have hx : q ≠ x.1 := fun e => hn (by rw [e]; exact hf)
    refine u1 q hq (fun h => hn ((rq_off_Fr H hx).mpr h)) (fun h => ?_)
    have h' : q ∈ x.1 :: rq_qs r := h
    rcases List.mem_cons.mp h' with e | e
    · exact hx e
    · exact hk e
  · rcases T with ⟨l, e⟩ | ⟨e, _⟩
    · cases l with
      | nil =>
        have e' : x.1 :: rq_qs r = [root] := e
        obtain ⟨e1, e2⟩ := List.cons.inj e'
        exact Or.inr ⟨List.map_eq_nil_iff.mp e2, by rw [← e1]; exact hf⟩
      | cons a l =>
        have e' : x.1 :: rq_qs r = a :: (l ++ [root]) := e
        exact Or.inl ⟨l, (List.cons.inj e').2⟩
    · exact absurd e (by simp)
theorem rq_same {x x' : rq_F} {r : List rq_F} {U : List Nat} (X : rq_BX D) (R : rq_RI D rv sc gt root z (x :: r) U) (H : rq_Off z y x.1) (B' : rq_BI D rv sc gt y) (hx : x'.1 = x.1) (F : rq_FO D rv sc gt y x') : rq_RI D rv sc gt root y (x' :: r) U := by
  obtain ⟨B, S, ⟨u1, u2⟩, T⟩ := R
  obtain ⟨f, n, m, c⟩ := rq_off_rest X H S
  have eq : rq_qs (x' :: r) = rq_qs (x :: r) := by
    show x'.1 :: rq_qs r = x.1 :: rq_qs r
    rw [hx]
  refine ⟨B', ⟨fun x0 h0 => ?_, by rw [eq]; exact S.2.1, ?_⟩, ⟨fun q hq hn hk => ?_, u2⟩, ?_⟩
  · rcases List.mem_cons.mp h0 with e | e
    · rw [e]; exact F
    · exact f x0 e
  · show rq_CH D y x'.1 r
    rw [hx]; exact c
  · rw [eq] at hk
    have hx : q ≠ x.1 := fun e => hk (by rw [e]; exact List.mem_cons_self)
    exact u1 q hq (fun h => hn ((rq_off_Fr H hx).mpr h)) hk
  · rcases T with ⟨l, e⟩ | ⟨e, _⟩
    · exact Or.inl ⟨l, eq.trans e⟩
    · exact absurd e (by simp)
theorem rq_pushed {K : List rq_F} {U : List Nat} {w : Bool} (X : rq_BX D) (S : rq_SK D rv sc gt z K) (C : rq_UC rv z K U) (T : (∃ l, rq_qs K = l ++ [root]) ∨ (K = [] ∧ k = root)) (hA : ∀ x r, K = x :: r → rq_AW D z x k) (hk : k < 8) (hn : ¬ rq_Fr rv z k) (hK : k ∉ rq_qs K) (H : rq_Off z y k) (B' : rq_BI D rv sc gt y) (F : rq_FO D rv sc gt y (k, w, 0, [])) : rq_RI D rv sc gt root y ((k, w, 0, []) :: K) (U.erase k) ∧ (U.erase k).length + 1 = U.length ∧ K.length < 8 := by
  obtain ⟨u1, u2⟩ := C
  have hU : k ∈ U := u1 k hk hn hK
  have hpos : 0 < U.length := List.length_pos_of_mem hU
  have hl : (U.erase k).length + 1 = U.length := by rw [List.length_erase_of_mem hU]; omega
  refine ⟨⟨B', ⟨fun x0 h0 => ?_, List.nodup_cons.mpr ⟨hK, S.2.1⟩, ?_⟩, ⟨fun q hq hf hk' => ?_, by rw [List.length_cons]; omega⟩, ?_⟩, hl, by omega⟩
  · rcases List.mem_cons.mp h0 with e | e
    · rw [e]; exact F
    · exact rq_off_FO X H hn (rq_notin hK e) (S.1 x0 e)
  · show rq_CH D y k K
    cases K with
    | nil => exact trivial
    | cons x r => exact rq_off_CH H (fun x0 h0 => rq_notin hK h0) ⟨hA x r rfl, S.2.2⟩
  · have hk'' : q ∉ k :: rq_qs K := hk'
    have hqk : q ≠ k := fun e => hk'' (by rw [e]; exact List.mem_cons_self)
    exact (List.mem_erase_of_ne hqk).mpr (u1 q hq (fun h => hf ((rq_off_Fr H hqk).mpr h)) (fun h => hk'' (List.mem_cons_of_mem _ h)))
  · rcases T with ⟨l, e⟩ | ⟨e, e'⟩
    · exact Or.inl ⟨k :: l, by show k :: rq_qs K = _; rw [e]; rfl⟩
    · exact Or.inl ⟨[], by rw [e, ← e']; rfl⟩
theorem rq_short {K : List rq_F} {U : List Nat} (X : rq_BX D) (S : rq_SK D rv sc gt z K) (C : rq_UC rv z K U) (T : (∃ l, rq_qs K = l ++ [root]) ∨ (K = [] ∧ k = root)) (hk : k < 8) (hn : ¬ rq_Fr rv z k) (hK : k ∉ rq_qs K) (H : rq_Off z y k) (B' : rq_BI D rv sc gt y) (hf : rq_Fr rv y k) : rq_RI D rv sc gt root y K (U.erase k) ∧ (U.erase k).length + 1 = U.length := by
  obtain ⟨u1, u2⟩ := C
  have hU : k ∈ U := u1 k hk hn hK
  have hpos : 0 < U.length := List.length_pos_of_mem hU
  have hl : (U.erase k).length + 1 = U.length := by rw [List.length_erase_of_mem hU]; omega
  refine ⟨⟨B', ⟨fun x0 h0 => rq_off_FO X H hn (rq_notin hK h0) (S.1 x0 h0), S.2.1, ?_⟩, ⟨fun q hq hfq hk' => ?_, by omega⟩, ?_⟩, hl⟩
  · cases K with
    | nil => exact trivial
    | cons x r => exact rq_off_CH H (fun x0 h0 => rq_notin hK (List.mem_cons_of_mem _ h0)) S.2.2
  · have hqk : q ≠ k := fun e => hfq (by rw [e]; exact hf)
    exact (List.mem_erase_of_ne hqk).mpr (u1 q hq (fun h => hfq ((rq_off_Fr H hqk).mpr h)) hk')
  · rcases T with T | ⟨e, e'⟩
    · exact Or.inl T
    · exact Or.inr ⟨e, by rw [← e']; exact hf⟩
end
section
variable {D : rq_D} {rv sc : Int32} {gt kn sl mm va ca ci sd nc nd : Nat → Int32} {k q p root : Nat} {s : List Int32} {r : List rq_F} {U : List Nat}
theorem rq_Rd_r {E R : Nat → Int32} {d : Nat} (h : rq_Rd D E d) (e : E d = R d) : rq_Rd D R d := by
  unfold rq_Rd
  rw [← e]
  exact h
/-- a check that has come to its end -/
theorem rq_p_cend {b : Int32} (X : rq_BX D) (hsc : sc ≤ rv) (R : rq_RI D rv sc gt root (kn, sl, mm, va, ca, ci, sd, nc, nd) ((q, false, p, s) :: r) U) (hp : nc q = nI p) (hp10 : p ≤ 10) (hb : b ≠ 0 → ∀ i, i < p → ∀ d, d < 14 → nd (10 * q + i) = nI d → (d < 6 → 3 ≤ d) ∧ (6 ≤ d → sd (d - 6) ≠ 0)) : rq_RI D rv sc gt root (kn, sl, mm, upd va q rv, ca, ci, upd sd q b, nc, nd) r U := by
  obtain ⟨h8, hn, _, hc⟩ := R.2.1.1 _ List.mem_cons_self
  obtain ⟨a, b', c, ⟨n, e1, e2, e3⟩, f⟩ := hc rfl
  dsimp only at h8 hn a b' c e1 e2 f
  obtain ⟨⟨v1, v2, v3⟩, hm, ho, hci⟩ := R.1 q h8
  obtain ⟨r0, n1, n2, n3, n4, n5⟩ := hm a b'
  have hOff : rq_Off (kn, sl, mm, va, ca, ci, sd, nc, nd) (kn, sl, mm, upd va q rv, ca, ci, upd sd q b, nc, nd) q := ⟨fun j hj => ⟨rfl, rfl, rfl, pk_un hj, rfl, pk_un hj, rfl, fun _ _ => rfl⟩, rfl⟩
  have hl := rq_tr_l X r0 h8
  have hlen : p = (rq_tr D r0 q).length := (nI_eq (by omega) (by omega)).mp (hp.symm.trans n1.1)
  have hd : ∀ d, d ∈ rq_tr D r0 q → d < 14 ∧ ∃ i, i < p ∧ nd (10 * q + i) = nI d := by
    intro d hd
    obtain ⟨i, hi⟩ := List.getElem?_of_mem hd
    refine ⟨rq_tr_b X h8 (X.2 _ h8).1 d hd, i, ?_, n1.2 i d hi⟩
    rcases Nat.lt_or_ge i (rq_tr D r0 q).length with w | w
    · omega
    · rw [List.getElem?_eq_none w] at hi; exact absurd hi (by simp)
  have hall : ∀ d, d ∈ rq_tr D r0 q → rq_E D.2.2.2.2 mm d = r0 d ∧ (6 ≤ d → rq_Fr rv (kn, sl, mm, va, ca, ci, sd, nc, nd) (d - 6)) := by
    intro d hdm
    obtain ⟨h14, i, hi, e⟩ := hd d hdm
    obtain ⟨f1, f2⟩ := f i hi d h14 e
    exact ⟨n3 d hdm f1, f2⟩
  have hne : ∀ d, d ∈ rq_tr D r0 q → 6 ≤ d → d - 6 ≠ q := fun d hdm h6 e => hn (Or.inl (by rw [← e]; exact (hall d hdm).2 h6))
  have hfy : rq_Fr rv (kn, sl, mm, upd va q rv, ca, ci, upd sd q b, nc, nd) q := ⟨a, b', pk_us⟩
  have der : rq_Der D q (mm q) := by
    show rq_Der D q (mm q)
    have n2' : mm q = rq_vl D r0 q := n2
    rw [n2']
    exact rq_der_of h8 (fun d hdm => rq_Rd_r (rq_rd R.1 (hd d hdm).1 (hall d hdm).2) (hall d hdm).1)
  refine rq_pop X R hOff (rq_off_BI X hOff R.1 (Or.inl ⟨hn, Or.inl ⟨rfl, rfl⟩⟩) ?_) hfy
  refine ⟨⟨?_, v2, v3⟩, fun _ _ => ⟨r0, n1, n2, fun d hdm _ => (hall d hdm).1, fun _ d hdm => ⟨(hall d hdm).1, fun h6 => Or.inl ((rq_off_Fr hOff (hne d hdm h6)).mpr ((hall d hdm).2 h6))⟩, fun hg d hdm => ?_⟩, fun _ => der, hci⟩
  · show upd va q rv q ≤ rv
    rw [pk_us]
    exact Int32.le_refl rv
  · have hg' : upd sd q b q ≠ 0 := hg.2.2.1
    rw [pk_us] at hg'
    obtain ⟨h14, i, hi, e⟩ := hd d hdm
    obtain ⟨g1, g2⟩ := hb hg' i hi d h14 e
    refine ⟨g1, fun h6 => ?_⟩
    obtain ⟨w1, w2, w3⟩ := (hall d hdm).2 h6
    have hq := hne d hdm h6
    refine ⟨w1, w2, ?_, ?_⟩
    · show upd sd q b (d - 6) ≠ 0
      rw [pk_un hq]; exact g2 h6
    · show sc ≤ upd va q rv (d - 6)
      have w3' : va (d - 6) = rv := w3
      rw [pk_un hq, w3']; exact hsc
/-- a check that goes on -/
theorem rq_p_cadv {c d : Nat} (X : rq_BX D) (R : rq_RI D rv sc gt root (kn, sl, mm, va, ca, ci, sd, nc, nd) ((q, false, p, s) :: r) U) (hc : nc q = nI c) (hp : p < c) (h10 : c ≤ 10) (hd : d < 14) (hnd : nd (10 * q + p) = nI d) (hst : rq_st gt ca d ≤ va q) (hf : 6 ≤ d → rq_Fr rv (kn, sl, mm, va, ca, ci, sd, nc, nd) (d - 6)) : rq_RI D rv sc gt root (kn, sl, mm, va, ca, ci, sd, nc, nd) ((q, false, p + 1, s) :: r) U := by
  obtain ⟨h8, hn, _, hfc⟩ := R.2.1.1 _ List.mem_cons_self
  obtain ⟨a, b', e0, _, f⟩ := hfc rfl
  refine rq_same X R (rq_off_refl _ _) R.1 rfl ⟨h8, hn, fun h => absurd h (by simp), fun _ => ⟨a, b', e0, ⟨c, hc, hp, h10⟩, fun i hi d' hd' hnd' => ?_⟩⟩
  rcases Nat.lt_or_ge i p with w | w
  · exact f i w d' hd' hnd'
  · have ei : i = p := by
      have : i < p + 1 := hi
      omega
    rw [ei] at hnd'
    have ed : d' = d := (nI_eq (by omega) (by omega)).mp (hnd'.symm.trans hnd)
    rw [ed]
    exact ⟨hst, hf⟩
theorem rq_start_Off : rq_Off (kn, sl, mm, va, ca, ci, sd, nc, nd) (kn, upd sl k 1, mm, va, ca, ci, sd, upd nc k 0, nd) k := ⟨fun j hj => ⟨rfl, pk_un hj, rfl, rfl, rfl, rfl, pk_un hj, fun _ _ => rfl⟩, rfl⟩
theorem rq_start_sl : upd sl k 1 k ≠ 0 := by
  rw [pk_us]; decide
theorem rq_start_nOk : ¬ rq_Ok rv sc (kn, upd sl k 1, mm, va, ca, ci, sd, upd nc k 0, nd) k := by
  intro h
  rcases h with h | h
  · exact rq_start_sl h.2.1
  · exact rq_start_sl h.2.1
theorem rq_start_FO (h8 : k < 8) : rq_FO D rv sc gt (kn, upd sl k 1, mm, va, ca, ci, sd, upd nc k 0, nd) (k, true, 0, []) := by
  refine ⟨h8, rq_start_nOk, fun _ => ⟨rq_start_sl, Nat.zero_le _, rfl, ⟨?_, fun i d h => ?_⟩, fun d h => absurd h List.not_mem_nil⟩, fun h => absurd h (by simp)⟩
  · show upd nc k 0 k = nI 0
    rw [pk_us, nI_0]
  · have h' : ([] : List Nat)[i]? = some d := h
    simp at h'
theorem rq_start_BI (X : rq_BX D) (B : rq_BI D rv sc gt (kn, sl, mm, va, ca, ci, sd, nc, nd)) (h8 : k < 8) (hn : ¬ rq_Ok rv sc (kn, sl, mm, va, ca, ci, sd, nc, nd) k) : rq_BI D rv sc gt (kn, upd sl k 1, mm, va, ca, ci, sd, upd nc k 0, nd) := by
  obtain ⟨v, _, _, hci⟩ := B k h8
  refine rq_off_BI X rq_start_Off B (Or.inl ⟨hn, Or.inl ⟨rfl, rfl⟩⟩) ⟨v, fun _ h => absurd h rq_start_sl, fun h => absurd h rq_start_nOk, hci⟩
/-- the top query is to be worked off anew -/
theorem rq_p_start (X : rq_BX D) (R : rq_RI D rv sc gt root (kn, sl, mm, va, ca, ci, sd, nc, nd) ((q, false, p, s) :: r) U) : rq_RI D rv sc gt root (kn, upd sl q 1, mm, va, ca, ci, sd, upd nc q 0, nd) ((q, true, 0, []) :: r) U := by
  obtain ⟨h8, hn, _⟩ := R.2.1.1 _ List.mem_cons_self
  exact rq_same X R rq_start_Off (rq_start_BI X R.1 h8 hn) rfl (rq_start_FO h8)
/-- a token that needs nothing -/
theorem rq_p_wnone (X : rq_BX D) (R : rq_RI D rv sc gt root (kn, sl, mm, va, ca, ci, sd, nc, nd) ((q, true, p, s) :: r) U) (hp : p < rq_L D q) {x : Nat → Int32} (hx : rq_nx D (10 * q + p) s = none) : rq_RI D rv sc gt root (kn, sl, mm, va, ca, ci, sd, nc, nd) ((q, true, p + 1, (rq_tk D x (10 * q + p) (s, [])).1) :: r) U := by
  obtain ⟨h8, hn, hw, _⟩ := R.2.1.1 _ List.mem_cons_self
  obtain ⟨a, b, e, n, f⟩ := hw rfl
  dsimp only at h8 hn a b e n f
  have hx' : rq_nx D (10 * q + p) (rq_ev D (rq_E D.2.2.2.2 mm) (10 * q) p).1 = none := by rw [← e]; exact hx
  have e1 : rq_ev D (rq_E D.2.2.2.2 mm) (10 * q) (p + 1) = (if D.1 (10 * q + p) = 0 then D.2.1 (10 * q + p) :: s else rq_op (D.2.1 (10 * q + p)) (s.tail.headD 0) (s.headD 0) :: s.tail.tail, (rq_ev D (rq_E D.2.2.2.2 mm) (10 * q) p).2) := by
    show rq_tk D (rq_E D.2.2.2.2 mm) (10 * q + p) (rq_ev D (rq_E D.2.2.2.2 mm) (10 * q) p) = _
    rw [rq_tk_n hx', ← e]
  have e2 : (rq_tk D x (10 * q + p) (s, [])).1 = (if D.1 (10 * q + p) = 0 then D.2.1 (10 * q + p) :: s else rq_op (D.2.1 (10 * q + p)) (s.tail.headD 0) (s.headD 0) :: s.tail.tail) := by
    rw [rq_tk_n (z := (s, [])) hx]
  refine rq_same X R (rq_off_refl _ _) R.1 rfl ⟨h8, hn, fun _ => ⟨a, hp, ?_, ?_, ?_⟩, fun h => absurd h (by simp)⟩
  · dsimp only
    rw [e1, e2]
  · dsimp only
    rw [e1]; exact n
  · dsimp only
    rw [e1]; exact f
/-- a token that needs d -/
theorem rq_p_wdep {d c : Nat} (X : rq_BX D) (R : rq_RI D rv sc gt root (kn, sl, mm, va, ca, ci, sd, nc, nd) ((q, true, p, s) :: r) U) (hp : p < rq_L D q) (hx : rq_nx D (10 * q + p) s = some d) (hf : 6 ≤ d → rq_Fr rv (kn, sl, mm, va, ca, ci, sd, nc, nd) (d - 6)) (hc : nc q = nI c) (hc10 : c < 10) : rq_RI D rv sc gt root (kn, sl, mm, va, ca, ci, sd, upd nc q (nI (c + 1)), upd nd (10 * q + c) (nI d)) ((q, true, p + 1, rq_E D.2.2.2.2 mm d :: (if D.1 (10 * q + p) = 3 then s.tail else s)) :: r) U := by
  obtain ⟨h8, hn, hw, _⟩ := R.2.1.1 _ List.mem_cons_self
  obtain ⟨a, b, e, n, f⟩ := hw rfl
  dsimp only at h8 hn a b e n f
  obtain ⟨v, hm, ho, hci⟩ := R.1 q h8
  have hOff : rq_Off (kn, sl, mm, va, ca, ci, sd, nc, nd) (kn, sl, mm, va, ca, ci, sd, upd nc q (nI (c + 1)), upd nd (10 * q + c) (nI d)) q := ⟨fun j hj => ⟨rfl, rfl, rfl, rfl, rfl, rfl, pk_un hj, fun i hi => pk_un (by omega)⟩, rfl⟩
  have hx' : rq_nx D (10 * q + p) (rq_ev D (rq_E D.2.2.2.2 mm) (10 * q) p).1 = some d := by rw [← e]; exact hx
  have e1 : rq_ev D (rq_E D.2.2.2.2 mm) (10 * q) (p + 1) = (rq_E D.2.2.2.2 mm d :: (if D.1 (10 * q + p) = 3 then s.tail else s), (rq_ev D (rq_E D.2.2.2.2 mm) (10 * q) p).2 ++ [d]) := by
    show rq_tk D (rq_E D.2.2.2.2 mm) (10 * q + p) (rq_ev D (rq_E D.2.2.2.2 mm) (10 * q) p) = _
    rw [rq_tk_s hx', ← e]
  have hlb := rq_ev_len D (rq_E D.2.2.2.2 mm) (10 * q) p
  have hL := (X.2 q h8).1
  have hlen : c = (rq_ev D (rq_E D.2.2.2.2 mm) (10 * q) p).2.length := (nI_eq (by omega) (by omega)).mp (hc.symm.trans n.1)
  refine rq_same X R hOff (rq_off_BI X hOff R.1 (Or.inl ⟨hn, Or.inl ⟨rfl, rfl⟩⟩) ⟨v, fun _ h => absurd h a, fun h => absurd h hn, hci⟩) rfl ⟨h8, hn, fun _ => ⟨a, hp, ?_, ?_, ?_⟩, fun h => absurd h (by simp)⟩
  · dsimp only
    rw [e1]
  · dsimp only
    rw [e1]
    refine ⟨?_, fun i d' h => ?_⟩
    · show upd nc q (nI (c + 1)) q = nI ((rq_ev D (rq_E D.2.2.2.2 mm) (10 * q) p).2 ++ [d]).length
      rw [pk_us, List.length_append, ← hlen]
      rfl
    · show upd nd (10 * q + c) (nI d) (10 * q + i) = nI d'
      have h' : ((rq_ev D (rq_E D.2.2.2.2 mm) (10 * q) p).2 ++ [d])[i]? = some d' := h
      rcases Nat.lt_or_ge i c with w | w
      · rw [pk_un (by omega)]
        rw [List.getElem?_append_left (by omega)] at h'
        exact n.2 i d' h'
      · have hi : i = c := by
          rcases Nat.lt_or_ge i ((rq_ev D (rq_E D.2.2.2.2 mm) (10 * q) p).2 ++ [d]).length with u | u
          · rw [List.length_append, List.length_singleton] at u; omega
          · rw [List.getElem?_eq_none u] at h'; exact absurd h' (by simp)
        rw [hi, pk_us]
        rw [hi, hlen, List.getElem?_append_right (Nat.le_refl _), Nat.sub_self] at h'
        exact congrArg nI (Option.some.inj h')
  · dsimp only
    rw [e1]
    intro d' hd' h6
    rcases List.mem_append.mp hd' with w | w
    · exact f d' w h6
    · rw [List.mem_singleton.mp w] at h6 ⊢
      exact hf h6
/-- a body that is worked off -/
theorem rq_p_wend {v b : Int32} {ca' : Nat → Int32} (X : rq_BX D) (hsc : sc ≤ rv) (R : rq_RI D rv sc gt root (kn, sl, mm, va, ca, ci, sd, nc, nd) ((q, true, p, s) :: r) U) (hp : p = rq_L D q) (hv : v = s.headD 0) (hca : (ca' = ca ∧ mm q = v) ∨ ca' = upd ca q rv) (hb : b ≠ 0 → ∀ c, nc q = nI c → c ≤ 10 → ∀ i, i < c → ∀ d, d < 14 → nd (10 * q + i) = nI d → (d < 6 → 3 ≤ d) ∧ (6 ≤ d → sd (d - 6) ≠ 0)) : rq_RI D rv sc gt root (upd kn q 1, upd sl q 0, upd mm q v, upd va q rv, ca', ci, upd sd q b, nc, nd) r U := by
  obtain ⟨h8, hn, hw, _⟩ := R.2.1.1 _ List.mem_cons_self
  obtain ⟨a, b', e, n, f⟩ := hw rfl
  dsimp only at h8 hn a b' e n f
  subst hp
  obtain ⟨⟨v1, v2, v3⟩, hm, ho, hci⟩ := R.1 q h8
  have hcq : ∀ j, j ≠ q → ca' j = ca j := by
    intro j hj
    rcases hca with ⟨h, _⟩ | h
    · rw [h]
    · rw [h, pk_un hj]
  have hOff : rq_Off (kn, sl, mm, va, ca, ci, sd, nc, nd) (upd kn q 1, upd sl q 0, upd mm q v, upd va q rv, ca', ci, upd sd q b, nc, nd) q := ⟨fun j hj => ⟨pk_un hj, pk_un hj, pk_un hj, pk_un hj, hcq j hj, pk_un hj, rfl, fun _ _ => rfl⟩, rfl⟩
  have hl := rq_tr_l X (rq_E D.2.2.2.2 mm) h8
  have hne : ∀ d, d ∈ rq_tr D (rq_E D.2.2.2.2 mm) q → d ≠ 6 + q := by
    intro d hdm e
    have := f d hdm (by omega)
    rw [e, show 6 + q - 6 = q by omega] at this
    exact hn (Or.inl this)
  have hE : ∀ d, d ∈ rq_tr D (rq_E D.2.2.2.2 mm) q → rq_E D.2.2.2.2 (upd mm q v) d = rq_E D.2.2.2.2 mm d := fun d hdm => rq_off_E hOff (hne d hdm)
  have h14 : ∀ d, d ∈ rq_tr D (rq_E D.2.2.2.2 mm) q → d < 14 := rq_tr_b X h8 (X.2 _ h8).1
  have hvl : v = rq_vl D (rq_E D.2.2.2.2 mm) q := by rw [hv, e]; rfl
  have hk1 : upd kn q 1 q ≠ 0 := by rw [pk_us]; decide
  have hfy : rq_Fr rv (upd kn q 1, upd sl q 0, upd mm q v, upd va q rv, ca', ci, upd sd q b, nc, nd) q := ⟨hk1, pk_us, pk_us⟩
  have hfr : ∀ d, d ∈ rq_tr D (rq_E D.2.2.2.2 mm) q → 6 ≤ d → rq_Fr rv (upd kn q 1, upd sl q 0, upd mm q v, upd va q rv, ca', ci, upd sd q b, nc, nd) (d - 6) := fun d hdm h6 => (rq_off_Fr hOff (by have := hne d hdm; omega)).mpr (f d hdm h6)
  have hch : rq_Ch rv sc (kn, sl, mm, va, ca, ci, sd, nc, nd) (upd kn q 1, upd sl q 0, upd mm q v, upd va q rv, ca', ci, upd sd q b, nc, nd) q := by
    refine Or.inl ⟨hn, ?_⟩
    rcases hca with ⟨h, h'⟩ | h
    · refine Or.inl ⟨?_, by rw [h]⟩
      show upd mm q v q = mm q
      rw [pk_us, h']
    · refine Or.inr ?_
      show ca' q = rv
      rw [h, pk_us]
  refine rq_pop X R hOff (rq_off_BI X hOff R.1 hch ?_) hfy
  refine ⟨⟨?_, ?_, v3⟩, fun _ _ => ⟨rq_E D.2.2.2.2 mm, n, ?_, fun d hdm _ => hE d hdm, fun _ d hdm => ⟨hE d hdm, fun h6 => Or.inl (hfr d hdm h6)⟩, fun hg d hdm => ?_⟩, fun _ => ?_, hci⟩
  · show upd va q rv q ≤ rv
    rw [pk_us]; exact Int32.le_refl rv
  · show ca' q ≤ rv
    rcases hca with ⟨h, _⟩ | h
    · rw [h]; exact v2
    · rw [h, pk_us]; exact Int32.le_refl rv
  · show upd mm q v q = _
    rw [pk_us]; exact hvl
  · have hg' : upd sd q b q ≠ 0 := hg.2.2.1
    rw [pk_us] at hg'
    obtain ⟨i, hi⟩ := List.getElem?_of_mem hdm
    have hil : i < (rq_tr D (rq_E D.2.2.2.2 mm) q).length := by
      rcases Nat.lt_or_ge i (rq_tr D (rq_E D.2.2.2.2 mm) q).length with w | w
      · exact w
      · rw [List.getElem?_eq_none w] at hi; exact absurd hi (by simp)
    obtain ⟨g1, g2⟩ := hb hg' _ n.1 hl i hil d (h14 d hdm) (n.2 i d hi)
    refine ⟨g1, fun h6 => ?_⟩
    obtain ⟨w1, w2, w3⟩ := hfr d hdm h6
    have hq : d - 6 ≠ q := by have := hne d hdm; omega
    refine ⟨w1, w2, ?_, ?_⟩
    · show upd sd q b (d - 6) ≠ 0
      rw [pk_un hq]; exact g2 h6
    · rw [w3]; exact hsc
  · show rq_Der D q (upd mm q v q)
    rw [pk_us, hvl]
    exact rq_der_of h8 (fun d hdm => rq_rd R.1 (h14 d hdm) (f d hdm))
/-- the shortcut: nothing steady has changed -/
theorem rq_short_BI (X : rq_BX D) (hsc : sc ≤ rv) (B : rq_BI D rv sc gt (kn, sl, mm, va, ca, ci, sd, nc, nd)) (h8 : k < 8) (hg : rq_Gd sc (kn, sl, mm, va, ca, ci, sd, nc, nd) k) : rq_BI D rv sc gt (kn, sl, mm, upd va k rv, ca, ci, sd, nc, nd) := by
  obtain ⟨⟨v1, v2, v3⟩, hm, ho, hci⟩ := B k h8
  obtain ⟨r, n1, n2, n3, n4, n5⟩ := hm hg.1 hg.2.1
  have hOff : rq_Off (kn, sl, mm, va, ca, ci, sd, nc, nd) (kn, sl, mm, upd va k rv, ca, ci, sd, nc, nd) k := ⟨fun j hj => ⟨rfl, rfl, rfl, pk_un hj, rfl, rfl, rfl, fun _ _ => rfl⟩, rfl⟩
  have hgy : rq_Gd sc (kn, sl, mm, upd va k rv, ca, ci, sd, nc, nd) k := by
    refine ⟨hg.1, hg.2.1, hg.2.2.1, ?_⟩
    show sc ≤ upd va k rv k
    rw [pk_us]; exact hsc
  have hG : ∀ j, rq_Gd sc (kn, sl, mm, va, ca, ci, sd, nc, nd) j → rq_Gd sc (kn, sl, mm, upd va k rv, ca, ci, sd, nc, nd) j := by
    intro j hj
    by_cases e : j = k
    · rw [e]; exact hgy
    · exact (rq_off_Gd hOff e).mpr hj
  have hO : ∀ j, rq_Ok rv sc (kn, sl, mm, va, ca, ci, sd, nc, nd) j → rq_Ok rv sc (kn, sl, mm, upd va k rv, ca, ci, sd, nc, nd) j := by
    intro j hj
    by_cases e : j = k
    · rw [e]; exact Or.inr hgy
    · exact (rq_off_Ok hOff e).mpr hj
  refine rq_off_BI X hOff B (Or.inr ⟨hgy, rfl, rfl⟩) ⟨⟨?_, v2, v3⟩, fun _ _ => ⟨r, n1, n2, fun d hd _ => (n4 (Or.inr hg) d hd).1, fun _ d hd => ⟨(n4 (Or.inr hg) d hd).1, fun h6 => hO _ ((n4 (Or.inr hg) d hd).2 h6)⟩, fun _ d hd => ⟨(n5 hg d hd).1, fun h6 => hG _ ((n5 hg d hd).2 h6)⟩⟩, fun _ => ho (Or.inr hg), hci⟩
  show upd va k rv k ≤ rv
  rw [pk_us]; exact Int32.le_refl rv
end
end
section
/-! X: small walks, each with a general post -/
theorem rq_nb1 : vp_nar .boolean 1 = 1 := rfl
theorem rq_nb0 : vp_nar .boolean 0 = 0 := rfl
theorem rq_ix (q i : Nat) : nI q * 10 + nI i = nI (10 * q + i) := by
  show nI q * nI 10 + nI i = _
  rw [pk_mul, nI_add, Nat.mul_comm]
section
variable {h rv sc fr tp fl : Int32} {ln tk fs sn gv gt kn sl mm va ca ci sd nc nd fq fw fp pl wv wc : Nat → Int32}
theorem rq_x_fresh {post : Int32 → Prop} (q : Nat) (hq : q < 8) (h1 : rq_Fr rv (kn, sl, mm, va, ca, ci, sd, nc, nd) q → post 1) (h0 : ¬ rq_Fr rv (kn, sl, mm, va, ca, ci, sd, nc, nd) q → post 0) : wpX_fresh post (h, rv, sc, fr, tp, fl, ln, tk, fs, sn, gv, gt, kn, sl, mm, va, ca, ci, sd, nc, nd, fq, fw, fp, pl, wv, wc) (nI q) := by
  have hi : vp_in (nI q) 8 := vp_in_nI hq (by omega)
  have hc : (nI q).toNatClampNeg = q := nI_clamp (by omega)
  unfold wpX_fresh
  dsimp only
  rw [hc]
  exact ⟨hi, br_c (fun z => h0 (fun f => f.1 z)) (fun z1 => ⟨hi, br_c (fun z2 => ⟨hi, br_c (fun z3 => h1 ⟨z1, z2, z3⟩) (fun z3 => h0 (fun f => z3 f.2.2))⟩) (fun z2 => h0 (fun f => z2 f.2.1))⟩)⟩
theorem rq_x_start {post : SX → Prop} (f q : Nat) (hf : f < 8) (hq : q < 8) (e : fq f = nI q) (hP : post (h, rv, sc, fr, tp, fl, ln, tk, fs, sn, gv, gt, kn, upd sl q 1, mm, va, ca, ci, sd, upd nc q 0, nd, fq, upd fw f 1, upd fp f 0, pl, wv, wc)) : wpX_startWork post (h, rv, sc, fr, tp, fl, ln, tk, fs, sn, gv, gt, kn, sl, mm, va, ca, ci, sd, nc, nd, fq, fw, fp, pl, wv, wc) (nI f) := by
  have hi : vp_in (nI f) 8 := vp_in_nI hf (by omega)
  have hiq : vp_in (nI q) 8 := vp_in_nI hq (by omega)
  have hc : (nI f).toNatClampNeg = f := nI_clamp (by omega)
  have hcq : (nI q).toNatClampNeg = q := nI_clamp (by omega)
  unfold wpX_startWork
  dsimp only
  rw [hc]
  exact ⟨hi, nm_r e ⟨hi, nm_r (e' := upd fw f 1) (by rw [rq_nb1]) ⟨hi, nm_e ⟨hiq, nm_r (e' := upd sl q 1) (by rw [hcq, rq_nb1]) ⟨hiq, nm_r (e' := upd nc q 0) (by rw [hcq]) hP⟩⟩⟩⟩⟩
theorem rq_x_r112 {post : SX → Prop} (n k : Nat) (hn : n < 8) (hk : k < 8) (hfr : fr = nI n)
    (h3 : kn k ≠ 0 → sl k = 0 → post (h, rv, sc, nI (n + 1), tp, fl, ln, tk, fs, sn, gv, gt, kn, sl, mm, va, ca, ci, sd, nc, nd, upd fq n (nI k), upd fw n 0, upd fp n 0, pl, wv, wc))
    (h4 : ¬ (kn k ≠ 0 ∧ sl k = 0) → post (h, rv, sc, nI (n + 1), tp, fl, ln, tk, fs, sn, gv, gt, kn, upd sl k 1, mm, va, ca, ci, sd, upd nc k 0, nd, upd fq n (nI k), upd (upd fw n 0) n 1, upd (upd fp n 0) n 0, pl, wv, wc)) :
    wX_request_112 post (nI k) h rv sc fr tp fl ln tk fs sn gv gt kn sl mm va ca ci sd nc nd fq fw fp pl wv wc := by
  subst hfr
  have hi : vp_in (nI n) 8 := vp_in_nI hn (by omega)
  have hik : vp_in (nI k) 8 := vp_in_nI hk (by omega)
  have hc : (nI n).toNatClampNeg = n := nI_clamp (by omega)
  have hck : (nI k).toNatClampNeg = k := nI_clamp (by omega)
  unfold wX_request_112
  rw [hc, hck]
  refine nm_r (nI_1 n) ⟨hi, nm_e ⟨hi, nm_r (e' := upd fw n 0) (by rw [rq_nb0]) ⟨hi, nm_e ⟨hik, br_c (fun z => ?_) (fun z1 => ⟨hik, br_c (fun z2 => h3 z1 z2) (fun z2 => ?_)⟩)⟩⟩⟩⟩
  · unfold wX_request_166
    exact rq_x_start n k hn hk pk_us (h4 (fun w => w.1 z))
  · unfold wX_request_166
    exact rq_x_start n k hn hk pk_us (h4 (fun w => z2 w.2))
theorem rq_x_r4 {post : SX → Prop} (n k : Nat) (hn : n ≤ 8) (hk : k < 8)
    (h1 : ((∃ j, j < n ∧ fq j = nI k) ∨ ci k = rv) → post (h, rv, sc, nI n, tp, 1, ln, tk, fs, sn, gv, gt, kn, sl, mm, va, ca, ci, sd, nc, nd, fq, fw, fp, pl, wv, wc))
    (h2 : rq_Gd sc (kn, sl, mm, va, ca, ci, sd, nc, nd) k → (∀ j, j < n → fq j ≠ nI k) → ci k ≠ rv → post (h, rv, sc, nI n, tp, fl, ln, tk, fs, sn, gv, gt, kn, sl, mm, upd va k rv, ca, ci, sd, nc, nd, fq, fw, fp, pl, wv, wc))
    (h3 : ¬ rq_Gd sc (kn, sl, mm, va, ca, ci, sd, nc, nd) k → (∀ j, j < n → fq j ≠ nI k) → ci k ≠ rv → wX_request_112 post (nI k) h rv sc (nI n) tp fl ln tk fs sn gv gt kn sl mm va ca ci sd nc nd fq fw fp pl wv wc) :
    ∀ (d i : Nat) (w : Int32), i + d = n → ((w = 0 ∧ ∀ j, j < i → fq j ≠ nI k) ∨ (w = 1 ∧ ∃ j, j < i ∧ fq j = nI k)) → wX_request_4 post (nI k) h rv sc (nI n) tp fl ln tk fs sn gv gt kn sl mm va ca ci sd nc nd fq fw fp pl wv wc (d + 1) w (nI i) := by
  have hik : vp_in (nI k) 8 := vp_in_nI hk (by omega)
  have hck : (nI k).toNatClampNeg = k := nI_clamp (by omega)
  intro d
  induction d with
  | zero =>
    intro i w hi hw
    have e : i = n := by omega
    subst e
    rw [wX_request_4]
    dsimp only
    rw [hck]
    refine br_t (Int32.le_refl _) ?_
    rcases hw with ⟨rfl, hw⟩ | ⟨rfl, hw⟩
    · exact br_t rfl ⟨hik, br_c (fun z => h1 (Or.inr z)) (fun z => ⟨hik, br_c (fun z1 => h3 (fun g => g.1 z1) hw z) (fun z1 => ⟨hik, br_c (fun z2 => ⟨hik, br_c (fun z3 => h3 (fun g => g.2.2.1 z3) hw z) (fun z3 => ⟨hik, br_c (fun z4 => h3 (fun g => Int32.not_le.mpr z4 g.2.2.2) hw z) (fun z4 => ⟨hik, nm_e (h2 ⟨z1, z2, z3, Int32.not_lt.mp z4⟩ hw z)⟩)⟩)⟩) (fun z2 => h3 (fun g => z2 g.2.1) hw z)⟩)⟩)⟩
    · exact br_f (by decide) (h1 (Or.inl hw))
  | succ d ih =>
    intro i w hi hw
    have hii : vp_in (nI i) 8 := vp_in_nI (by omega) (by omega)
    have hci : (nI i).toNatClampNeg = i := nI_clamp (by omega)
    rw [wX_request_4]
    dsimp only
    rw [hci]
    refine br_f (nI_ge (by omega) (by omega)) ?_
    rcases hw with ⟨rfl, hw⟩ | ⟨rfl, j, hj, e⟩
    · refine br_t rfl ⟨hii, br_c (fun z => nm_r (nI_1 i) (ih (i + 1) 1 (by omega) (Or.inr ⟨rfl, i, by omega, z⟩))) (fun z => nm_r (nI_1 i) (ih (i + 1) 0 (by omega) (Or.inl ⟨rfl, fun j hj => ?_⟩)))⟩
      by_cases hji : j = i
      · rw [hji]; exact z
      · exact hw j (by omega)
    · exact br_f (by decide) (nm_r (nI_1 i) (ih (i + 1) 1 (by omega) (Or.inr ⟨rfl, j, by omega, e⟩)))
/-- what a request of k may end in, n frames being under way -/
def rq_RQ (post : SX → Prop) (n k : Nat) (h rv sc fr tp fl : Int32) (ln tk fs sn gv gt kn sl mm va ca ci sd nc nd fq fw fp pl wv wc : Nat → Int32) : Prop :=
  (((∃ j, j < n ∧ fq j = nI k) ∨ ci k = rv) → post (h, rv, sc, fr, tp, 1, ln, tk, fs, sn, gv, gt, kn, sl, mm, va, ca, ci, sd, nc, nd, fq, fw, fp, pl, wv, wc)) ∧
  (rq_Gd sc (kn, sl, mm, va, ca, ci, sd, nc, nd) k → (∀ j, j < n → fq j ≠ nI k) → ci k ≠ rv → post (h, rv, sc, fr, tp, fl, ln, tk, fs, sn, gv, gt, kn, sl, mm, upd va k rv, ca, ci, sd, nc, nd, fq, fw, fp, pl, wv, wc)) ∧
  (¬ rq_Gd sc (kn, sl, mm, va, ca, ci, sd, nc, nd) k → (∀ j, j < n → fq j ≠ nI k) → ci k ≠ rv → n < 8 ∧
    (kn k ≠ 0 → sl k = 0 → post (h, rv, sc, nI (n + 1), tp, fl, ln, tk, fs, sn, gv, gt, kn, sl, mm, va, ca, ci, sd, nc, nd, upd fq n (nI k), upd fw n 0, upd fp n 0, pl, wv, wc)) ∧
    (¬ (kn k ≠ 0 ∧ sl k = 0) → post (h, rv, sc, nI (n + 1), tp, fl, ln, tk, fs, sn, gv, gt, kn, upd sl k 1, mm, va, ca, ci, sd, upd nc k 0, nd, upd fq n (nI k), upd (upd fw n 0) n 1, upd (upd fp n 0) n 0, pl, wv, wc)))
theorem rq_x_req {post : SX → Prop} (n k : Nat) (hn : n ≤ 8) (hk : k < 8) (hfr : fr = nI n) (H : rq_RQ post n k h rv sc fr tp fl ln tk fs sn gv gt kn sl mm va ca ci sd nc nd fq fw fp pl wv wc) : wpX_request post (h, rv, sc, fr, tp, fl, ln, tk, fs, sn, gv, gt, kn, sl, mm, va, ca, ci, sd, nc, nd, fq, fw, fp, pl, wv, wc) (nI k) := by
  subst hfr
  obtain ⟨h1, h2, h3⟩ := H
  refine ⟨n + 1, ?_⟩
  have := rq_x_r4 (post := post) (h := h) (rv := rv) (sc := sc) (tp := tp) (fl := fl) (ln := ln) (tk := tk) (fs := fs) (sn := sn) (gv := gv) (gt := gt) (kn := kn) (sl := sl) (mm := mm) (va := va) (ca := ca) (ci := ci) (sd := sd) (nc := nc) (nd := nd) (fq := fq) (fw := fw) (fp := fp) (pl := pl) (wv := wv) (wc := wc) n k hn hk h1 h2 (fun g f c => by
    obtain ⟨g8, ga, gb⟩ := h3 g f c
    exact rq_x_r112 n k g8 hk rfl ga gb) n 0 0 (by omega) (Or.inl ⟨rfl, fun j hj => absurd hj (by omega)⟩)
  exact this
theorem rq_nar01 {b : Int32} (hb : b = 0 ∨ b = 1) : vp_nar .boolean b = b := by
  rcases hb with rfl | rfl <;> rfl
theorem rq_nrw01 {b : Int32} (hb : b = 0 ∨ b = 1) : narrow .boolean (.int b) = .int b := by
  rcases hb with rfl | rfl <;> rfl
/-- the first c needs of q are steady -/
def rq_AS (sd nd : Nat → Int32) (q c : Nat) : Prop := ∀ i, i < c → ∀ d, d < 14 → nd (10 * q + i) = nI d → (d < 6 → 3 ≤ d) ∧ (6 ≤ d → sd (d - 6) ≠ 0)
theorem rq_AS_s {sd nd : Nat → Int32} {q i d : Nat} (h : rq_AS sd nd q i) (hd : d < 14) (e : nd (10 * q + i) = nI d) (h1 : d < 6 → 3 ≤ d) (h2 : 6 ≤ d → sd (d - 6) ≠ 0) : rq_AS sd nd q (i + 1) := by
  intro j hj d' hd' e'
  by_cases hji : j = i
  · rw [hji] at e'
    have ed : d' = d := (nI_eq (by omega) (by omega)).mp (e'.symm.trans e)
    rw [ed]
    exact ⟨h1, h2⟩
  · exact h j (by omega) d' hd' e'
theorem rq_x_as4 {post : Int32 → Prop} (q c : Nat) (hq : q < 8) (hc : nc q = nI c) (hc10 : c ≤ 10) (hnd : ∀ i, i < c → ∃ d, d < 14 ∧ nd (10 * q + i) = nI d)
    (hP : ∀ b : Int32, (b = 0 ∨ b = 1) → (b ≠ 0 → rq_AS sd nd q c) → post b) :
    ∀ (d i : Nat) (w : Int32), i + d = c → (w = 0 ∨ (w = 1 ∧ rq_AS sd nd q i)) → wX_allSteady_4 post (nI q) h rv sc fr tp fl ln tk fs sn gv gt kn sl mm va ca ci sd nc nd fq fw fp pl wv wc (d + 1) w (nI i) := by
  have hiq : vp_in (nI q) 8 := vp_in_nI hq (by omega)
  have hcq : (nI q).toNatClampNeg = q := nI_clamp (by omega)
  intro d
  induction d with
  | zero =>
    intro i w hi hw
    have e : i = c := by omega
    subst e
    rw [wX_allSteady_4]
    dsimp only
    rw [hcq, hc]
    have h01 : w = 0 ∨ w = 1 := hw.elim Or.inl (fun z => Or.inr z.1)
    refine ⟨hiq, br_t (Int32.le_refl _) ⟨rq_nrw01 h01, hP w h01 (fun hz => ?_)⟩⟩
    rcases hw with z | z
    · exact absurd z hz
    · exact z.2
  | succ d ih =>
    intro i w hi hw
    obtain ⟨dd, hdd, edd⟩ := hnd i (by omega)
    have hii : vp_in (nI (10 * q + i)) 80 := vp_in_nI (by omega) (by omega)
    have hcii : (nI (10 * q + i)).toNatClampNeg = 10 * q + i := nI_clamp (by omega)
    rw [wX_allSteady_4]
    dsimp only
    rw [hcq, hc, rq_ix, hcii]
    refine ⟨hiq, br_f (nI_ge (by omega) (by omega)) ⟨hii, nm_r edd ?_⟩⟩
    rcases hw with rfl | ⟨rfl, hw⟩
    · exact br_t rfl (nm_r (nI_1 i) (ih (i + 1) 0 (by omega) (Or.inl rfl)))
    · refine br_f (by decide) ?_
      refine pk_le 6 dd (fun h6 => ?_) (fun h6 => ?_)
      · have e6 : nI dd - 6 = nI (dd - 6) := pk_sub (b := 6) h6
        rw [e6, nI_clamp (n := dd - 6) (by omega)]
        refine ⟨vp_in_nI (by omega) (by omega), br_c (fun z => nm_r (nI_1 i) (ih (i + 1) 0 (by omega) (Or.inl rfl))) (fun z => nm_r (nI_1 i) (ih (i + 1) 1 (by omega) (Or.inr ⟨rfl, rq_AS_s hw hdd edd (fun w => absurd w (by omega)) (fun _ => z)⟩)))⟩
      · exact pk_lt dd 3 (fun h3 => nm_r (nI_1 i) (ih (i + 1) 0 (by omega) (Or.inl rfl))) (fun h3 => nm_r (nI_1 i) (ih (i + 1) 1 (by omega) (Or.inr ⟨rfl, rq_AS_s hw hdd edd (fun _ => h3) (fun w => absurd w (by omega))⟩)))
theorem rq_x_as {post : Int32 → Prop} (q c : Nat) (hq : q < 8) (hc : nc q = nI c) (hc10 : c ≤ 10) (hnd : ∀ i, i < c → ∃ d, d < 14 ∧ nd (10 * q + i) = nI d)
    (hP : ∀ b : Int32, (b = 0 ∨ b = 1) → (b ≠ 0 → rq_AS sd nd q c) → post b) : wpX_allSteady post (h, rv, sc, fr, tp, fl, ln, tk, fs, sn, gv, gt, kn, sl, mm, va, ca, ci, sd, nc, nd, fq, fw, fp, pl, wv, wc) (nI q) :=
  ⟨c + 1, rq_x_as4 q c hq hc hc10 hnd hP c 0 1 (by omega) (Or.inr ⟨rfl, fun j hj => absurd hj (by omega)⟩)⟩
theorem rq_x_note {post : SX → Prop} (q c : Nat) (v : Int32) (hq : q < 8) (hc : nc q = nI c) (hc10 : c < 10) (hP : post (h, rv, sc, fr, tp, fl, ln, tk, fs, sn, gv, gt, kn, sl, mm, va, ca, ci, sd, upd nc q (nI (c + 1)), upd nd (10 * q + c) v, fq, fw, fp, pl, wv, wc)) : wpX_noteNeed post (h, rv, sc, fr, tp, fl, ln, tk, fs, sn, gv, gt, kn, sl, mm, va, ca, ci, sd, nc, nd, fq, fw, fp, pl, wv, wc) (nI q) v := by
  have hiq : vp_in (nI q) 8 := vp_in_nI hq (by omega)
  have hcq : (nI q).toNatClampNeg = q := nI_clamp (by omega)
  have hii : vp_in (nI (10 * q + c)) 80 := vp_in_nI (by omega) (by omega)
  have hcii : (nI (10 * q + c)).toNatClampNeg = 10 * q + c := nI_clamp (by omega)
  unfold wpX_noteNeed
  dsimp only
  rw [hcq, hc, rq_ix, hcii, nI_1]
  exact ⟨hiq, hii, nm_e ⟨hiq, hiq, nm_e hP⟩⟩
theorem rq_x_push {post : SX → Prop} (n : Nat) (v : Int32) (ht : tp = nI n) (hn : n < 96) (hP : post (h, rv, sc, fr, nI (n + 1), fl, ln, tk, fs, sn, gv, gt, kn, sl, mm, va, ca, ci, sd, nc, nd, fq, fw, fp, upd pl n v, wv, wc)) : wpX_push post (h, rv, sc, fr, tp, fl, ln, tk, fs, sn, gv, gt, kn, sl, mm, va, ca, ci, sd, nc, nd, fq, fw, fp, pl, wv, wc) v := by
  subst ht
  have hi : vp_in (nI n) 96 := vp_in_nI hn (by omega)
  have hc : (nI n).toNatClampNeg = n := nI_clamp (by omega)
  unfold wpX_push
  dsimp only
  rw [hc]
  exact ⟨hi, nm_e (nm_r (nI_1 n) hP)⟩
theorem rq_x_comb {post : SX → Prop} (n : Nat) (o : Int32) (ht : tp = nI (n + 2)) (hn : n + 2 ≤ 96) (hP : post (h, rv, sc, fr, nI (n + 1), fl, ln, tk, fs, sn, gv, gt, kn, sl, mm, va, ca, ci, sd, nc, nd, fq, fw, fp, upd pl n (rq_op o (pl n) (pl (n + 1))), wv, wc)) : wpX_combine post (h, rv, sc, fr, tp, fl, ln, tk, fs, sn, gv, gt, kn, sl, mm, va, ca, ci, sd, nc, nd, fq, fw, fp, pl, wv, wc) o := by
  subst ht
  have e1 : nI (n + 2) - 1 = nI (n + 1) := nI_pred (n + 1)
  have e2 : nI (n + 2) - 2 = nI n := pk_sub (a := n + 2) (b := 2) (by omega)
  have hi1 : vp_in (nI (n + 1)) 96 := vp_in_nI (by omega) (by omega)
  have hi : vp_in (nI n) 96 := vp_in_nI (by omega) (by omega)
  have hc1 : (nI (n + 1)).toNatClampNeg = n + 1 := nI_clamp (by omega)
  have hc : (nI n).toNatClampNeg = n := nI_clamp (by omega)
  unfold wpX_combine
  dsimp only
  rw [e1, e2, hc1, hc]
  refine ⟨hi1, nm_e ⟨hi, nm_e (nm_e (br_c (fun z0 => ?_) (fun z0 => br_c (fun z1 => ?_) (fun z1 => br_c (fun z2 => ?_) (fun z2 => br_c (fun z3 => ?_) (fun z3 => ?_))))))⟩⟩
  · refine rq_x_push n _ rfl (by omega) ?_
    have e : rq_op o (pl n) (pl (n + 1)) = pl n + pl (n + 1) := if_pos z0
    rw [e] at hP; exact hP
  · refine rq_x_push n _ rfl (by omega) ?_
    have e : rq_op o (pl n) (pl (n + 1)) = pl n - pl (n + 1) := by unfold rq_op; rw [if_neg z0, if_pos z1]
    rw [e] at hP; exact hP
  · refine rq_x_push n _ rfl (by omega) ?_
    have e : rq_op o (pl n) (pl (n + 1)) = pl n * pl (n + 1) := by unfold rq_op; rw [if_neg z0, if_neg z1, if_pos z2]
    rw [e] at hP; exact hP
  · unfold wX_combine_89
    refine rq_x_push n _ rfl (by omega) ?_
    have e : rq_op o (pl n) (pl (n + 1)) = 0 := by unfold rq_op; rw [if_neg z0, if_neg z1, if_neg z2, if_pos z3]
    rw [e] at hP; exact hP
  · unfold wX_combine_89
    refine rq_x_push n _ rfl (by omega) ?_
    have e : rq_op o (pl n) (pl (n + 1)) = 1 := by unfold rq_op; rw [if_neg z0, if_neg z1, if_neg z2, if_neg z3]
    rw [e] at hP; exact hP
theorem rq_x_e49 {post : SX → Prop} (q c m : Nat) (v : Int32) (hq : q < 8) (hc : nc q = nI c) (hc10 : c ≤ 10) (hnd : ∀ i, i < c → ∃ d, d < 14 ∧ nd (10 * q + i) = nI d) (hfr : fr = nI (m + 1))
    (hP : ∀ b : Int32, (b = 0 ∨ b = 1) → (b ≠ 0 → rq_AS sd nd q c) → post (h, rv, sc, nI m, tp, fl, ln, tk, fs, sn, gv, gt, upd kn q 1, upd sl q 0, upd mm q v, upd va q rv, ca, ci, upd sd q b, nc, nd, fq, fw, fp, pl, wv, wc)) : wX_endWork_49 post (nI q) v h rv sc fr tp fl ln tk fs sn gv gt kn sl mm va ca ci sd nc nd fq fw fp pl wv wc := by
  subst hfr
  have hiq : vp_in (nI q) 8 := vp_in_nI hq (by omega)
  have hcq : (nI q).toNatClampNeg = q := nI_clamp (by omega)
  unfold wX_endWork_49
  rw [hcq]
  refine ⟨hiq, nm_e ⟨hiq, nm_r (e' := upd kn q 1) (by rw [rq_nb1]) ⟨hiq, nm_r (e' := upd sl q 0) (by rw [rq_nb0]) ⟨hiq, nm_e ?_⟩⟩⟩⟩
  refine rq_x_as q c hq hc hc10 hnd (fun b hb hs => ⟨hiq, nm_r (e' := upd sd q b) (by rw [rq_nar01 hb]) (nm_r (nI_pred m) (hP b hb hs))⟩)
theorem rq_x_end {post : SX → Prop} (q c m n : Nat) (hq : q < 8) (hc : nc q = nI c) (hc10 : c ≤ 10) (hnd : ∀ i, i < c → ∃ d, d < 14 ∧ nd (10 * q + i) = nI d) (hfr : fr = nI (m + 1)) (ht : tp = nI (n + 1)) (hn : n < 96)
    (hP : ∀ (b : Int32) (ca' : Nat → Int32), (b ≠ 0 → rq_AS sd nd q c) → ((ca' = ca ∧ mm q = pl n) ∨ ca' = upd ca q rv) → post (h, rv, sc, nI m, nI n, fl, ln, tk, fs, sn, gv, gt, upd kn q 1, upd sl q 0, upd mm q (pl n), upd va q rv, ca', ci, upd sd q b, nc, nd, fq, fw, fp, pl, wv, wc)) : wpX_endWork post (h, rv, sc, fr, tp, fl, ln, tk, fs, sn, gv, gt, kn, sl, mm, va, ca, ci, sd, nc, nd, fq, fw, fp, pl, wv, wc) (nI q) := by
  subst ht
  have hiq : vp_in (nI q) 8 := vp_in_nI hq (by omega)
  have hcq : (nI q).toNatClampNeg = q := nI_clamp (by omega)
  have hin : vp_in (nI n) 96 := vp_in_nI hn (by omega)
  have hcn : (nI n).toNatClampNeg = n := nI_clamp (by omega)
  have h39 : wX_endWork_39 post (nI q) (pl n) h rv sc fr (nI n) fl ln tk fs sn gv gt kn sl mm va ca ci sd nc nd fq fw fp pl wv wc := by
    unfold wX_endWork_39
    exact ⟨hiq, nm_r (e' := upd ca q rv) (by rw [hcq]) (rq_x_e49 q c m (pl n) hq hc hc10 hnd hfr (fun b _ hs => hP b _ hs (Or.inr rfl)))⟩
  unfold wpX_endWork
  dsimp only
  rw [hcq]
  refine nm_r (nI_pred n) ⟨hin, nm_r (e' := pl n) (by rw [hcn]) ⟨hiq, br_c (fun _ => h39) (fun _ => ⟨hiq, br_c (fun z => ?_) (fun _ => h39)⟩)⟩⟩
  exact rq_x_e49 q c m (pl n) hq hc hc10 hnd hfr (fun b _ hs => hP b _ hs (Or.inl ⟨rfl, z⟩))
theorem rq_x_219 {post : SX → Prop} (f p : Nat) (hf : f < 8) (hp : fp f = nI p) (hP : post (h, rv, sc, fr, tp, fl, ln, tk, fs, sn, gv, gt, kn, sl, mm, va, ca, ci, sd, nc, nd, fq, fw, upd fp f (nI (p + 1)), pl, wv, wc)) : wX_workStep_219 post (nI f) h rv sc fr tp fl ln tk fs sn gv gt kn sl mm va ca ci sd nc nd fq fw fp pl wv wc := by
  have hi : vp_in (nI f) 8 := vp_in_nI hf (by omega)
  have hc : (nI f).toNatClampNeg = f := nI_clamp (by omega)
  unfold wX_workStep_219
  rw [hc, hp, nI_1]
  exact ⟨hi, hi, nm_e hP⟩
end
end
section
/-! X: a step of work and a step of checking, case by case -/
section
variable {h rv sc fr tp fl : Int32} {ln tk fs sn gv gt kn sl mm va ca ci sd nc nd fq fw fp pl wv wc : Nat → Int32} {post : SX → Prop}
theorem rq_x_wend (f q p c m n : Nat) (hf : f < 8) (hfq : fq f = nI q) (hfp : fp f = nI p) (hL : ln q = nI p) (hq : q < 8) (hc : nc q = nI c) (hc10 : c ≤ 10) (hnd : ∀ i, i < c → ∃ d, d < 14 ∧ nd (10 * q + i) = nI d) (hfr : fr = nI (m + 1)) (ht : tp = nI (n + 1)) (hn : n < 96)
    (hP : ∀ (b : Int32) (ca' : Nat → Int32), (b ≠ 0 → rq_AS sd nd q c) → ((ca' = ca ∧ mm q = pl n) ∨ ca' = upd ca q rv) → post (h, rv, sc, nI m, nI n, fl, ln, tk, fs, sn, gv, gt, upd kn q 1, upd sl q 0, upd mm q (pl n), upd va q rv, ca', ci, upd sd q b, nc, nd, fq, fw, fp, pl, wv, wc)) : wpX_workStep post (h, rv, sc, fr, tp, fl, ln, tk, fs, sn, gv, gt, kn, sl, mm, va, ca, ci, sd, nc, nd, fq, fw, fp, pl, wv, wc) (nI f) := by
  have hif : vp_in (nI f) 8 := vp_in_nI hf (by omega)
  have hcf : (nI f).toNatClampNeg = f := nI_clamp (by omega)
  have hiq : vp_in (nI q) 9 := vp_in_nI (by omega) (by omega)
  have hcq : (nI q).toNatClampNeg = q := nI_clamp (by omega)
  unfold wpX_workStep
  dsimp only
  rw [hcf, hfp]
  refine ⟨hif, nm_r hfq ⟨hif, hiq, br_t (by rw [hcq, hL]) ?_⟩⟩
  exact rq_x_end q c m n hq hc hc10 hnd hfr ht hn hP
theorem rq_x_w0 (f q p L n : Nat) (hf : f < 8) (hfq : fq f = nI q) (hfp : fp f = nI p) (hL : ln q = nI L) (hL10 : L ≤ 10) (hpL : p < L) (hq : q < 8) (ht : tp = nI n) (hn : n < 96) (hk : tk (10 * q + p) = 0)
    (hP : post (h, rv, sc, fr, nI (n + 1), fl, ln, tk, fs, sn, gv, gt, kn, sl, mm, va, ca, ci, sd, nc, nd, fq, fw, upd fp f (nI (p + 1)), upd pl n (fs (10 * q + p)), wv, wc)) : wpX_workStep post (h, rv, sc, fr, tp, fl, ln, tk, fs, sn, gv, gt, kn, sl, mm, va, ca, ci, sd, nc, nd, fq, fw, fp, pl, wv, wc) (nI f) := by
  have hif : vp_in (nI f) 8 := vp_in_nI hf (by omega)
  have hcf : (nI f).toNatClampNeg = f := nI_clamp (by omega)
  have hiq : vp_in (nI q) 9 := vp_in_nI (by omega) (by omega)
  have hcq : (nI q).toNatClampNeg = q := nI_clamp (by omega)
  have hi : vp_in (nI (10 * q + p)) 90 := vp_in_nI (by omega) (by omega)
  have hci : (nI (10 * q + p)).toNatClampNeg = 10 * q + p := nI_clamp (by omega)
  have hne : ¬ nI p = nI L := fun e => by have := (nI_eq (by omega) (by omega)).mp e; omega
  unfold wpX_workStep
  dsimp only
  rw [hcf, hfp]
  refine ⟨hif, nm_r hfq ⟨hif, hiq, br_f (by rw [hcq, hL]; exact hne) ⟨hif, nm_r (rq_ix q p) ⟨hi, nm_r (e' := 0) (by rw [hci]; exact hk) (br_f (by decide) (br_f (by decide) (br_t rfl ⟨hi, ?_⟩)))⟩⟩⟩⟩
  rw [hci]
  exact rq_x_push n _ ht hn (rq_x_219 f p hf hfp hP)
theorem rq_x_w1 (f q p L n c j : Nat) (hf : f < 8) (hfq : fq f = nI q) (hfp : fp f = nI p) (hL : ln q = nI L) (hL10 : L ≤ 10) (hpL : p < L) (hq : q < 8) (ht : tp = nI n) (hn : n < 96) (hk : tk (10 * q + p) = 1) (hj : fs (10 * q + p) = nI j) (hj6 : j < 6) (hc : nc q = nI c) (hc10 : c < 10)
    (hP : post (h, rv, sc, fr, nI (n + 1), fl, ln, tk, fs, sn, gv, gt, kn, sl, mm, va, ca, ci, sd, upd nc q (nI (c + 1)), upd nd (10 * q + c) (nI j), fq, fw, upd fp f (nI (p + 1)), upd pl n (gv j), wv, wc)) : wpX_workStep post (h, rv, sc, fr, tp, fl, ln, tk, fs, sn, gv, gt, kn, sl, mm, va, ca, ci, sd, nc, nd, fq, fw, fp, pl, wv, wc) (nI f) := by
  have hif : vp_in (nI f) 8 := vp_in_nI hf (by omega)
  have hcf : (nI f).toNatClampNeg = f := nI_clamp (by omega)
  have hiq : vp_in (nI q) 9 := vp_in_nI (by omega) (by omega)
  have hcq : (nI q).toNatClampNeg = q := nI_clamp (by omega)
  have hi : vp_in (nI (10 * q + p)) 90 := vp_in_nI (by omega) (by omega)
  have hci : (nI (10 * q + p)).toNatClampNeg = 10 * q + p := nI_clamp (by omega)
  have hne : ¬ nI p = nI L := fun e => by have := (nI_eq (by omega) (by omega)).mp e; omega
  have hij : vp_in (nI j) 6 := vp_in_nI hj6 (by omega)
  have hcj : (nI j).toNatClampNeg = j := nI_clamp (by omega)
  unfold wpX_workStep
  dsimp only
  rw [hcf, hfp]
  refine ⟨hif, nm_r hfq ⟨hif, hiq, br_f (by rw [hcq, hL]; exact hne) ⟨hif, nm_r (rq_ix q p) ⟨hi, nm_r (e' := 1) (by rw [hci]; exact hk) (br_f (by decide) (br_f (by decide) (br_f (by decide) (br_t rfl ⟨hi, ?_⟩))))⟩⟩⟩⟩
  rw [hci, hj]
  refine rq_x_note q c _ hq hc hc10 ?_
  dsimp only
  rw [hj, hcj]
  exact ⟨hi, hij, rq_x_push n _ ht hn (rq_x_219 f p hf hfp hP)⟩
theorem rq_x_w4 (f q p L n : Nat) (hf : f < 8) (hfq : fq f = nI q) (hfp : fp f = nI p) (hL : ln q = nI L) (hL10 : L ≤ 10) (hpL : p < L) (hq : q < 8) (ht : tp = nI (n + 2)) (hn : n + 2 ≤ 96) (hk : tk (10 * q + p) = 4)
    (hP : post (h, rv, sc, fr, nI (n + 1), fl, ln, tk, fs, sn, gv, gt, kn, sl, mm, va, ca, ci, sd, nc, nd, fq, fw, upd fp f (nI (p + 1)), upd pl n (rq_op (fs (10 * q + p)) (pl n) (pl (n + 1))), wv, wc)) : wpX_workStep post (h, rv, sc, fr, tp, fl, ln, tk, fs, sn, gv, gt, kn, sl, mm, va, ca, ci, sd, nc, nd, fq, fw, fp, pl, wv, wc) (nI f) := by
  have hif : vp_in (nI f) 8 := vp_in_nI hf (by omega)
  have hcf : (nI f).toNatClampNeg = f := nI_clamp (by omega)
  have hiq : vp_in (nI q) 9 := vp_in_nI (by omega) (by omega)
  have hcq : (nI q).toNatClampNeg = q := nI_clamp (by omega)
  have hi : vp_in (nI (10 * q + p)) 90 := vp_in_nI (by omega) (by omega)
  have hci : (nI (10 * q + p)).toNatClampNeg = 10 * q + p := nI_clamp (by omega)
  have hne : ¬ nI p = nI L := fun e => by have := (nI_eq (by omega) (by omega)).mp e; omega
  unfold wpX_workStep
  dsimp only
  rw [hcf, hfp]
  refine ⟨hif, nm_r hfq ⟨hif, hiq, br_f (by rw [hcq, hL]; exact hne) ⟨hif, nm_r (rq_ix q p) ⟨hi, nm_r (e' := 4) (by rw [hci]; exact hk) (br_f (by decide) (br_f (by decide) (br_f (by decide) (br_f (by decide) ⟨hi, ?_⟩))))⟩⟩⟩⟩
  rw [hci]
  exact rq_x_comb n _ ht hn (rq_x_219 f p hf hfp hP)
theorem rq_6k (k : Nat) : 6 + nI k = nI (6 + k) := nI_add 6 k
theorem rq_x_132 (f q p n c k : Nat) (hf : f < 8) (hfp : fp f = nI p) (hq : q < 8) (ht : tp = nI n) (hn : n < 96) (hk : k < 8) (hc : nc q = nI c) (hc10 : c < 10)
    (hP : post (h, rv, sc, fr, nI (n + 1), fl, ln, tk, fs, sn, gv, gt, kn, sl, mm, va, ca, ci, sd, upd nc q (nI (c + 1)), upd nd (10 * q + c) (nI (6 + k)), fq, fw, upd fp f (nI (p + 1)), upd pl n (mm k), wv, wc)) : wX_workStep_132 post (nI f) (nI q) (nI k) h rv sc fr tp fl ln tk fs sn gv gt kn sl mm va ca ci sd nc nd fq fw fp pl wv wc := by
  have hik : vp_in (nI k) 8 := vp_in_nI hk (by omega)
  have hck : (nI k).toNatClampNeg = k := nI_clamp (by omega)
  unfold wX_workStep_132
  rw [rq_6k]
  refine rq_x_note q c _ hq hc hc10 ?_
  dsimp only
  rw [hck]
  exact ⟨hik, rq_x_push n _ ht hn (rq_x_219 f p hf hfp hP)⟩
theorem rq_x_96a (f q p n c k m : Nat) (hf : f < 8) (hfp : fp f = nI p) (hq : q < 8) (ht : tp = nI n) (hn : n < 96) (hk : k < 8) (hc : nc q = nI c) (hc10 : c < 10) (hm : m ≤ 8) (hfr : fr = nI m)
    (hP : rq_Fr rv (kn, sl, mm, va, ca, ci, sd, nc, nd) k → post (h, rv, sc, fr, nI (n + 1), fl, ln, tk, fs, sn, gv, gt, kn, sl, mm, va, ca, ci, sd, upd nc q (nI (c + 1)), upd nd (10 * q + c) (nI (6 + k)), fq, fw, upd fp f (nI (p + 1)), upd pl n (mm k), wv, wc))
    (hR : ¬ rq_Fr rv (kn, sl, mm, va, ca, ci, sd, nc, nd) k → rq_RQ post m k h rv sc fr tp fl ln tk fs sn gv gt kn sl mm va ca ci sd nc nd fq fw fp pl wv wc) : wX_workStep_96 post (nI f) (nI q) 2 (nI k) h rv sc fr tp fl ln tk fs sn gv gt kn sl mm va ca ci sd nc nd fq fw fp pl wv wc := by
  unfold wX_workStep_96
  refine rq_x_fresh k hk (fun z => ?_) (fun z => ?_)
  · exact br_f (by decide) (br_f (by decide) (rq_x_132 f q p n c k hf hfp hq ht hn hk hc hc10 (hP z)))
  · exact br_t rfl (rq_x_req m k hm hk hfr (hR z))
theorem rq_x_96b (f q p n c k m : Nat) (hf : f < 8) (hfp : fp f = nI p) (hq : q < 8) (ht : tp = nI (n + 1)) (hn : n < 96) (hk : k < 8) (hc : nc q = nI c) (hc10 : c < 10) (hm : m ≤ 8) (hfr : fr = nI m)
    (hP : rq_Fr rv (kn, sl, mm, va, ca, ci, sd, nc, nd) k → post (h, rv, sc, fr, nI (n + 1), fl, ln, tk, fs, sn, gv, gt, kn, sl, mm, va, ca, ci, sd, upd nc q (nI (c + 1)), upd nd (10 * q + c) (nI (6 + k)), fq, fw, upd fp f (nI (p + 1)), upd pl n (mm k), wv, wc))
    (hR : ¬ rq_Fr rv (kn, sl, mm, va, ca, ci, sd, nc, nd) k → rq_RQ post m k h rv sc fr tp fl ln tk fs sn gv gt kn sl mm va ca ci sd nc nd fq fw fp pl wv wc) : wX_workStep_96 post (nI f) (nI q) 3 (nI k) h rv sc fr tp fl ln tk fs sn gv gt kn sl mm va ca ci sd nc nd fq fw fp pl wv wc := by
  subst ht
  unfold wX_workStep_96
  refine rq_x_fresh k hk (fun z => ?_) (fun z => ?_)
  · exact br_f (by decide) (br_t rfl (nm_r (nI_pred n) (rq_x_132 f q p n c k hf hfp hq rfl hn hk hc hc10 (hP z))))
  · exact br_t rfl (rq_x_req m k hm hk hfr (hR z))
theorem rq_x_w2 (f q p L n c k m : Nat) (hf : f < 8) (hfq : fq f = nI q) (hfp : fp f = nI p) (hL : ln q = nI L) (hL10 : L ≤ 10) (hpL : p < L) (hq : q < 8) (ht : tp = nI n) (hn : n < 96) (ht2 : tk (10 * q + p) = 2) (hj : fs (10 * q + p) = nI k) (hk : k < 8) (hc : nc q = nI c) (hc10 : c < 10) (hm : m ≤ 8) (hfr : fr = nI m)
    (hP : rq_Fr rv (kn, sl, mm, va, ca, ci, sd, nc, nd) k → post (h, rv, sc, fr, nI (n + 1), fl, ln, tk, fs, sn, gv, gt, kn, sl, mm, va, ca, ci, sd, upd nc q (nI (c + 1)), upd nd (10 * q + c) (nI (6 + k)), fq, fw, upd fp f (nI (p + 1)), upd pl n (mm k), wv, wc))
    (hR : ¬ rq_Fr rv (kn, sl, mm, va, ca, ci, sd, nc, nd) k → rq_RQ post m k h rv sc fr tp fl ln tk fs sn gv gt kn sl mm va ca ci sd nc nd fq fw fp pl wv wc) : wpX_workStep post (h, rv, sc, fr, tp, fl, ln, tk, fs, sn, gv, gt, kn, sl, mm, va, ca, ci, sd, nc, nd, fq, fw, fp, pl, wv, wc) (nI f) := by
  have hif : vp_in (nI f) 8 := vp_in_nI hf (by omega)
  have hcf : (nI f).toNatClampNeg = f := nI_clamp (by omega)
  have hiq : vp_in (nI q) 9 := vp_in_nI (by omega) (by omega)
  have hcq : (nI q).toNatClampNeg = q := nI_clamp (by omega)
  have hi : vp_in (nI (10 * q + p)) 90 := vp_in_nI (by omega) (by omega)
  have hci : (nI (10 * q + p)).toNatClampNeg = 10 * q + p := nI_clamp (by omega)
  have hne : ¬ nI p = nI L := fun e => by have := (nI_eq (by omega) (by omega)).mp e; omega
  unfold wpX_workStep
  dsimp only
  rw [hcf, hfp]
  refine ⟨hif, nm_r hfq ⟨hif, hiq, br_f (by rw [hcq, hL]; exact hne) ⟨hif, nm_r (rq_ix q p) ⟨hi, nm_r (e' := 2) (by rw [hci]; exact ht2) (br_t rfl ?_)⟩⟩⟩⟩
  unfold wX_workStep_60
  exact ⟨hi, nm_r (e' := nI k) (by rw [hci]; exact hj) (br_f (by decide) (rq_x_96a f q p n c k m hf hfp hq ht hn hk hc hc10 hm hfr hP hR))⟩
theorem rq_x_w3 (f q p L n c k m : Nat) (hf : f < 8) (hfq : fq f = nI q) (hfp : fp f = nI p) (hL : ln q = nI L) (hL10 : L ≤ 10) (hpL : p < L) (hq : q < 8) (ht : tp = nI (n + 1)) (hn : n < 96) (ht2 : tk (10 * q + p) = 3) (hj : (pl n = 0 ∧ sn (10 * q + p) = nI k) ∨ (¬ pl n = 0 ∧ fs (10 * q + p) = nI k)) (hk : k < 8) (hc : nc q = nI c) (hc10 : c < 10) (hm : m ≤ 8) (hfr : fr = nI m)
    (hP : rq_Fr rv (kn, sl, mm, va, ca, ci, sd, nc, nd) k → post (h, rv, sc, fr, nI (n + 1), fl, ln, tk, fs, sn, gv, gt, kn, sl, mm, va, ca, ci, sd, upd nc q (nI (c + 1)), upd nd (10 * q + c) (nI (6 + k)), fq, fw, upd fp f (nI (p + 1)), upd pl n (mm k), wv, wc))
    (hR : ¬ rq_Fr rv (kn, sl, mm, va, ca, ci, sd, nc, nd) k → rq_RQ post m k h rv sc fr tp fl ln tk fs sn gv gt kn sl mm va ca ci sd nc nd fq fw fp pl wv wc) : wpX_workStep post (h, rv, sc, fr, tp, fl, ln, tk, fs, sn, gv, gt, kn, sl, mm, va, ca, ci, sd, nc, nd, fq, fw, fp, pl, wv, wc) (nI f) := by
  have hif : vp_in (nI f) 8 := vp_in_nI hf (by omega)
  have hcf : (nI f).toNatClampNeg = f := nI_clamp (by omega)
  have hiq : vp_in (nI q) 9 := vp_in_nI (by omega) (by omega)
  have hcq : (nI q).toNatClampNeg = q := nI_clamp (by omega)
  have hi : vp_in (nI (10 * q + p)) 90 := vp_in_nI (by omega) (by omega)
  have hci : (nI (10 * q + p)).toNatClampNeg = 10 * q + p := nI_clamp (by omega)
  have hne : ¬ nI p = nI L := fun e => by have := (nI_eq (by omega) (by omega)).mp e; omega
  have hin : vp_in (nI n) 96 := vp_in_nI hn (by omega)
  have hcn : (nI n).toNatClampNeg = n := nI_clamp (by omega)
  subst ht
  unfold wpX_workStep
  dsimp only
  rw [hcf, hfp]
  refine ⟨hif, nm_r hfq ⟨hif, hiq, br_f (by rw [hcq, hL]; exact hne) ⟨hif, nm_r (rq_ix q p) ⟨hi, nm_r (e' := 3) (by rw [hci]; exact ht2) (br_f (by decide) (br_t rfl ?_))⟩⟩⟩⟩
  unfold wX_workStep_60
  rw [nI_pred, hcn, hci]
  rcases hj with ⟨z, e⟩ | ⟨z, e⟩
  · exact ⟨hi, nm_e (br_t rfl ⟨hin, br_t z ⟨hi, nm_r e (rq_x_96b f q p n c k m hf hfp hq rfl hn hk hc hc10 hm hfr hP hR)⟩⟩)⟩
  · exact ⟨hi, nm_r e (br_t rfl ⟨hin, br_f z (rq_x_96b f q p n c k m hf hfp hq rfl hn hk hc hc10 hm hfr hP hR)⟩)⟩
theorem rq_x_126 (f q p : Nat) (x4 : Int32) (hf : f < 8) (hq : q < 8) (hfq : fq f = nI q) (hfp : fp f = nI p)
    (h1 : x4 ≤ va q → post (h, rv, sc, fr, tp, fl, ln, tk, fs, sn, gv, gt, kn, sl, mm, va, ca, ci, sd, nc, nd, fq, fw, upd fp f (nI (p + 1)), pl, wv, wc))
    (h2 : ¬ x4 ≤ va q → post (h, rv, sc, fr, tp, fl, ln, tk, fs, sn, gv, gt, kn, upd sl q 1, mm, va, ca, ci, sd, upd nc q 0, nd, fq, upd fw f 1, upd fp f 0, pl, wv, wc)) : wX_checkStep_126 post (nI f) (nI q) x4 h rv sc fr tp fl ln tk fs sn gv gt kn sl mm va ca ci sd nc nd fq fw fp pl wv wc := by
  have hif : vp_in (nI f) 8 := vp_in_nI hf (by omega)
  have hcf : (nI f).toNatClampNeg = f := nI_clamp (by omega)
  have hiq : vp_in (nI q) 8 := vp_in_nI hq (by omega)
  have hcq : (nI q).toNatClampNeg = q := nI_clamp (by omega)
  unfold wX_checkStep_126
  rw [hcf, hcq, hfp, nI_1]
  exact ⟨hiq, br_c (fun z => ⟨hif, hif, nm_e (h1 z)⟩) (fun z => rq_x_start f q hf hq hfq (h2 z))⟩
theorem rq_x_cend (f q p m : Nat) (hf : f < 8) (hq : q < 8) (hfq : fq f = nI q) (hfp : fp f = nI p) (hc : nc q = nI p) (hp10 : p ≤ 10) (hnd : ∀ i, i < p → ∃ d, d < 14 ∧ nd (10 * q + i) = nI d) (hfr : fr = nI (m + 1))
    (hP : ∀ b : Int32, (b ≠ 0 → rq_AS sd nd q p) → post (h, rv, sc, nI m, tp, fl, ln, tk, fs, sn, gv, gt, kn, sl, mm, upd va q rv, ca, ci, upd sd q b, nc, nd, fq, fw, fp, pl, wv, wc)) : wpX_checkStep post (h, rv, sc, fr, tp, fl, ln, tk, fs, sn, gv, gt, kn, sl, mm, va, ca, ci, sd, nc, nd, fq, fw, fp, pl, wv, wc) (nI f) := by
  have hif : vp_in (nI f) 8 := vp_in_nI hf (by omega)
  have hcf : (nI f).toNatClampNeg = f := nI_clamp (by omega)
  have hiq : vp_in (nI q) 8 := vp_in_nI hq (by omega)
  have hcq : (nI q).toNatClampNeg = q := nI_clamp (by omega)
  subst hfr
  unfold wpX_checkStep
  dsimp only
  rw [hcf, hfp]
  refine ⟨hif, nm_r hfq ⟨hif, hiq, br_t (by rw [hcq, hc]) ⟨hiq, ?_⟩⟩⟩
  rw [hcq]
  refine nm_e ?_
  exact rq_x_as q p hq hc hp10 hnd (fun b hb hs => ⟨hiq, nm_r (e' := upd sd q b) (by rw [rq_nar01 hb]) (nm_r (nI_pred m) (hP b hs))⟩)
theorem rq_x_cmid (f q p c d m : Nat) (hf : f < 8) (hq : q < 8) (hfq : fq f = nI q) (hfp : fp f = nI p) (hc : nc q = nI c) (hpc : p < c) (hc10 : c ≤ 10) (hnd : nd (10 * q + p) = nI d) (hd : d < 14) (hm : m ≤ 8) (hfr : fr = nI m)
    (h1 : (6 ≤ d → rq_Fr rv (kn, sl, mm, va, ca, ci, sd, nc, nd) (d - 6)) → rq_st gt ca d ≤ va q → post (h, rv, sc, fr, tp, fl, ln, tk, fs, sn, gv, gt, kn, sl, mm, va, ca, ci, sd, nc, nd, fq, fw, upd fp f (nI (p + 1)), pl, wv, wc))
    (h2 : (6 ≤ d → rq_Fr rv (kn, sl, mm, va, ca, ci, sd, nc, nd) (d - 6)) → ¬ rq_st gt ca d ≤ va q → post (h, rv, sc, fr, tp, fl, ln, tk, fs, sn, gv, gt, kn, upd sl q 1, mm, va, ca, ci, sd, upd nc q 0, nd, fq, upd fw f 1, upd fp f 0, pl, wv, wc))
    (hR : 6 ≤ d → ¬ rq_Fr rv (kn, sl, mm, va, ca, ci, sd, nc, nd) (d - 6) → rq_RQ post m (d - 6) h rv sc fr tp fl ln tk fs sn gv gt kn sl mm va ca ci sd nc nd fq fw fp pl wv wc) : wpX_checkStep post (h, rv, sc, fr, tp, fl, ln, tk, fs, sn, gv, gt, kn, sl, mm, va, ca, ci, sd, nc, nd, fq, fw, fp, pl, wv, wc) (nI f) := by
  have hif : vp_in (nI f) 8 := vp_in_nI hf (by omega)
  have hcf : (nI f).toNatClampNeg = f := nI_clamp (by omega)
  have hiq : vp_in (nI q) 8 := vp_in_nI hq (by omega)
  have hcq : (nI q).toNatClampNeg = q := nI_clamp (by omega)
  have hi : vp_in (nI (10 * q + p)) 80 := vp_in_nI (by omega) (by omega)
  have hci : (nI (10 * q + p)).toNatClampNeg = 10 * q + p := nI_clamp (by omega)
  have hne : ¬ nI p = nI c := fun e => by have := (nI_eq (by omega) (by omega)).mp e; omega
  unfold wpX_checkStep
  dsimp only
  rw [hcf, hfp]
  refine ⟨hif, nm_r hfq ⟨hif, hiq, br_f (by rw [hcq, hc]; exact hne) ⟨hif, ?_⟩⟩⟩
  rw [rq_ix]
  refine ⟨hi, nm_r (e' := nI d) (by rw [hci]; exact hnd) (pk_le 6 d (fun h6 => ?_) (fun h6 => ?_))⟩
  · have e6 : nI d - 6 = nI (d - 6) := pk_sub (b := 6) h6
    have hi6 : vp_in (nI (d - 6)) 8 := vp_in_nI (by omega) (by omega)
    have hc6 : (nI (d - 6)).toNatClampNeg = d - 6 := nI_clamp (by omega)
    rw [e6, hc6]
    have est : rq_st gt ca d = ca (d - 6) := if_neg (by omega)
    refine rq_x_fresh (d - 6) (by omega) (fun z => br_f (by decide) ⟨hi6, nm_e ?_⟩) (fun z => br_t rfl (rq_x_req m (d - 6) hm (by omega) hfr (hR h6 z)))
    rw [est] at h1 h2
    exact rq_x_126 f q p _ hf hq hfq hfp (h1 (fun _ => z)) (h2 (fun _ => z))
  · have hi6 : vp_in (nI d) 6 := vp_in_nI (by omega) (by omega)
    have hc6 : (nI d).toNatClampNeg = d := nI_clamp (by omega)
    have est : rq_st gt ca d = gt d := if_pos (by omega)
    rw [est] at h1 h2
    rw [hc6]
    exact ⟨hi6, nm_e (rq_x_126 f q p _ hf hq hfq hfp (h1 (fun w => absurd w (by omega))) (h2 (fun w => absurd w (by omega))))⟩
end
end
section
/-! X: bringing a query up to date -/
def rq_CF (fq fw fp : Nat → Int32) : List rq_F → Prop
  | [] => True
  | x :: r => fq r.length = nI x.1 ∧ fw r.length = (if x.2.1 = true then 1 else 0) ∧ fp r.length = nI x.2.2.1 ∧ rq_CF fq fw fp r
def rq_fl : List rq_F → List Int32
  | [] => []
  | x :: r => x.2.2.2 ++ rq_fl r
def rq_PL (pl : Nat → Int32) : List Int32 → Prop
  | [] => True
  | v :: w => pl w.length = v ∧ rq_PL pl w
theorem rq_CF_congr {fq fw fp fq' fw' fp' : Nat → Int32} : ∀ {K : List rq_F}, (∀ j, j < K.length → fq' j = fq j ∧ fw' j = fw j ∧ fp' j = fp j) → rq_CF fq fw fp K → rq_CF fq' fw' fp' K
  | [], _, _ => trivial
  | x :: r, H, C => by
    have h := H r.length (Nat.lt_succ_self _)
    exact ⟨h.1.trans C.1, h.2.1.trans C.2.1, h.2.2.trans C.2.2.1, rq_CF_congr (fun j hj => H j (Nat.lt_succ_of_lt hj)) C.2.2.2⟩
theorem rq_CF_up {fq fw fp : Nat → Int32} {K : List rq_F} {n : Nat} {a b c : Int32} (hn : n = K.length) (C : rq_CF fq fw fp K) : rq_CF (upd fq n a) (upd fw n b) (upd fp n c) K :=
  rq_CF_congr (fun j hj => ⟨pk_un (by omega), pk_un (by omega), pk_un (by omega)⟩) C
theorem rq_PL_congr {pl pl' : Nat → Int32} : ∀ {W : List Int32}, (∀ j, j < W.length → pl' j = pl j) → rq_PL pl W → rq_PL pl' W
  | [], _, _ => trivial
  | v :: w, H, C => ⟨(H w.length (Nat.lt_succ_self _)).trans C.1, rq_PL_congr (fun j hj => H j (Nat.lt_succ_of_lt hj)) C.2⟩
theorem rq_PL_push {pl : Nat → Int32} {W : List Int32} {v : Int32} {n : Nat} (hn : n = W.length) (C : rq_PL pl W) : rq_PL (upd pl n v) (v :: W) := by
  subst hn
  exact ⟨pk_us, rq_PL_congr (fun j hj => pk_un (by omega)) C⟩
theorem rq_CF_in {fq fw fp : Nat → Int32} {k : Nat} (hk : k < 8) : ∀ {K : List rq_F}, (∀ x, x ∈ K → x.1 < 8) → rq_CF fq fw fp K → ∀ j, j < K.length → fq j = nI k → k ∈ rq_qs K
  | [], _, _, j, hj, _ => absurd hj (Nat.not_lt_zero j)
  | x :: r, H, C, j, hj, e => by
    show k ∈ x.1 :: rq_qs r
    by_cases h : j = r.length
    · have h8 := H x List.mem_cons_self
      rw [h, C.1] at e
      rw [(nI_eq (by omega) (by omega)).mp e]
      exact List.mem_cons_self
    · refine List.mem_cons_of_mem _ (rq_CF_in hk (fun y hy => H y (List.mem_cons_of_mem _ hy)) C.2.2.2 j ?_ e)
      rw [List.length_cons] at hj
      omega
theorem rq_CF_ex {fq fw fp : Nat → Int32} : ∀ {K : List rq_F}, rq_CF fq fw fp K → ∀ j, j < K.length → ∃ x, x ∈ K ∧ fq j = nI x.1
  | [], _, j, hj => absurd hj (Nat.not_lt_zero j)
  | x :: r, C, j, hj => by
    by_cases h : j = r.length
    · rw [h]
      exact ⟨x, List.mem_cons_self, C.1⟩
    · obtain ⟨x', m, e⟩ := rq_CF_ex C.2.2.2 j (by rw [List.length_cons] at hj; omega)
      exact ⟨x', List.mem_cons_of_mem _ m, e⟩
theorem rq_CF_out {fq fw fp : Nat → Int32} {k : Nat} : ∀ {K : List rq_F}, rq_CF fq fw fp K → k ∈ rq_qs K → ∃ j, j < K.length ∧ fq j = nI k
  | [], _, h => absurd h List.not_mem_nil
  | x :: r, C, h => by
    have h' : k ∈ x.1 :: rq_qs r := h
    rcases List.mem_cons.mp h' with e | e
    · exact ⟨r.length, Nat.lt_succ_self _, by rw [e]; exact C.1⟩
    · obtain ⟨j, hj, ej⟩ := rq_CF_out C.2.2.2 e
      exact ⟨j, Nat.lt_succ_of_lt hj, ej⟩
theorem rq_fl_len {D : rq_D} {rv sc : Int32} {gt : Nat → Int32} {z : rq_S} (X : rq_BX D) : ∀ {K : List rq_F}, (∀ x, x ∈ K → rq_FO D rv sc gt z x) → (rq_fl K).length ≤ 10 * K.length
  | [], _ => Nat.le_refl _
  | x :: r, H => by
    have i := rq_fl_len X (K := r) (fun y hy => H y (List.mem_cons_of_mem _ hy))
    obtain ⟨h8, _, hw, hc⟩ := H x List.mem_cons_self
    have hx : x.2.2.2.length ≤ 10 := by
      rcases hb : x.2.1 with _ | _
      · rw [(hc hb).2.2.1]; exact Nat.zero_le _
      · obtain ⟨_, b, e, _⟩ := hw hb
        rw [e, rq_pl_l X _ h8 b]
        exact Nat.le_trans (rq_ht_le _ _ _) (Nat.le_trans b (X.2 _ h8).1)
    show (x.2.2.2 ++ rq_fl r).length ≤ 10 * (r.length + 1)
    rw [List.length_append]
    omega
def rq_RR (D : rq_D) (rv sc : Int32) (gt : Nat → Int32) (root : Nat) (fr tp fl : Int32) (kn sl mm va ca ci sd nc nd fq fw fp pl : Nat → Int32) (K : List rq_F) (U : List Nat) : Prop :=
  rq_RI D rv sc gt root (kn, sl, mm, va, ca, ci, sd, nc, nd) K U ∧ rq_CF fq fw fp K ∧ rq_PL pl (rq_fl K) ∧ fr = nI K.length ∧ tp = nI (rq_fl K).length ∧ fl = 0
def rq_RX (D : rq_D) (rv sc : Int32) (gt : Nat → Int32) (root : Nat) (fr fl : Int32) (kn sl mm va ca ci sd nc nd fq fw fp : Nat → Int32) (K : List rq_F) : Prop :=
  rq_BI D rv sc gt (kn, sl, mm, va, ca, ci, sd, nc, nd) ∧ rq_CF fq fw fp K ∧ fr = nI K.length ∧ K.length ≤ 8 ∧ fl = 1 ∧ (∀ x, x ∈ K → x.1 < 8 ∧ ∀ v, ¬ rq_Der D x.1 v) ∧ ∀ v, ¬ rq_Der D root v
def rq_Nx (D : rq_D) (rv sc : Int32) (gt : Nat → Int32) (root m : Nat) (fr tp fl : Int32) (kn sl mm va ca ci sd nc nd fq fw fp pl : Nat → Int32) : Prop :=
  (∃ K U, rq_RR D rv sc gt root fr tp fl kn sl mm va ca ci sd nc nd fq fw fp pl K U ∧ 23 * U.length + rq_ws K < m) ∨ ∃ K, rq_RX D rv sc gt root fr fl kn sl mm va ca ci sd nc nd fq fw fp K
section
variable {h rv sc fr tp fl : Int32} {ln tk fs sn gv gt kn sl mm va ca ci sd nc nd fq fw fp pl wv wc : Nat → Int32} {post : SX → Prop}
theorem rq_s_req {root m k : Nat} {K : List rq_F} {U : List Nat} (X : rq_BX (tk, fs, sn, ln, gv)) (hsc : sc ≤ rv) (B : rq_BI (tk, fs, sn, ln, gv) rv sc gt (kn, sl, mm, va, ca, ci, sd, nc, nd)) (S : rq_SK (tk, fs, sn, ln, gv) rv sc gt (kn, sl, mm, va, ca, ci, sd, nc, nd) K) (C : rq_UC rv (kn, sl, mm, va, ca, ci, sd, nc, nd) K U) (T : (∃ l, rq_qs K = l ++ [root]) ∨ (K = [] ∧ k = root)) (hA : ∀ x r, K = x :: r → rq_AW (tk, fs, sn, ln, gv) (kn, sl, mm, va, ca, ci, sd, nc, nd) x k) (hk : k < 8) (hn : ¬ rq_Fr rv (kn, sl, mm, va, ca, ci, sd, nc, nd) k)
    (hCF : rq_CF fq fw fp K) (hPL : rq_PL pl (rq_fl K)) (hfr : fr = nI K.length) (htp : tp = nI (rq_fl K).length) (hfl : fl = 0) (hm : 23 * U.length + rq_ws K ≤ m)
    (hS : ∀ (fr tp fl : Int32) (kn sl mm va ca ci sd nc nd fq fw fp pl : Nat → Int32), rq_Nx (tk, fs, sn, ln, gv) rv sc gt root m fr tp fl kn sl mm va ca ci sd nc nd fq fw fp pl → post (h, rv, sc, fr, tp, fl, ln, tk, fs, sn, gv, gt, kn, sl, mm, va, ca, ci, sd, nc, nd, fq, fw, fp, pl, wv, wc)) : rq_RQ post K.length k h rv sc fr tp fl ln tk fs sn gv gt kn sl mm va ca ci sd nc nd fq fw fp pl wv wc := by
  have h8 : ∀ x, x ∈ K → x.1 < 8 := fun x hx => (S.1 x hx).1
  have hnot : (∀ j, j < K.length → fq j ≠ nI k) → k ∉ rq_qs K := fun f hin => by
    obtain ⟨j, hj, e⟩ := rq_CF_out hCF hin
    exact f j hj e
  refine ⟨fun hh => ?_, fun hg f c => ?_, fun hg f c => ⟨?_, fun z1 z2 => ?_, fun z => ?_⟩⟩
  · obtain ⟨d1, d2⟩ := rq_fail X B S hA hk (hh.elim (fun ⟨j, hj, e⟩ => Or.inl (rq_CF_in hk h8 hCF j hj e)) Or.inr)
    refine hS _ _ _ _ _ _ _ _ _ _ _ _ _ _ _ _ (Or.inr ⟨K, B, hCF, hfr, by have := C.2; omega, rfl, fun x hx => ⟨h8 x hx, d1 x hx⟩, ?_⟩)
    rcases T with ⟨l, e⟩ | ⟨_, e⟩
    · have hr : root ∈ rq_qs K := by rw [e]; exact List.mem_append_right _ (List.mem_singleton.mpr rfl)
      obtain ⟨x, hx, ex⟩ := List.mem_map.mp hr
      rw [← ex]
      exact d1 x hx
    · rw [← e]; exact d2
  · have hOff : rq_Off (kn, sl, mm, va, ca, ci, sd, nc, nd) (kn, sl, mm, upd va k rv, ca, ci, sd, nc, nd) k := ⟨fun j hj => ⟨rfl, rfl, rfl, pk_un hj, rfl, rfl, rfl, fun _ _ => rfl⟩, rfl⟩
    obtain ⟨R, hl⟩ := rq_short X S C T hk hn (hnot f) hOff (rq_short_BI X hsc B hk hg) ⟨hg.1, hg.2.1, pk_us⟩
    exact hS _ _ _ _ _ _ _ _ _ _ _ _ _ _ _ _ (Or.inl ⟨K, U.erase k, ⟨R, hCF, hPL, hfr, htp, hfl⟩, by omega⟩)
  · have hU := C.1 k hk hn (hnot f)
    have := List.length_pos_of_mem hU
    have := C.2
    omega
  · obtain ⟨r0, n1, _⟩ := (B k hk).2.1 z1 z2
    obtain ⟨R, hl, _⟩ := rq_pushed (w := false) X S C T hA hk hn (hnot f) (rq_off_refl _ k) B ⟨hk, fun o => o.elim hn hg, fun w => absurd w (by simp), fun _ => ⟨z1, z2, rfl, ⟨_, n1.1, Nat.zero_le _, rq_tr_l X r0 hk⟩, fun i hi => absurd hi (Nat.not_lt_zero i)⟩⟩
    refine hS _ _ _ _ _ _ _ _ _ _ _ _ _ _ _ _ (Or.inl ⟨(k, false, 0, []) :: K, U.erase k, ⟨R, ⟨pk_us, pk_us, pk_us, rq_CF_up rfl hCF⟩, hPL, rfl, htp, hfl⟩, ?_⟩)
    show 23 * (U.erase k).length + (22 - 0 + rq_ws K) < m
    omega
  · obtain ⟨R, hl, _⟩ := rq_pushed (w := true) X S C T hA hk hn (hnot f) rq_start_Off (rq_start_BI X B hk (fun o => o.elim hn hg)) (rq_start_FO hk)
    refine hS _ _ _ _ _ _ _ _ _ _ _ _ _ _ _ _ (Or.inl ⟨(k, true, 0, []) :: K, U.erase k, ⟨R, ⟨pk_us, pk_us, pk_us, ?_⟩, hPL, rfl, htp, hfl⟩, ?_⟩)
    · exact rq_CF_congr (fun j hj => ⟨pk_un (by omega), (pk_un (by omega)).trans (pk_un (by omega)), (pk_un (by omega)).trans (pk_un (by omega))⟩) hCF
    · show 23 * (U.erase k).length + (11 - 0 + rq_ws K) < m
      omega
theorem rq_s_check {root m q p : Nat} {s : List Int32} {r : List rq_F} {U : List Nat} (X : rq_BX (tk, fs, sn, ln, gv)) (hsc : sc ≤ rv) (RR : rq_RR (tk, fs, sn, ln, gv) rv sc gt root fr tp fl kn sl mm va ca ci sd nc nd fq fw fp pl ((q, false, p, s) :: r) U) (hm : 23 * U.length + rq_ws ((q, false, p, s) :: r) ≤ m)
    (hS : ∀ (fr tp fl : Int32) (kn sl mm va ca ci sd nc nd fq fw fp pl : Nat → Int32), rq_Nx (tk, fs, sn, ln, gv) rv sc gt root m fr tp fl kn sl mm va ca ci sd nc nd fq fw fp pl → post (h, rv, sc, fr, tp, fl, ln, tk, fs, sn, gv, gt, kn, sl, mm, va, ca, ci, sd, nc, nd, fq, fw, fp, pl, wv, wc)) : wpX_checkStep post (h, rv, sc, fr, tp, fl, ln, tk, fs, sn, gv, gt, kn, sl, mm, va, ca, ci, sd, nc, nd, fq, fw, fp, pl, wv, wc) (nI r.length) := by
  obtain ⟨R, hCF, hPL, hfr, htp, hfl⟩ := RR
  obtain ⟨B, S, C, T⟩ := R
  obtain ⟨h8, hn, _, hfc⟩ := S.1 _ List.mem_cons_self
  obtain ⟨a, b', es, ⟨c, ec, hpc, hc10⟩, f⟩ := hfc rfl
  dsimp only at h8 hn a b' es ec hpc f
  subst es
  obtain ⟨cq, cw, cp, cr⟩ := hCF
  dsimp only at cq cw cp
  have hlen : r.length + 1 ≤ 8 := by have := C.2; rw [List.length_cons] at this; omega
  obtain ⟨r0, n1, _⟩ := (B q h8).2.1 a b'
  have hl := rq_tr_l X r0 h8
  have ecl : c = (rq_tr (tk, fs, sn, ln, gv) r0 q).length := (nI_eq (by omega) (by omega)).mp (ec.symm.trans n1.1)
  have hnd : ∀ i, i < c → ∃ d, d < 14 ∧ nd (10 * q + i) = nI d := by
    intro i hi
    have hg : (rq_tr (tk, fs, sn, ln, gv) r0 q)[i]? = some ((rq_tr (tk, fs, sn, ln, gv) r0 q)[i]'(by omega)) := List.getElem?_eq_getElem (by omega)
    exact ⟨_, rq_tr_b X h8 (X.2 _ h8).1 _ (List.mem_of_getElem? hg), n1.2 i _ hg⟩
  have hws : rq_ws ((q, false, p, ([] : List Int32)) :: r) = 22 - p + rq_ws r := rfl
  rw [hws] at hm
  by_cases hp : p = c
  · subst hp
    refine rq_x_cend r.length q p r.length (by omega) h8 cq cp ec hc10 hnd hfr (fun b hs => hS _ _ _ _ _ _ _ _ _ _ _ _ _ _ _ _ (Or.inl ⟨r, U, ⟨rq_p_cend X hsc ⟨B, S, C, T⟩ ec hc10 hs, cr, hPL, rfl, htp, hfl⟩, by omega⟩))
  · obtain ⟨d, hd, ed⟩ := hnd p (by omega)
    refine rq_x_cmid r.length q p c d (r.length + 1) (by omega) h8 cq cp ec (by omega) hc10 ed hd hlen hfr (fun hf hst => ?_) (fun hf hst => ?_) (fun h6 hf => ?_)
    · refine hS _ _ _ _ _ _ _ _ _ _ _ _ _ _ _ _ (Or.inl ⟨(q, false, p + 1, []) :: r, U, ⟨rq_p_cadv X ⟨B, S, C, T⟩ ec (by omega) hc10 hd ed hst hf, ⟨cq, cw, pk_us, rq_CF_congr (fun j hj => ⟨rfl, rfl, pk_un (by omega)⟩) cr⟩, hPL, hfr, htp, hfl⟩, ?_⟩)
      show 23 * U.length + (22 - (p + 1) + rq_ws r) < m
      omega
    · refine hS _ _ _ _ _ _ _ _ _ _ _ _ _ _ _ _ (Or.inl ⟨(q, true, 0, []) :: r, U, ⟨rq_p_start X ⟨B, S, C, T⟩, ⟨cq, pk_us, pk_us, rq_CF_congr (fun j hj => ⟨rfl, pk_un (by omega), pk_un (by omega)⟩) cr⟩, hPL, hfr, htp, hfl⟩, ?_⟩)
      show 23 * U.length + (11 - 0 + rq_ws r) < m
      omega
    · refine rq_s_req (K := (q, false, p, []) :: r) (root := root) (U := U) X hsc B S C ?_ (fun x r' e => ?_) (by omega) hf ⟨cq, cw, cp, cr⟩ hPL hfr htp hfl (by rw [hws]; exact hm) hS
      · rcases T with T | ⟨e, _⟩
        · exact Or.inl T
        · exact absurd e (by simp)
      · have e' := (List.cons.inj e).1
        rw [← e']
        refine ⟨by omega, fun w => absurd w (by simp), fun _ => ⟨c, ec, by dsimp only; omega, hc10, ?_⟩⟩
        dsimp only
        rw [show 6 + (d - 6) = d by omega]
        exact ed
theorem rq_s_work {root m q p : Nat} {s : List Int32} {r : List rq_F} {U : List Nat} (X : rq_BX (tk, fs, sn, ln, gv)) (hsc : sc ≤ rv) (RR : rq_RR (tk, fs, sn, ln, gv) rv sc gt root fr tp fl kn sl mm va ca ci sd nc nd fq fw fp pl ((q, true, p, s) :: r) U) (hm : 23 * U.length + rq_ws ((q, true, p, s) :: r) ≤ m)
    (hS : ∀ (fr tp fl : Int32) (kn sl mm va ca ci sd nc nd fq fw fp pl : Nat → Int32), rq_Nx (tk, fs, sn, ln, gv) rv sc gt root m fr tp fl kn sl mm va ca ci sd nc nd fq fw fp pl → post (h, rv, sc, fr, tp, fl, ln, tk, fs, sn, gv, gt, kn, sl, mm, va, ca, ci, sd, nc, nd, fq, fw, fp, pl, wv, wc)) : wpX_workStep post (h, rv, sc, fr, tp, fl, ln, tk, fs, sn, gv, gt, kn, sl, mm, va, ca, ci, sd, nc, nd, fq, fw, fp, pl, wv, wc) (nI r.length) := by
  obtain ⟨R, hCF, hPL, hfr, htp, hfl⟩ := RR
  obtain ⟨B, S, C, T⟩ := R
  obtain ⟨h8, hn, hfw, _⟩ := S.1 _ List.mem_cons_self
  obtain ⟨a, hpL, es, nl, f⟩ := hfw rfl
  dsimp only at h8 hn a hpL es nl f
  obtain ⟨cq, cw, cp, cr⟩ := hCF
  dsimp only at cq cw cp
  have hlen : r.length + 1 ≤ 8 := by have := C.2; rw [List.length_cons] at this; omega
  obtain ⟨hL10, eL, W, hL1⟩ := X.2 q h8
  have eL' : ln q = nI (rq_L (tk, fs, sn, ln, gv) q) := eL
  have hcl := rq_ev_len (tk, fs, sn, ln, gv) (rq_E gv mm) (10 * q) p
  have hsl : s.length = rq_ht tk (10 * q) p := by rw [es]; exact rq_pl_l X _ h8 hpL
  have hsle : s.length ≤ p := by rw [hsl]; exact rq_ht_le _ _ _
  have hfr2 : (rq_fl r).length ≤ 10 * r.length := rq_fl_len X (fun x hx => S.1 x (List.mem_cons_of_mem _ hx))
  have hfl2 : (rq_fl ((q, true, p, s) :: r)).length = s.length + (rq_fl r).length := List.length_append
  have hws : rq_ws ((q, true, p, s) :: r) = 11 - p + rq_ws r := rfl
  rw [hws] at hm
  have ec : nc q = nI (rq_ev (tk, fs, sn, ln, gv) (rq_E gv mm) (10 * q) p).2.length := nl.1
  have hT : (∃ l, rq_qs ((q, true, p, s) :: r) = l ++ [root]) ∨ (((q, true, p, s) :: r : List rq_F) = [] ∧ rq_Fr rv (kn, sl, mm, va, ca, ci, sd, nc, nd) root) := T
  have T1 : ∃ l, rq_qs ((q, true, p, s) :: r) = l ++ [root] := by
    rcases hT with T | ⟨e, _⟩
    · exact T
    · exact absurd e (by simp)
  by_cases hp : p = rq_L (tk, fs, sn, ln, gv) q
  · have hs1 : s.length = 1 := by rw [hsl, hp]; exact hL1
    obtain ⟨v, ev⟩ := List.length_eq_one_iff.mp hs1
    have hPL' : rq_PL pl (v :: rq_fl r) := by rw [ev] at hPL; exact hPL
    have hnd : ∀ i, i < (rq_ev (tk, fs, sn, ln, gv) (rq_E gv mm) (10 * q) p).2.length → ∃ d, d < 14 ∧ nd (10 * q + i) = nI d := by
      intro i hi
      have hg : (rq_ev (tk, fs, sn, ln, gv) (rq_E gv mm) (10 * q) p).2[i]? = some ((rq_ev (tk, fs, sn, ln, gv) (rq_E gv mm) (10 * q) p).2[i]) := List.getElem?_eq_getElem hi
      exact ⟨_, rq_tr_b X h8 (by omega) _ (List.mem_of_getElem? hg), nl.2 i _ hg⟩
    refine rq_x_wend r.length q p _ r.length (rq_fl r).length (by omega) cq cp (by rw [hp]; exact eL') h8 ec (by omega) hnd hfr (by rw [htp, hfl2, hs1, Nat.add_comm]) (by omega) (fun b ca' hs hca => ?_)
    refine hS _ _ _ _ _ _ _ _ _ _ _ _ _ _ _ _ (Or.inl ⟨r, U, ⟨rq_p_wend X hsc ⟨B, S, C, T⟩ hp (by rw [hPL'.1, ev]; rfl) hca (fun hb c' ec' hc' => ?_), cr, hPL'.2, rfl, rfl, hfl⟩, by omega⟩)
    have ee := (nI_eq (by omega) (by omega)).mp (ec'.symm.trans ec)
    rw [ee]
    exact hs hb
  · have hlt : p < rq_L (tk, fs, sn, ln, gv) q := by omega
    have hCF' : rq_CF fq fw (upd fp r.length (nI (p + 1))) r := rq_CF_congr (fun j hj => ⟨rfl, rfl, pk_un (by omega)⟩) cr
    have hmes : ∀ s', 23 * U.length + rq_ws ((q, true, p + 1, s') :: r) < m := by
      intro s'
      show 23 * U.length + (11 - (p + 1) + rq_ws r) < m
      omega
    have hw := W p hlt
    rcases X.1 (10 * q + p) (by omega) with z | ⟨z, j, hj, e⟩ | ⟨z, j, hj, e⟩ | ⟨z, ⟨j, hj, e⟩, j', hj', e'⟩ | ⟨z, -⟩
    · refine rq_x_w0 r.length q p _ _ (by omega) cq cp eL' hL10 hlt h8 htp (by omega) z ?_
      have RI' := rq_p_wnone (x := gv) X ⟨B, S, C, T⟩ hlt (rq_nx_0 z)
      rw [rq_tk_n (z := (s, [])) (rq_nx_0 z)] at RI'
      have z' : tk (10 * q + p) = 0 := z
      dsimp only at RI'
      rw [if_pos z'] at RI'
      exact hS _ _ _ _ _ _ _ _ _ _ _ _ _ _ _ _ (Or.inl ⟨_, U, ⟨RI', ⟨cq, cw, pk_us, hCF'⟩, rq_PL_push rfl hPL, hfr, rfl, hfl⟩, hmes _⟩)
    · have z' : tk (10 * q + p) = 1 := z
      have e1 : fs (10 * q + p) = nI j := e
      refine rq_x_w1 r.length q p _ _ _ j (by omega) cq cp eL' hL10 hlt h8 htp (by omega) z' e1 hj ec (by omega) ?_
      have RI' := rq_p_wdep X ⟨B, S, C, T⟩ hlt (rq_nx_1 z e hj) (fun h6 => absurd h6 (by omega)) ec (by omega)
      dsimp only at RI'
      rw [if_neg (by rw [z']; decide), rq_E_i _ _ hj] at RI'
      exact hS _ _ _ _ _ _ _ _ _ _ _ _ _ _ _ _ (Or.inl ⟨_, U, ⟨RI', ⟨cq, cw, pk_us, hCF'⟩, rq_PL_push rfl hPL, hfr, rfl, hfl⟩, hmes _⟩)
    · have z' : tk (10 * q + p) = 2 := z
      have e1 : fs (10 * q + p) = nI j := e
      refine rq_x_w2 r.length q p _ _ _ j (r.length + 1) (by omega) cq cp eL' hL10 hlt h8 htp (by omega) z' e1 hj ec (by omega) hlen hfr (fun hf => ?_) (fun hf => ?_)
      · have RI' := rq_p_wdep X ⟨B, S, C, T⟩ hlt (rq_nx_2 z e hj) (fun _ => by rw [show 6 + j - 6 = j by omega]; exact hf) ec (by omega)
        dsimp only at RI'
        rw [if_neg (by rw [z']; decide), rq_E_q] at RI'
        exact hS _ _ _ _ _ _ _ _ _ _ _ _ _ _ _ _ (Or.inl ⟨_, U, ⟨RI', ⟨cq, cw, pk_us, hCF'⟩, rq_PL_push rfl hPL, hfr, rfl, hfl⟩, hmes _⟩)
      · refine rq_s_req (K := (q, true, p, s) :: r) (root := root) (U := U) X hsc B S C (Or.inl T1) (fun x r' ee => ?_) hj hf ⟨cq, cw, cp, cr⟩ hPL hfr htp hfl (by rw [hws]; exact hm) hS
        rw [← (List.cons.inj ee).1]
        exact ⟨hj, fun _ => ⟨hlt, rq_nx_2 z e hj⟩, fun w => absurd w (by simp)⟩
    · have z' : tk (10 * q + p) = 3 := z
      have hs1 : 1 ≤ s.length := by rw [hsl]; exact hw.1 z
      obtain ⟨v, s', ev⟩ : ∃ v s', s = v :: s' := by
        cases s with
        | nil => exact absurd hs1 (by decide)
        | cons v s' => exact ⟨v, s', rfl⟩
      have hPL' : rq_PL pl (v :: (s' ++ rq_fl r)) := by rw [ev] at hPL; exact hPL
      have hsl' : s.length = s'.length + 1 := by rw [ev, List.length_cons]
      have hl' : (s' ++ rq_fl r).length = s'.length + (rq_fl r).length := List.length_append
      have htp' : tp = nI ((s' ++ rq_fl r).length + 1) := by
        rw [htp, hfl2, hl', hsl']
        exact congrArg nI (by omega)
      have main : ∀ k, k < 8 → rq_nx (tk, fs, sn, ln, gv) (10 * q + p) s = some (6 + k) → ((pl (s' ++ rq_fl r).length = 0 ∧ sn (10 * q + p) = nI k) ∨ (¬ pl (s' ++ rq_fl r).length = 0 ∧ fs (10 * q + p) = nI k)) → wpX_workStep post (h, rv, sc, fr, tp, fl, ln, tk, fs, sn, gv, gt, kn, sl, mm, va, ca, ci, sd, nc, nd, fq, fw, fp, pl, wv, wc) (nI r.length) := by
        intro k hk hnx hsel
        refine rq_x_w3 r.length q p _ _ _ k (r.length + 1) (by omega) cq cp eL' hL10 hlt h8 htp' (by omega) z' hsel hk ec (by omega) hlen hfr (fun hf => ?_) (fun hf => ?_)
        · have RI' := rq_p_wdep X ⟨B, S, C, T⟩ hlt hnx (fun _ => by rw [show 6 + k - 6 = k by omega]; exact hf) ec (by omega)
          dsimp only at RI'
          rw [if_pos z', rq_E_q, ev] at RI'
          exact hS _ _ _ _ _ _ _ _ _ _ _ _ _ _ _ _ (Or.inl ⟨(q, true, p + 1, mm k :: s') :: r, U, ⟨RI', ⟨cq, cw, pk_us, hCF'⟩, rq_PL_push rfl hPL'.2, hfr, rfl, hfl⟩, hmes _⟩)
        · refine rq_s_req (K := (q, true, p, s) :: r) (root := root) (U := U) X hsc B S C (Or.inl T1) (fun x r' ee => ?_) hk hf ⟨cq, cw, cp, cr⟩ hPL hfr htp hfl (by rw [hws]; exact hm) hS
          rw [← (List.cons.inj ee).1]
          exact ⟨hk, fun _ => ⟨hlt, hnx⟩, fun w => absurd w (by simp)⟩
      by_cases hv : v = 0
      · exact main j' hj' (rq_nx_3t z (by rw [ev]; exact hv) e' hj') (Or.inl ⟨hPL'.1.trans hv, e'⟩)
      · exact main j hj (rq_nx_3f z (by rw [ev]; exact hv) e hj) (Or.inr ⟨fun h0 => hv (hPL'.1.symm.trans h0), e⟩)
    · have z' : tk (10 * q + p) = 4 := z
      have hs2 : 2 ≤ s.length := by rw [hsl]; exact hw.2 z
      obtain ⟨v, v', s', ev⟩ : ∃ v v' s', s = v :: v' :: s' := by
        cases s with
        | nil => exact absurd hs2 (by decide)
        | cons v s' =>
          cases s' with
          | nil => exact absurd hs2 (by simp)
          | cons v' s' => exact ⟨v, v', s', rfl⟩
      have hPL' : rq_PL pl (v :: v' :: (s' ++ rq_fl r)) := by rw [ev] at hPL; exact hPL
      have hsl' : s.length = s'.length + 2 := by rw [ev, List.length_cons, List.length_cons]
      have hl' : (s' ++ rq_fl r).length = s'.length + (rq_fl r).length := List.length_append
      have htp' : tp = nI ((s' ++ rq_fl r).length + 2) := by
        rw [htp, hfl2, hl', hsl']
        exact congrArg nI (by omega)
      refine rq_x_w4 r.length q p _ _ (by omega) cq cp eL' hL10 hlt h8 htp' (by omega) z' ?_
      have RI' := rq_p_wnone (x := gv) X ⟨B, S, C, T⟩ hlt (rq_nx_4 z)
      rw [rq_tk_n (z := (s, [])) (rq_nx_4 z)] at RI'
      dsimp only at RI'
      rw [if_neg (by rw [z']; decide), ev] at RI'
      have p1 : pl (s' ++ rq_fl r).length = v' := hPL'.2.1
      have p2 : pl ((s' ++ rq_fl r).length + 1) = v := hPL'.1
      rw [p1, p2]
      exact hS _ _ _ _ _ _ _ _ _ _ _ _ _ _ _ _ (Or.inl ⟨(q, true, p + 1, rq_op (fs (10 * q + p)) v' v :: s') :: r, U, ⟨RI', ⟨cq, cw, pk_us, hCF'⟩, rq_PL_push rfl hPL'.2.2, hfr, rfl, hfl⟩, hmes _⟩)
end
end
section
/-! X: the loop of ensure, and its answer -/
section
variable {h rv sc fr tp fl : Int32} {ln tk fs sn gv gt kn sl mm va ca ci sd nc nd fq fw fp pl wv wc : Nat → Int32} {post : Int32 → SX → Prop}
theorem rq_ci_BI {D : rq_D} {k : Nat} (B : rq_BI D rv sc gt (kn, sl, mm, va, ca, ci, sd, nc, nd)) (hn : ∀ v, ¬ rq_Der D k v) : rq_BI D rv sc gt (kn, sl, mm, va, ca, upd ci k rv, sd, nc, nd) := by
  intro q hq
  obtain ⟨⟨v1, v2, v3⟩, hm, ho, hci⟩ := B q hq
  refine ⟨⟨v1, v2, ?_⟩, hm, ho, ?_⟩
  · show upd ci k rv q ≤ rv
    by_cases e : q = k
    · rw [e, pk_us]; exact Int32.le_refl rv
    · rw [pk_un e]; exact v3
  · intro e
    have e' : upd ci k rv q = rv := e
    by_cases ek : q = k
    · rw [ek]; exact hn
    · rw [pk_un ek] at e'
      exact hci e'
theorem rq_x_e105 {D : rq_D} {K : List rq_F} (hK : K.length ≤ 8) (hfr : fr = nI K.length) (hfl : fl = 1) (hCF : rq_CF fq fw fp K) (hx : ∀ x, x ∈ K → x.1 < 8 ∧ ∀ v, ¬ rq_Der D x.1 v)
    (hP : ∀ ci : Nat → Int32, rq_BI D rv sc gt (kn, sl, mm, va, ca, ci, sd, nc, nd) → post 0 (h, rv, sc, fr, tp, fl, ln, tk, fs, sn, gv, gt, kn, sl, mm, va, ca, ci, sd, nc, nd, fq, fw, fp, pl, wv, wc)) : ∀ (d i : Nat) (ci : Nat → Int32), i + d = K.length → rq_BI D rv sc gt (kn, sl, mm, va, ca, ci, sd, nc, nd) → wX_ensure_105 post h rv sc fr tp fl (d + 1) (nI i) ln tk fs sn gv gt kn sl mm va ca ci sd nc nd fq fw fp pl wv wc := by
  subst hfr
  subst hfl
  intro d
  induction d with
  | zero =>
    intro i ci hi B
    have e : i = K.length := by omega
    subst e
    rw [wX_ensure_105]
    refine br_t (Int32.le_refl _) ?_
    unfold wX_ensure_134
    exact br_f (by decide) (hP ci B)
  | succ d ih =>
    intro i ci hi B
    have hii : vp_in (nI i) 8 := vp_in_nI (by omega) (by omega)
    have hci : (nI i).toNatClampNeg = i := nI_clamp (by omega)
    obtain ⟨x, hxK, ex⟩ := rq_CF_ex hCF i (by omega)
    obtain ⟨x8, xd⟩ := hx x hxK
    have hix : vp_in (nI x.1) 8 := vp_in_nI x8 (by omega)
    have hcx : (nI x.1).toNatClampNeg = x.1 := nI_clamp (by omega)
    rw [wX_ensure_105]
    dsimp only
    rw [hci, ex, hcx]
    exact br_f (nI_ge (by omega) (by omega)) ⟨hii, hix, nm_e (nm_r (nI_1 i) (ih (i + 1) _ (by omega) (rq_ci_BI B xd)))⟩
theorem rq_x_e86 {root : Nat} (hr : root < 8)
    (hP1 : ∀ (fr tp : Int32) (kn sl mm va ca ci sd nc nd fq fw fp pl : Nat → Int32), rq_BI (tk, fs, sn, ln, gv) rv sc gt (kn, sl, mm, va, ca, ci, sd, nc, nd) → rq_Fr rv (kn, sl, mm, va, ca, ci, sd, nc, nd) root → post 1 (h, rv, sc, fr, tp, 0, ln, tk, fs, sn, gv, gt, kn, sl, mm, va, ca, ci, sd, nc, nd, fq, fw, fp, pl, wv, wc))
    (hP0 : ∀ (fr tp : Int32) (kn sl mm va ca ci sd nc nd fq fw fp pl : Nat → Int32), rq_BI (tk, fs, sn, ln, gv) rv sc gt (kn, sl, mm, va, ca, ci, sd, nc, nd) → (∀ v, ¬ rq_Der (tk, fs, sn, ln, gv) root v) → post 0 (h, rv, sc, fr, tp, 1, ln, tk, fs, sn, gv, gt, kn, sl, mm, va, ca, ci, sd, nc, nd, fq, fw, fp, pl, wv, wc))
    (H : (∃ U, rq_RR (tk, fs, sn, ln, gv) rv sc gt root fr tp fl kn sl mm va ca ci sd nc nd fq fw fp pl [] U) ∨ ∃ K, rq_RX (tk, fs, sn, ln, gv) rv sc gt root fr fl kn sl mm va ca ci sd nc nd fq fw fp K) : wX_ensure_86 post (nI root) h rv sc fr tp fl ln tk fs sn gv gt kn sl mm va ca ci sd nc nd fq fw fp pl wv wc := by
  have hir : vp_in (nI root) 8 := vp_in_nI hr (by omega)
  have hcr : (nI root).toNatClampNeg = root := nI_clamp (by omega)
  unfold wX_ensure_86
  rw [hcr]
  rcases H with ⟨U, R, _, _, _, _, e⟩ | ⟨K, B, hCF, hfr, hK, e, hx, hd⟩
  · subst e
    refine br_t rfl ?_
    unfold wX_ensure_134
    refine br_t rfl (hP1 _ _ _ _ _ _ _ _ _ _ _ _ _ _ _ R.1 ?_)
    rcases R.2.2.2 with ⟨l, el⟩ | ⟨_, hf⟩
    · have el' : ([] : List Nat) = l ++ [root] := el
      exact absurd el' (by simp)
    · exact hf
  · subst e
    refine br_f (by decide) ⟨hir, nm_e ⟨K.length + 1, ?_⟩⟩
    exact rq_x_e105 hK hfr rfl hCF hx (fun ci B' => hP0 _ _ _ _ _ _ _ _ _ _ _ _ _ _ _ B' hd) K.length 0 _ (by omega) (rq_ci_BI B hd)
theorem rq_x_e30 {root : Nat} (X : rq_BX (tk, fs, sn, ln, gv)) (hsc : sc ≤ rv) (hr : root < 8)
    (hP1 : ∀ (fr tp : Int32) (kn sl mm va ca ci sd nc nd fq fw fp pl : Nat → Int32), rq_BI (tk, fs, sn, ln, gv) rv sc gt (kn, sl, mm, va, ca, ci, sd, nc, nd) → rq_Fr rv (kn, sl, mm, va, ca, ci, sd, nc, nd) root → post 1 (h, rv, sc, fr, tp, 0, ln, tk, fs, sn, gv, gt, kn, sl, mm, va, ca, ci, sd, nc, nd, fq, fw, fp, pl, wv, wc))
    (hP0 : ∀ (fr tp : Int32) (kn sl mm va ca ci sd nc nd fq fw fp pl : Nat → Int32), rq_BI (tk, fs, sn, ln, gv) rv sc gt (kn, sl, mm, va, ca, ci, sd, nc, nd) → (∀ v, ¬ rq_Der (tk, fs, sn, ln, gv) root v) → post 0 (h, rv, sc, fr, tp, 1, ln, tk, fs, sn, gv, gt, kn, sl, mm, va, ca, ci, sd, nc, nd, fq, fw, fp, pl, wv, wc)) :
    ∀ (N i m : Nat) (fr tp fl : Int32) (kn sl mm va ca ci sd nc nd fq fw fp pl : Nat → Int32), m ≤ N → i + m ≤ 1000 → rq_Nx (tk, fs, sn, ln, gv) rv sc gt root m fr tp fl kn sl mm va ca ci sd nc nd fq fw fp pl → wX_ensure_30 post (nI root) (N + 1) (nI i) h rv sc fr tp fl ln tk fs sn gv gt kn sl mm va ca ci sd nc nd fq fw fp pl wv wc := by
  intro N
  induction N with
  | zero =>
    intro i m fr tp fl kn sl mm va ca ci sd nc nd fq fw fp pl hm him H
    rcases H with ⟨K, U, _, hlt⟩ | H
    · omega
    · rw [wX_ensure_30]
      refine br_f (nI_ge (b := 4000) (by omega) (by decide)) ?_
      have hfl : fl = 1 := H.choose_spec.2.2.2.2.1
      have h86 := rq_x_e86 (h := h) (tp := tp) (pl := pl) (wv := wv) (wc := wc) (post := post) hr hP1 hP0 (Or.inr H)
      exact br_c (fun _ => h86) (fun _ => br_f (by rw [hfl]; decide) h86)
  | succ N ih =>
    intro i m fr tp fl kn sl mm va ca ci sd nc nd fq fw fp pl hm him H
    rw [wX_ensure_30]
    refine br_f (nI_ge (b := 4000) (by omega) (by decide)) ?_
    rcases H with ⟨K, U, RR, hlt⟩ | H
    · cases K with
      | nil =>
        have h86 := rq_x_e86 (h := h) (tp := tp) (pl := pl) (wv := wv) (wc := wc) (post := post) hr hP1 hP0 (Or.inl ⟨U, RR⟩)
        have hfr : fr = nI 0 := RR.2.2.2.1
        exact br_t (by rw [hfr]; decide) h86
      | cons x r =>
        have hfr : fr = nI (r.length + 1) := RR.2.2.2.1
        have hfl : fl = 0 := RR.2.2.2.2.2
        have hlen : r.length + 1 ≤ 8 := by have := RR.1.2.2.1.2; rw [List.length_cons] at this; omega
        have hif : vp_in (nI r.length) 8 := vp_in_nI (by omega) (by omega)
        have hcf : (nI r.length).toNatClampNeg = r.length := nI_clamp (by omega)
        have hfw := RR.2.1.2.1
        refine br_f (by rw [hfr]; exact nI_nle (by omega) (by omega)) (br_t hfl (nm_r (e' := nI r.length) (by rw [hfr]; exact nI_pred _) ⟨hif, ?_⟩))
        rw [hcf, hfw]
        obtain ⟨q, w, p, s⟩ := x
        cases w with
        | false => exact br_t rfl (rq_s_check X hsc RR (Nat.le_refl _) (fun fr tp fl kn sl mm va ca ci sd nc nd fq fw fp pl hN => nm_r (nI_1 i) (ih (i + 1) _ _ _ _ _ _ _ _ _ _ _ _ _ _ _ _ _ (by omega) (by omega) hN)))
        | true => exact br_f (show ¬ (1 : Int32) = 0 by decide) (rq_s_work X hsc RR (Nat.le_refl _) (fun fr tp fl kn sl mm va ca ci sd nc nd fq fw fp pl hN => nm_r (nI_1 i) (ih (i + 1) _ _ _ _ _ _ _ _ _ _ _ _ _ _ _ _ _ (by omega) (by omega) hN)))
    · have hfl : fl = 1 := H.choose_spec.2.2.2.2.1
      have h86 := rq_x_e86 (h := h) (tp := tp) (pl := pl) (wv := wv) (wc := wc) (post := post) hr hP1 hP0 (Or.inr H)
      exact br_c (fun _ => h86) (fun _ => br_f (by rw [hfl]; decide) h86)
/-- ensure: its answer is whether q can be derived, and then its value is fresh -/
theorem rq_x_ensure {q : Nat} (X : rq_BX (tk, fs, sn, ln, gv)) (hsc : sc ≤ rv) (hq : q < 8) (B : rq_BI (tk, fs, sn, ln, gv) rv sc gt (kn, sl, mm, va, ca, ci, sd, nc, nd))
    (hP1 : ∀ (fr tp : Int32) (kn sl mm va ca ci sd nc nd fq fw fp pl : Nat → Int32), rq_BI (tk, fs, sn, ln, gv) rv sc gt (kn, sl, mm, va, ca, ci, sd, nc, nd) → rq_Fr rv (kn, sl, mm, va, ca, ci, sd, nc, nd) q → post 1 (h, rv, sc, fr, tp, 0, ln, tk, fs, sn, gv, gt, kn, sl, mm, va, ca, ci, sd, nc, nd, fq, fw, fp, pl, wv, wc))
    (hP0 : ∀ (fr tp : Int32) (kn sl mm va ca ci sd nc nd fq fw fp pl : Nat → Int32), rq_BI (tk, fs, sn, ln, gv) rv sc gt (kn, sl, mm, va, ca, ci, sd, nc, nd) → (∀ v, ¬ rq_Der (tk, fs, sn, ln, gv) q v) → post 0 (h, rv, sc, fr, tp, 1, ln, tk, fs, sn, gv, gt, kn, sl, mm, va, ca, ci, sd, nc, nd, fq, fw, fp, pl, wv, wc)) : wpX_ensure post (h, rv, sc, fr, tp, fl, ln, tk, fs, sn, gv, gt, kn, sl, mm, va, ca, ci, sd, nc, nd, fq, fw, fp, pl, wv, wc) (nI q) := by
  have S0 : rq_SK (tk, fs, sn, ln, gv) rv sc gt (kn, sl, mm, va, ca, ci, sd, nc, nd) [] := ⟨fun x hx => absurd hx List.not_mem_nil, List.nodup_nil, trivial⟩
  have C0 : rq_UC rv (kn, sl, mm, va, ca, ci, sd, nc, nd) [] (List.range 8) := ⟨fun j hj _ _ => List.mem_range.mpr hj, by decide⟩
  unfold wpX_ensure
  dsimp only
  refine rq_x_fresh q hq (fun z => br_f (by decide) ⟨201, ?_⟩) (fun z => br_t rfl ?_)
  · exact rq_x_e30 X hsc hq hP1 hP0 200 0 200 _ _ _ _ _ _ _ _ _ _ _ _ _ _ _ _ (Nat.le_refl _) (by decide) (Or.inl ⟨[], List.range 8, ⟨⟨B, S0, C0, Or.inr ⟨rfl, z⟩⟩, trivial, trivial, rfl, rfl, rfl⟩, by decide⟩)
  · refine rq_x_req 0 q (by decide) hq rfl ?_
    refine rq_s_req (K := []) (root := q) (m := 200) (U := List.range 8) X hsc B S0 C0 (Or.inr ⟨rfl, rfl⟩) (fun x r e => absurd e (by simp)) hq z trivial trivial rfl rfl rfl (by decide) (fun fr tp fl kn sl mm va ca ci sd nc nd fq fw fp pl hN => ?_)
    exact ⟨201, rq_x_e30 X hsc hq hP1 hP0 200 0 200 _ _ _ _ _ _ _ _ _ _ _ _ _ _ _ _ (Nat.le_refl _) (by decide) hN⟩
end
end
section
/-! Y: one token -/
/-- the same token in both tables -/
def rq_TY (D : rq_D) (kd yf : Nat → Int32) (i : Nat) : Prop :=
  (D.1 i = 0 ∧ kd i = 0 ∧ yf i = D.2.1 i) ∨ (D.1 i = 1 ∧ kd i = 1 ∧ yf i = D.2.1 i ∧ ∃ j, j < 6 ∧ D.2.1 i = nI j) ∨ (D.1 i = 2 ∧ kd i = 2 ∧ yf i = D.2.1 i ∧ ∃ j, j < 8 ∧ D.2.1 i = nI j) ∨
  (D.1 i = 3 ∧ kd i = 3 ∧ yf i = D.2.1 i ∧ (∃ j, j < 8 ∧ D.2.1 i = nI j) ∧ ∃ j, j < 8 ∧ D.2.2.1 i = nI j) ∨ (D.1 i = 4 ∧ ∃ o, o < 4 ∧ D.2.1 i = nI o ∧ kd i = nI (4 + o))
theorem rq_TY_TX {D : rq_D} {kd yf : Nat → Int32} {i : Nat} (T : rq_TY D kd yf i) : rq_TX D i := by
  rcases T with ⟨a, _⟩ | ⟨a, _, _, b⟩ | ⟨a, _, _, b⟩ | ⟨a, _, _, b, c⟩ | ⟨a, o, ho, b, _⟩
  · exact Or.inl a
  · exact Or.inr (Or.inl ⟨a, b⟩)
  · exact Or.inr (Or.inr (Or.inl ⟨a, b⟩))
  · exact Or.inr (Or.inr (Or.inr (Or.inl ⟨a, b, c⟩)))
  · exact Or.inr (Or.inr (Or.inr (Or.inr ⟨a, o, ho, b⟩)))
def rq_bit (d : Nat) : Int32 := (1 : Int32) <<< (nI d &&& 31)
/-- what a need of d adds to a set -/
def rq_up (yn : Nat → Int32) (d : Nat) (a : Int32) : Int32 := if d < 6 then a ||| rq_bit d else (a ||| yn (d - 6)) ||| rq_bit d
def rq_fm (yn : Nat → Int32) (l : List Nat) : Int32 := l.foldl (fun a d => rq_up yn d a) 0
theorem rq_fm_s (yn : Nat → Int32) (l : List Nat) (d : Nat) : rq_fm yn (l ++ [d]) = rq_up yn d (rq_fm yn l) := by
  unfold rq_fm
  rw [List.foldl_append]
  rfl
theorem rq_up_congr {yn yn' : Nat → Int32} {d : Nat} (h : 6 ≤ d → yn' (d - 6) = yn (d - 6)) (a : Int32) : rq_up yn' d a = rq_up yn d a := by
  unfold rq_up
  by_cases h6 : d < 6
  · rw [if_pos h6, if_pos h6]
  · rw [if_neg h6, if_neg h6, h (by omega)]
theorem rq_fm_congr {yn yn' : Nat → Int32} : ∀ {l : List Nat} {a : Int32}, (∀ d, d ∈ l → 6 ≤ d → yn' (d - 6) = yn (d - 6)) → l.foldl (fun a d => rq_up yn' d a) a = l.foldl (fun a d => rq_up yn d a) a
  | [], _, _ => rfl
  | d :: l, a, H => by
    show l.foldl (fun a d => rq_up yn' d a) (rq_up yn' d a) = l.foldl (fun a d => rq_up yn d a) (rq_up yn d a)
    rw [rq_up_congr (H d List.mem_cons_self)]
    exact rq_fm_congr (fun d' h' => H d' (List.mem_cons_of_mem _ h'))
section
variable {h yt : Int32} {gv kd yf sn ln yp vs yk yn ov ok : Nat → Int32}
theorem rq_y_push {post : SY → Prop} (n : Nat) (v : Int32) (ht : yt = nI n) (hn : n < 10) (hP : post (h, nI (n + 1), gv, kd, yf, sn, ln, upd yp n v, vs, yk, yn, ov, ok)) : wpY_push post (h, yt, gv, kd, yf, sn, ln, yp, vs, yk, yn, ov, ok) v := by
  subst ht
  have hi : vp_in (nI n) 10 := vp_in_nI hn (by omega)
  have hc : (nI n).toNatClampNeg = n := nI_clamp (by omega)
  unfold wpY_push
  dsimp only
  rw [hc]
  exact br_f (nI_ge (b := 10) hn (by decide)) ⟨hi, nm_e (nm_r (nI_1 n) hP)⟩
theorem rq_y_pop {post : Int32 → SY → Prop} (n : Nat) (ht : yt = nI (n + 1)) (hn : n < 10) (hP : post (yp n) (h, nI n, gv, kd, yf, sn, ln, yp, vs, yk, yn, ov, ok)) : wpY_pop post (h, yt, gv, kd, yf, sn, ln, yp, vs, yk, yn, ov, ok) := by
  subst ht
  have hi : vp_in (nI n) 10 := vp_in_nI hn (by omega)
  have hc : (nI n).toNatClampNeg = n := nI_clamp (by omega)
  unfold wpY_pop
  dsimp only
  exact br_f (nI_ne0 (by omega) (by omega)) (nm_r (nI_pred n) ⟨hi, by rw [hc]; exact hP⟩)
theorem rq_y_op {post : SY → Prop} (n o : Nat) (ho : o < 4) (ht : yt = nI (n + 2)) (hn : n + 2 ≤ 10) (hP : post (h, nI (n + 1), gv, kd, yf, sn, ln, upd yp n (rq_op (nI o) (yp n) (yp (n + 1))), vs, yk, yn, ov, ok)) : wpY_operate post (h, yt, gv, kd, yf, sn, ln, yp, vs, yk, yn, ov, ok) (nI (4 + o)) := by
  unfold wpY_operate
  dsimp only
  refine rq_y_pop (n + 1) ht (by omega) ?_
  dsimp only
  refine rq_y_pop n rfl (by omega) ?_
  dsimp only
  have ho4 : o = 0 ∨ o = 1 ∨ o = 2 ∨ o = 3 := by omega
  rcases ho4 with rfl | rfl | rfl | rfl
  · exact br_t rfl (rq_y_push n _ rfl (by omega) hP)
  · exact br_f (by decide) (br_t rfl (rq_y_push n _ rfl (by omega) hP))
  · exact br_f (by decide) (br_f (by decide) (br_t rfl (rq_y_push n _ rfl (by omega) hP)))
  · have hop : rq_op (nI 3) (yp n) (yp (n + 1)) = if yp (n + 1) ≤ yp n then 0 else 1 := by
      unfold rq_op
      rw [if_neg (by decide), if_neg (by decide), if_neg (by decide)]
    refine br_f (by decide) (br_f (by decide) (br_f (by decide) (br_c (fun z => ?_) (fun z => ?_))))
    · rw [hop, if_pos z] at hP
      unfold wY_operate_67
      exact rq_y_push n _ rfl (by omega) hP
    · rw [hop, if_neg z] at hP
      unfold wY_operate_67
      exact rq_y_push n _ rfl (by omega) hP
theorem rq_y_134 {post : Int32 → SY → Prop} (q k n : Nat) (hq : q < 8) (hk : k < 8) (ht : yt = nI n) (hn : n < 10)
    (hU : yk k = 0 → post (nI k) (h, yt, gv, kd, yf, sn, ln, yp, vs, yk, yn, ov, ok))
    (hK : yk k ≠ 0 → post (-1) (h, nI (n + 1), gv, kd, yf, sn, ln, upd yp n (vs k), vs, yk, upd yn q (rq_up yn (6 + k) (yn q)), ov, ok)) : wY_step_134 post (nI q) (nI k) h yt gv kd yf sn ln yp vs yk yn ov ok := by
  have hiq : vp_in (nI q) 8 := vp_in_nI hq (by omega)
  have hik : vp_in (nI k) 8 := vp_in_nI hk (by omega)
  have hcq : (nI q).toNatClampNeg = q := nI_clamp (by omega)
  have hck : (nI k).toNatClampNeg = k := nI_clamp (by omega)
  have eup : ((yn q ||| yn k) ||| ((1 : Int32) <<< ((6 + nI k) &&& 31))) = rq_up yn (6 + k) (yn q) := by
    unfold rq_up
    rw [if_neg (by omega), show 6 + k - 6 = k by omega, rq_6k]
    rfl
  unfold wY_step_134
  rw [hcq, hck, eup]
  exact ⟨hik, br_c hU (fun z => ⟨hiq, hik, hiq, nm_e ⟨hik, rq_y_push n _ ht hn (hK z)⟩⟩)⟩
end
section
variable {h yt : Int32} {tk fs gv kd yf sn ln yp vs yk yn ov ok : Nat → Int32}
theorem rq_y_step {post : Int32 → SY → Prop} (q i : Nat) (s : List Int32) (hq : q < 8) (hi : i < 90) (T : rq_TY (tk, fs, sn, ln, gv) kd yf i) (hPL : rq_PL yp s) (ht : yt = nI s.length) (hs : s.length < 10) (h3 : tk i = 3 → 1 ≤ s.length) (h4 : tk i = 4 → 2 ≤ s.length)
    (hN : ∀ yp', rq_nx (tk, fs, sn, ln, gv) i s = none → rq_PL yp' (rq_tk (tk, fs, sn, ln, gv) gv i (s, [])).1 → post (-1) (h, nI (rq_tk (tk, fs, sn, ln, gv) gv i (s, [])).1.length, gv, kd, yf, sn, ln, yp', vs, yk, yn, ov, ok))
    (hS : ∀ d yp', rq_nx (tk, fs, sn, ln, gv) i s = some d → (6 ≤ d → yk (d - 6) ≠ 0) → rq_PL yp' (rq_E gv vs d :: (if tk i = 3 then s.tail else s)) → post (-1) (h, nI (rq_E gv vs d :: (if tk i = 3 then s.tail else s)).length, gv, kd, yf, sn, ln, yp', vs, yk, upd yn q (rq_up yn d (yn q)), ov, ok))
    (hU : ∀ k yt', k < 8 → rq_nx (tk, fs, sn, ln, gv) i s = some (6 + k) → yk k = 0 → post (nI k) (h, yt', gv, kd, yf, sn, ln, yp, vs, yk, yn, ov, ok)) : wpY_step post (h, yt, gv, kd, yf, sn, ln, yp, vs, yk, yn, ov, ok) (nI i) (nI q) := by
  have hii : vp_in (nI i) 90 := vp_in_nI hi (by omega)
  have hci : (nI i).toNatClampNeg = i := nI_clamp (by omega)
  have hiq : vp_in (nI q) 8 := vp_in_nI hq (by omega)
  have hcq : (nI q).toNatClampNeg = q := nI_clamp (by omega)
  unfold wpY_step
  dsimp only
  rw [hci]
  rcases T with ⟨a, b, c⟩ | ⟨a, b, c, j, hj, e⟩ | ⟨a, b, c, j, hj, e⟩ | ⟨a, b, c, ⟨j, hj, e⟩, j', hj', e'⟩ | ⟨a, o, ho, e, b⟩
  · have a' : tk i = 0 := a
    have c' : yf i = fs i := c
    have hn := hN (upd yp s.length (fs i)) (rq_nx_0 a)
    rw [rq_tk_n (z := (s, [])) (rq_nx_0 a)] at hn
    dsimp only at hn
    rw [if_pos a'] at hn
    rw [b, c']
    exact ⟨hii, br_t rfl ⟨hii, rq_y_push s.length _ ht hs (hn (rq_PL_push rfl hPL))⟩⟩
  · have a' : tk i = 1 := a
    have c' : yf i = nI j := c.trans e
    have hcj : (nI j).toNatClampNeg = j := nI_clamp (by omega)
    have hij : vp_in (nI j) 6 := vp_in_nI hj (by omega)
    have hs' := hS j (upd yp s.length (gv j)) (rq_nx_1 a e hj) (fun h6 => absurd h6 (by omega))
    have eup : rq_up yn j (yn q) = yn q ||| ((1 : Int32) <<< (nI j &&& 31)) := if_pos hj
    rw [if_neg (by rw [a']; decide), rq_E_i _ _ hj, eup] at hs'
    rw [b, c', hcq, hcj]
    exact ⟨hii, br_f (by decide) ⟨hii, br_t rfl ⟨hiq, hii, hiq, nm_e ⟨hii, hij, rq_y_push s.length _ ht hs (hs' (rq_PL_push rfl hPL))⟩⟩⟩⟩
  · have a' : tk i = 2 := a
    have c' : yf i = nI j := c.trans e
    have hs' := fun (z : yk j ≠ 0) => hS (6 + j) (upd yp s.length (vs j)) (rq_nx_2 a e hj) (fun _ => by rw [show 6 + j - 6 = j by omega]; exact z)
    rw [if_neg (by rw [a']; decide), rq_E_q] at hs'
    rw [b, c']
    exact ⟨hii, br_f (by decide) ⟨hii, br_f (by decide) ⟨hii, br_t (by decide) ⟨hii, nm_e ⟨hii, br_f (by decide) (rq_y_134 q j s.length hq hj ht hs (fun z => hU j _ hj (rq_nx_2 a e hj) z) (fun z => hs' z (rq_PL_push rfl hPL)))⟩⟩⟩⟩⟩
  · have a' : tk i = 3 := a
    have c' : yf i = nI j := c.trans e
    have e2 : sn i = nI j' := e'
    obtain ⟨v, s', ev⟩ : ∃ v s', s = v :: s' := by
      have := h3 a'
      cases s with
      | nil => exact absurd this (by decide)
      | cons v s' => exact ⟨v, s', rfl⟩
    subst ev
    have hl : (v :: s').length = s'.length + 1 := rfl
    rw [hl] at ht hs
    obtain ⟨p1, p2⟩ := hPL
    rw [b, c']
    refine ⟨hii, br_f (by decide) ⟨hii, br_f (by decide) ⟨hii, br_t (by decide) ⟨hii, nm_e ⟨hii, br_t rfl ?_⟩⟩⟩⟩⟩
    refine rq_y_pop s'.length ht (by omega) ?_
    dsimp only
    rw [e2, c', p1]
    by_cases hv : v = 0
    · have hx := rq_nx_3t (D := (tk, fs, sn, ln, gv)) (s := v :: s') a hv e' hj'
      have hs' := fun (z : yk j' ≠ 0) => hS (6 + j') (upd yp s'.length (vs j')) hx (fun _ => by rw [show 6 + j' - 6 = j' by omega]; exact z)
      rw [if_pos a', rq_E_q] at hs'
      refine br_t hv ⟨hii, ?_⟩
      unfold wY_step_133
      exact rq_y_134 q j' s'.length hq hj' rfl (by omega) (fun z => hU j' _ hj' hx z) (fun z => hs' z (rq_PL_push rfl p2))
    · have hx := rq_nx_3f (D := (tk, fs, sn, ln, gv)) (s := v :: s') a hv e hj
      have hs' := fun (z : yk j ≠ 0) => hS (6 + j) (upd yp s'.length (vs j)) hx (fun _ => by rw [show 6 + j - 6 = j by omega]; exact z)
      rw [if_pos a', rq_E_q] at hs'
      refine br_f hv ⟨hii, ?_⟩
      unfold wY_step_133
      exact rq_y_134 q j s'.length hq hj rfl (by omega) (fun z => hU j _ hj hx z) (fun z => hs' z (rq_PL_push rfl p2))
  · have a' : tk i = 4 := a
    have e2 : fs i = nI o := e
    obtain ⟨v, v', s', ev⟩ : ∃ v v' s', s = v :: v' :: s' := by
      have := h4 a'
      cases s with
      | nil => exact absurd this (by decide)
      | cons v s' =>
        cases s' with
        | nil => exact absurd this (by simp)
        | cons v' s' => exact ⟨v, v', s', rfl⟩
    subst ev
    have hl : (v :: v' :: s').length = s'.length + 2 := rfl
    rw [hl] at ht hs
    obtain ⟨p1, p2, p3⟩ := hPL
    have hn := hN (upd yp s'.length (rq_op (nI o) v' v)) (rq_nx_4 a)
    rw [rq_tk_n (z := (v :: v' :: s', [])) (rq_nx_4 a)] at hn
    dsimp only at hn
    rw [if_neg (by rw [a']; decide), e2] at hn
    have hP := hn (rq_PL_push rfl p3)
    rw [b]
    refine ⟨hii, br_f (fun z => ?_) ⟨hii, br_f (fun z => ?_) ⟨hii, br_f (fun z => ?_) ⟨hii, ?_⟩⟩⟩⟩
    · exact nI_ne0 (n := 4 + o) (by omega) (by omega) z
    · have z' : nI (4 + o) = nI 1 := z
      have := (nI_eq (by omega) (by omega)).mp z'
      omega
    · exact nI_ge (a := 3) (b := 4 + o) (by omega) (by omega) z
    · refine rq_y_op s'.length o ho ht (by omega) ?_
      have q1 : yp s'.length = v' := p2
      have q2 : yp (s'.length + 1) = v := p1
      rw [q1, q2]
      exact hP
end
end
section
/-! Y: a body worked off, and all of them until nothing is new -/
def rq_Stk (D : rq_D) (E yk : Nat → Int32) (q : Nat) : Prop :=
  ∃ i k, i < rq_L D q ∧ k < 8 ∧ yk k = 0 ∧ rq_nx D (10 * q + i) (rq_ev D E (10 * q) i).1 = some (6 + k) ∧ ∀ d, d ∈ (rq_ev D E (10 * q) i).2 → 6 ≤ d → yk (d - 6) ≠ 0
theorem rq_ix2 (q i : Nat) : 10 * nI q + nI i = nI (10 * q + i) := by
  show nI 10 * nI q + nI i = _
  rw [pk_mul, nI_add]
section
variable {h yt : Int32} {tk fs gv kd yf sn ln yp vs yk yn ov ok : Nat → Int32}
theorem rq_y_wo14 {post : Int32 → SY → Prop} {q : Nat} (X : rq_BX (tk, fs, sn, ln, gv)) (hT : ∀ i, i < 90 → rq_TY (tk, fs, sn, ln, gv) kd yf i) (hq : q < 8) (hkq : yk q = 0)
    (hF : ∀ (yt : Int32) (yp yn' : Nat → Int32), (∀ j, j ≠ q → yn' j = yn j) → rq_Stk (tk, fs, sn, ln, gv) (rq_E gv vs) yk q → post 0 (h, yt, gv, kd, yf, sn, ln, yp, vs, yk, yn', ov, ok))
    (hS : ∀ (yt : Int32) (yp yn' : Nat → Int32), (∀ j, j ≠ q → yn' j = yn j) → (∀ d, d ∈ rq_tr (tk, fs, sn, ln, gv) (rq_E gv vs) q → 6 ≤ d → yk (d - 6) ≠ 0) → yn' q = rq_fm yn (rq_tr (tk, fs, sn, ln, gv) (rq_E gv vs) q) → post 1 (h, yt, gv, kd, yf, sn, ln, yp, upd vs q (rq_vl (tk, fs, sn, ln, gv) (rq_E gv vs) q), yk, yn', ov, ok)) :
    ∀ (dd i : Nat) (yt : Int32) (yp yn' : Nat → Int32), i + dd = rq_L (tk, fs, sn, ln, gv) q → yt = nI (rq_ev (tk, fs, sn, ln, gv) (rq_E gv vs) (10 * q) i).1.length → rq_PL yp (rq_ev (tk, fs, sn, ln, gv) (rq_E gv vs) (10 * q) i).1 → (∀ j, j ≠ q → yn' j = yn j) → yn' q = rq_fm yn (rq_ev (tk, fs, sn, ln, gv) (rq_E gv vs) (10 * q) i).2 → (∀ d, d ∈ (rq_ev (tk, fs, sn, ln, gv) (rq_E gv vs) (10 * q) i).2 → 6 ≤ d → yk (d - 6) ≠ 0) → wY_workOff_14 post (nI q) (dd + 1) (nI i) h yt gv kd yf sn ln yp vs yk yn' ov ok := by
  have hiq : vp_in (nI q) 9 := vp_in_nI (by omega) (by omega)
  have hiq8 : vp_in (nI q) 8 := vp_in_nI hq (by omega)
  have hcq : (nI q).toNatClampNeg = q := nI_clamp (by omega)
  obtain ⟨hL10, eL, W, hL1⟩ := X.2 q hq
  have eL' : ln q = nI (rq_L (tk, fs, sn, ln, gv) q) := eL
  intro dd
  induction dd with
  | zero =>
    intro i yt yp yn' hi ht hPL hoff hm hk
    have ei : i = rq_L (tk, fs, sn, ln, gv) q := by omega
    subst ei
    have hlen : (rq_ev (tk, fs, sn, ln, gv) (rq_E gv vs) (10 * q) (rq_L (tk, fs, sn, ln, gv) q)).1.length = 1 := (rq_pl_l X _ hq (Nat.le_refl _)).trans hL1
    obtain ⟨v, ev⟩ := List.length_eq_one_iff.mp hlen
    rw [ev] at hPL
    have hv : v = rq_vl (tk, fs, sn, ln, gv) (rq_E gv vs) q := by
      unfold rq_vl
      rw [ev]
      rfl
    rw [wY_workOff_14]
    dsimp only
    rw [hcq, eL']
    refine ⟨hiq, br_t (Int32.le_refl _) (rq_y_pop 0 (by rw [ht, hlen]) (by decide) ?_)⟩
    have p0 : yp 0 = v := hPL.1
    refine ⟨hiq8, nm_r (e' := upd vs q (rq_vl (tk, fs, sn, ln, gv) (rq_E gv vs) q)) (by show upd vs q (yp 0) = _; rw [p0, hv]) (hS _ _ _ hoff hk hm)⟩
  | succ dd ih =>
    intro i yt yp yn' hi ht hPL hoff hm hk
    have hlen := rq_pl_l X (rq_E gv vs) hq (show i ≤ rq_L (tk, fs, sn, ln, gv) q by omega)
    have hle := rq_ht_le tk (10 * q) i
    have w := W i (by omega)
    rw [wY_workOff_14]
    dsimp only
    rw [hcq, eL', rq_ix2]
    refine ⟨hiq, br_f (nI_ge (by omega) (by omega)) ?_⟩
    have hl2 : (rq_ev (tk, fs, sn, ln, gv) (rq_E gv vs) (10 * q) i).1.length ≤ i := by rw [hlen]; exact hle
    refine rq_y_step q (10 * q + i) (rq_ev (tk, fs, sn, ln, gv) (rq_E gv vs) (10 * q) i).1 hq (by omega) (hT _ (by omega)) hPL ht (by omega) (fun z => by rw [hlen]; exact w.1 z) (fun z => by rw [hlen]; exact w.2 z) (fun yp' hnx hPL' => ?_) (fun d yp' hnx hd hPL' => ?_) (fun k yt' hk8 hnx hz => ?_)
    · have e1 : (rq_ev (tk, fs, sn, ln, gv) (rq_E gv vs) (10 * q) (i + 1)).1 = (rq_tk (tk, fs, sn, ln, gv) gv (10 * q + i) ((rq_ev (tk, fs, sn, ln, gv) (rq_E gv vs) (10 * q) i).1, [])).1 := by
        show (rq_tk (tk, fs, sn, ln, gv) (rq_E gv vs) (10 * q + i) (rq_ev (tk, fs, sn, ln, gv) (rq_E gv vs) (10 * q) i)).1 = _
        rw [rq_tk_n hnx, rq_tk_n (z := ((rq_ev (tk, fs, sn, ln, gv) (rq_E gv vs) (10 * q) i).1, [])) hnx]
      have e2 : (rq_ev (tk, fs, sn, ln, gv) (rq_E gv vs) (10 * q) (i + 1)).2 = (rq_ev (tk, fs, sn, ln, gv) (rq_E gv vs) (10 * q) i).2 := by
        show (rq_tk (tk, fs, sn, ln, gv) (rq_E gv vs) (10 * q + i) (rq_ev (tk, fs, sn, ln, gv) (rq_E gv vs) (10 * q) i)).2 = _
        rw [rq_tk_n hnx]
      refine br_t (by decide) (nm_r (nI_1 i) (ih (i + 1) _ yp' yn' (by omega) ?_ ?_ hoff ?_ ?_))
      · rw [e1]
      · rw [e1]; exact hPL'
      · rw [e2]; exact hm
      · rw [e2]; exact hk
    · have e1 : (rq_ev (tk, fs, sn, ln, gv) (rq_E gv vs) (10 * q) (i + 1)).1 = rq_E gv vs d :: (if tk (10 * q + i) = 3 then (rq_ev (tk, fs, sn, ln, gv) (rq_E gv vs) (10 * q) i).1.tail else (rq_ev (tk, fs, sn, ln, gv) (rq_E gv vs) (10 * q) i).1) := by
        show (rq_tk (tk, fs, sn, ln, gv) (rq_E gv vs) (10 * q + i) (rq_ev (tk, fs, sn, ln, gv) (rq_E gv vs) (10 * q) i)).1 = _
        rw [rq_tk_s hnx]
      have e2 : (rq_ev (tk, fs, sn, ln, gv) (rq_E gv vs) (10 * q) (i + 1)).2 = (rq_ev (tk, fs, sn, ln, gv) (rq_E gv vs) (10 * q) i).2 ++ [d] := by
        show (rq_tk (tk, fs, sn, ln, gv) (rq_E gv vs) (10 * q + i) (rq_ev (tk, fs, sn, ln, gv) (rq_E gv vs) (10 * q) i)).2 = _
        rw [rq_tk_s hnx]
      refine br_t (by decide) (nm_r (nI_1 i) (ih (i + 1) _ yp' _ (by omega) ?_ ?_ (fun j hj => (pk_un hj).trans (hoff j hj)) ?_ ?_))
      · rw [e1]
      · rw [e1]; exact hPL'
      · rw [e2, rq_fm_s]
        show upd yn' q (rq_up yn' d (yn' q)) q = _
        rw [pk_us, hm]
        exact rq_up_congr (fun h6 => hoff _ (fun e => hd h6 (by rw [e]; exact hkq))) _
      · rw [e2]
        intro d' hd' h6
        rcases List.mem_append.mp hd' with u | u
        · exact hk d' u h6
        · rw [List.mem_singleton.mp u] at h6 ⊢
          exact hd h6
    · exact br_f (nI_pos (by omega)) (hF _ _ _ hoff ⟨i, k, by omega, hk8, hz, hnx, hk⟩)
theorem rq_y_wo {post : Int32 → SY → Prop} {q : Nat} (X : rq_BX (tk, fs, sn, ln, gv)) (hT : ∀ i, i < 90 → rq_TY (tk, fs, sn, ln, gv) kd yf i) (hq : q < 8) (hkq : yk q = 0)
    (hF : ∀ (yt : Int32) (yp yn' : Nat → Int32), (∀ j, j ≠ q → yn' j = yn j) → rq_Stk (tk, fs, sn, ln, gv) (rq_E gv vs) yk q → post 0 (h, yt, gv, kd, yf, sn, ln, yp, vs, yk, yn', ov, ok))
    (hS : ∀ (yt : Int32) (yp yn' : Nat → Int32), (∀ j, j ≠ q → yn' j = yn j) → (∀ d, d ∈ rq_tr (tk, fs, sn, ln, gv) (rq_E gv vs) q → 6 ≤ d → yk (d - 6) ≠ 0) → yn' q = rq_fm yn (rq_tr (tk, fs, sn, ln, gv) (rq_E gv vs) q) → post 1 (h, yt, gv, kd, yf, sn, ln, yp, upd vs q (rq_vl (tk, fs, sn, ln, gv) (rq_E gv vs) q), yk, yn', ov, ok)) : wpY_workOff post (h, yt, gv, kd, yf, sn, ln, yp, vs, yk, yn, ov, ok) (nI q) := by
  have hiq8 : vp_in (nI q) 8 := vp_in_nI hq (by omega)
  have hcq : (nI q).toNatClampNeg = q := nI_clamp (by omega)
  unfold wpY_workOff
  dsimp only
  refine ⟨hiq8, nm_r (e' := upd yn q 0) (by rw [hcq]) ⟨rq_L (tk, fs, sn, ln, gv) q + 1, ?_⟩⟩
  exact rq_y_wo14 (tk := tk) (fs := fs) X hT hq hkq hF hS (rq_L (tk, fs, sn, ln, gv) q) 0 _ _ _ (by omega) rfl trivial (fun j hj => pk_un hj) pk_us (fun d hd => absurd hd List.not_mem_nil)
end
/-! the invariant of computeAll -/
def rq_YI (D : rq_D) (vs yk yn : Nat → Int32) : Prop :=
  ∀ q, q < 8 → (yk q = 0 ∨ yk q = 1) ∧ (yk q ≠ 0 → rq_Der D q (vs q) ∧ (∀ d, d ∈ rq_tr D (rq_E D.2.2.2.2 vs) q → 6 ≤ d → yk (d - 6) ≠ 0) ∧ yn q = rq_fm yn (rq_tr D (rq_E D.2.2.2.2 vs) q))
def rq_Cl (D : rq_D) (yk : Nat → Int32) : Prop := ∀ q, q < 8 → yk q = 0 → ∀ v, ¬ rq_Der D q v
section
variable {D : rq_D} {vs yk yn yn' : Nat → Int32} {q : Nat}
theorem rq_Y_rd (X : rq_BX D) (I : rq_YI D vs yk yn) {p : Nat} (hq : q < 8) (hp : p ≤ 10) {d : Nat} (hd : d ∈ (rq_ev D (rq_E D.2.2.2.2 vs) (10 * q) p).2) (hk : 6 ≤ d → yk (d - 6) ≠ 0) : rq_Rd D (rq_E D.2.2.2.2 vs) d := by
  have h14 := rq_tr_b X hq hp d hd
  refine ⟨fun h => rq_E_i _ _ h, fun h6 => ?_⟩
  have := ((I (d - 6) (by omega)).2 (hk h6)).1
  unfold rq_E
  rw [if_neg (by omega)]
  exact this
theorem rq_Y_new (X : rq_BX D) (I : rq_YI D vs yk yn) (hq : q < 8) (hk : yk q = 0) (hd : ∀ d, d ∈ rq_tr D (rq_E D.2.2.2.2 vs) q → 6 ≤ d → yk (d - 6) ≠ 0) (hoff : ∀ j, j ≠ q → yn' j = yn j) (hm : yn' q = rq_fm yn (rq_tr D (rq_E D.2.2.2.2 vs) q)) : rq_YI D (upd vs q (rq_vl D (rq_E D.2.2.2.2 vs) q)) (upd yk q 1) yn' := by
  have hne : ∀ d, yk (d - 6) ≠ 0 → d - 6 ≠ q := fun d h e => h (by rw [e]; exact hk)
  have hE : ∀ d, (6 ≤ d → yk (d - 6) ≠ 0) → rq_E D.2.2.2.2 vs d = rq_E D.2.2.2.2 (upd vs q (rq_vl D (rq_E D.2.2.2.2 vs) q)) d := by
    intro d h
    unfold rq_E
    by_cases h6 : d < 6
    · rw [if_pos h6, if_pos h6]
    · rw [if_neg h6, if_neg h6, pk_un (hne d (h (by omega)))]
  have htr : ∀ j, (∀ d, d ∈ rq_tr D (rq_E D.2.2.2.2 vs) j → 6 ≤ d → yk (d - 6) ≠ 0) → rq_tr D (rq_E D.2.2.2.2 (upd vs q (rq_vl D (rq_E D.2.2.2.2 vs) q))) j = rq_tr D (rq_E D.2.2.2.2 vs) j := by
    intro j hj
    unfold rq_tr
    rw [rq_ev_congr (fun d hd => hE d (hj d hd))]
  have hfm : ∀ l : List Nat, (∀ d, d ∈ l → 6 ≤ d → yk (d - 6) ≠ 0) → rq_fm yn' l = rq_fm yn l := fun l hl => rq_fm_congr (fun d hd h6 => hoff _ (hne d (hl d hd h6)))
  intro j hj
  by_cases ej : j = q
  · subst ej
    refine ⟨Or.inr pk_us, fun _ => ⟨?_, ?_, ?_⟩⟩
    · rw [pk_us]
      exact rq_der_of hq (fun d h => rq_Y_rd X I hq (X.2 _ hq).1 h (hd d h))
    · rw [htr j hd]
      intro d h h6
      rw [pk_un (hne d (hd d h h6))]
      exact hd d h h6
    · rw [htr j hd, hfm _ hd]
      exact hm
  · obtain ⟨a, b⟩ := I j hj
    rw [pk_un ej, pk_un ej, hoff j ej]
    refine ⟨a, fun hz => ?_⟩
    obtain ⟨b1, b2, b3⟩ := b hz
    rw [htr j b2, hfm _ b2]
    exact ⟨b1, fun d h h6 => by rw [pk_un (hne d (b2 d h h6))]; exact b2 d h h6, b3⟩
theorem rq_Y_no (I : rq_YI D vs yk yn) (hk : yk q = 0) (hoff : ∀ j, j ≠ q → yn' j = yn j) : rq_YI D vs yk yn' := by
  intro j hj
  obtain ⟨a, b⟩ := I j hj
  refine ⟨a, fun hz => ?_⟩
  obtain ⟨b1, b2, b3⟩ := b hz
  have hjq : j ≠ q := fun e => hz (by rw [e]; exact hk)
  refine ⟨b1, b2, ?_⟩
  rw [hoff j hjq, b3]
  exact (rq_fm_congr (fun d hd h6 => hoff _ (fun e => b2 d hd h6 (by rw [e]; exact hk)))).symm
theorem rq_Y_cl (X : rq_BX D) (I : rq_YI D vs yk yn) (H : ∀ q, q < 8 → yk q = 0 → rq_Stk D (rq_E D.2.2.2.2 vs) yk q) : rq_Cl D yk := by
  intro q hq hz v
  refine rq_circ (C := fun q => q < 8 ∧ yk q = 0) (fun c hc => ?_) ⟨hq, hz⟩ v
  obtain ⟨i, k, hi, hk, hkz, hnx, hd⟩ := H c hc.1 hc.2
  have hL := (X.2 c hc.1).1
  exact ⟨k, rq_must_w hi (fun d h => rq_Y_rd X I hc.1 (by omega) h (hd d h)) hnx, Or.inl ⟨hk, hkz⟩⟩
theorem rq_upd_id {f : Nat → Int32} {k : Nat} {x : Int32} (e : f k = x) : upd f k x = f := by
  funext j
  by_cases h : j = k
  · rw [h, pk_us, e]
  · exact pk_un h
end
/-- a round of computeAll, at query j; N bounds what is unknown -/
def rq_YQ (D : rq_D) (vs yk : Nat → Int32) (N j : Nat) : Prop :=
  rq_Cl D yk ∨ (∃ U : List Nat, (∀ q, q < 8 → yk q = 0 → q ∈ U) ∧ U.length + 1 ≤ N) ∨
  ((∃ U : List Nat, (∀ q, q < 8 → yk q = 0 → q ∈ U) ∧ U.length ≤ N) ∧ ∀ j', j' < j → yk j' = 0 → rq_Stk D (rq_E D.2.2.2.2 vs) yk j')
section
variable {h yt : Int32} {tk fs gv kd yf sn ln yp vs yk yn ov ok : Nat → Int32} {post : SY → Prop}
theorem rq_y_c38 {J : Int32 → Int32 → Int32 → (Nat → Int32) → (Nat → Int32) → (Nat → Int32) → (Nat → Int32) → (Nat → Int32) → (Nat → Int32) → (Nat → Int32) → (Nat → Int32) → (Nat → Int32) → (Nat → Int32) → (Nat → Int32) → Prop} {x1 : Int32} {N : Nat} (X : rq_BX (tk, fs, sn, ln, gv)) (hT : ∀ i, i < 90 → rq_TY (tk, fs, sn, ln, gv) kd yf i)
    (hJ : ∀ (yt : Int32) (yp vs yk yn : Nat → Int32), rq_YI (tk, fs, sn, ln, gv) vs yk yn → rq_YQ (tk, fs, sn, ln, gv) vs yk N 8 → J (x1 + 1) h yt gv kd yf sn ln yp vs yk yn ov ok) :
    ∀ (d j : Nat) (yt : Int32) (yp vs yk yn : Nat → Int32), j + d = 8 → rq_YI (tk, fs, sn, ln, gv) vs yk yn → rq_YQ (tk, fs, sn, ln, gv) vs yk N j → wY_computeAll_38 post J x1 (d + 1) (nI j) h yt gv kd yf sn ln yp vs yk yn ov ok := by
  intro d
  induction d with
  | zero =>
    intro j yt yp vs yk yn hj I Q
    have e : j = 8 := by omega
    subst e
    rw [wY_computeAll_38]
    exact br_t (by decide) (nm_e (hJ _ _ _ _ _ I Q))
  | succ d ih =>
    intro j yt yp vs yk yn hj I Q
    have h8 : j < 8 := by omega
    have hij : vp_in (nI j) 8 := vp_in_nI h8 (by omega)
    have hcj : (nI j).toNatClampNeg = j := nI_clamp (by omega)
    rw [wY_computeAll_38]
    dsimp only
    rw [hcj]
    refine br_f (nI_ge (b := 8) h8 (by decide)) ⟨hij, br_c (fun z => ?_) (fun z => nm_r (nI_1 j) (ih (j + 1) _ _ _ _ _ (by omega) I ?_))⟩
    · refine rq_y_wo (tk := tk) (fs := fs) X hT h8 z (fun yt yp yn' hoff hst => ⟨hij, ?_⟩) (fun yt yp yn' hoff hd hm => ⟨hij, ?_⟩)
      · refine nm_r (e' := yk) (by rw [rq_nb0, rq_upd_id z]) (nm_r (nI_1 j) (ih (j + 1) _ _ _ _ _ (by omega) (rq_Y_no I z hoff) ?_))
        rcases Q with Q | Q | ⟨Q, Q'⟩
        · exact Or.inl Q
        · exact Or.inr (Or.inl Q)
        · refine Or.inr (Or.inr ⟨Q, fun j' hj' hz' => ?_⟩)
          by_cases e : j' = j
          · rw [e]; exact hst
          · exact Q' j' (by omega) hz'
      · refine nm_r (e' := upd yk j 1) (by rw [rq_nb1]) (nm_r (nI_1 j) (ih (j + 1) _ _ _ _ _ (by omega) (rq_Y_new X I h8 z hd hoff hm) ?_))
        have hmono : ∀ q, upd yk j 1 q = 0 → q ≠ j ∧ yk q = 0 := by
          intro q hq
          by_cases e : q = j
          · rw [e, pk_us] at hq; exact absurd hq (by decide)
          · rw [pk_un e] at hq; exact ⟨e, hq⟩
        rcases Q with Q | ⟨U, hU, hl⟩ | ⟨⟨U, hU, hl⟩, _⟩
        · exact Or.inl (fun q hq hz => Q q hq (hmono q hz).2)
        · exact Or.inr (Or.inl ⟨U, fun q hq hz => hU q hq (hmono q hz).2, hl⟩)
        · have hin := hU j h8 z
          have := List.length_pos_of_mem hin
          exact Or.inr (Or.inl ⟨U.erase j, fun q hq hz => (List.mem_erase_of_ne (hmono q hz).1).mpr (hU q hq (hmono q hz).2), by rw [List.length_erase_of_mem hin]; omega⟩)
    · rcases Q with Q | Q | ⟨Q, Q'⟩
      · exact Or.inl Q
      · exact Or.inr (Or.inl Q)
      · refine Or.inr (Or.inr ⟨Q, fun j' hj' hz' => ?_⟩)
        by_cases e : j' = j
        · rw [e] at hz'; exact absurd hz' z
        · exact Q' j' (by omega) hz'
theorem rq_y_c30 (X : rq_BX (tk, fs, sn, ln, gv)) (hT : ∀ i, i < 90 → rq_TY (tk, fs, sn, ln, gv) kd yf i)
    (hP : ∀ (yt : Int32) (yp vs yk yn : Nat → Int32), rq_YI (tk, fs, sn, ln, gv) vs yk yn → rq_Cl (tk, fs, sn, ln, gv) yk → post (h, yt, gv, kd, yf, sn, ln, yp, vs, yk, yn, ov, ok)) :
    ∀ (d r : Nat) (yt : Int32) (yp vs yk yn : Nat → Int32), r + d = 8 → rq_YI (tk, fs, sn, ln, gv) vs yk yn → (rq_Cl (tk, fs, sn, ln, gv) yk ∨ ∃ U : List Nat, (∀ q, q < 8 → yk q = 0 → q ∈ U) ∧ U.length + r ≤ 8) → wY_computeAll_30 post (d + 1) (nI r) h yt gv kd yf sn ln yp vs yk yn ov ok := by
  intro d
  induction d with
  | zero =>
    intro r yt yp vs yk yn hr I Q
    have e : r = 8 := by omega
    subst e
    rw [wY_computeAll_30]
    refine br_t (by decide) (hP _ _ _ _ _ I ?_)
    rcases Q with Q | ⟨U, hU, hl⟩
    · exact Q
    · intro q hq hz
      have := List.length_pos_of_mem (hU q hq hz)
      omega
  | succ d ih =>
    intro r yt yp vs yk yn hr I Q
    rw [wY_computeAll_30]
    refine br_f (nI_ge (a := r) (b := 8) (by omega) (by decide)) ⟨9, ?_⟩
    refine rq_y_c38 (tk := tk) (fs := fs) (N := 8 - r) X hT (fun yt yp vs yk yn I' Q' => ?_) 8 0 _ _ _ _ _ rfl I ?_
    · rw [nI_1]
      refine ih (r + 1) _ _ _ _ _ (by omega) I' ?_
      rcases Q' with Q' | ⟨U, hU, hl⟩ | ⟨_, Q'⟩
      · exact Or.inl Q'
      · exact Or.inr ⟨U, hU, by omega⟩
      · exact Or.inl (rq_Y_cl X I' Q')
    · rcases Q with Q | ⟨U, hU, hl⟩
      · exact Or.inl Q
      · exact Or.inr (Or.inr ⟨⟨U, hU, by omega⟩, fun j' hj' => absurd hj' (by omega)⟩)
theorem rq_y_c2 (X : rq_BX (tk, fs, sn, ln, gv)) (hT : ∀ i, i < 90 → rq_TY (tk, fs, sn, ln, gv) kd yf i)
    (hP : ∀ (yt : Int32) (yp vs yk yn : Nat → Int32), rq_YI (tk, fs, sn, ln, gv) vs yk yn → rq_Cl (tk, fs, sn, ln, gv) yk → post (h, yt, gv, kd, yf, sn, ln, yp, vs, yk, yn, ov, ok)) :
    ∀ (d j : Nat) (vs yk : Nat → Int32), j + d = 8 → (∀ q, q < j → yk q = 0) → wY_computeAll_2 post h yt (d + 1) (nI j) gv kd yf sn ln yp vs yk yn ov ok := by
  intro d
  induction d with
  | zero =>
    intro j vs yk hj hz
    have e : j = 8 := by omega
    subst e
    rw [wY_computeAll_2]
    refine br_t (by decide) ⟨9, ?_⟩
    exact rq_y_c30 (tk := tk) (fs := fs) X hT hP 8 0 _ _ _ _ _ rfl (fun q hq => ⟨Or.inl (hz q hq), fun hn => absurd (hz q hq) hn⟩) (Or.inr ⟨List.range 8, fun q hq _ => List.mem_range.mpr hq, by decide⟩)
  | succ d ih =>
    intro j vs yk hj hz
    have h8 : j < 8 := by omega
    have hij : vp_in (nI j) 8 := vp_in_nI h8 (by omega)
    have hcj : (nI j).toNatClampNeg = j := nI_clamp (by omega)
    rw [wY_computeAll_2]
    dsimp only
    rw [hcj]
    refine br_f (nI_ge (b := 8) h8 (by decide)) ⟨hij, nm_r (e' := upd yk j 0) (by rw [rq_nb0]) ⟨hij, nm_e (nm_r (nI_1 j) (ih (j + 1) _ _ (by omega) (fun q hq => ?_)))⟩⟩
    by_cases e : q = j
    · rw [e, pk_us]
    · rw [pk_un e]; exact hz q (by omega)
/-- computeAll: known is what can be derived -/
theorem rq_y_comp (X : rq_BX (tk, fs, sn, ln, gv)) (hT : ∀ i, i < 90 → rq_TY (tk, fs, sn, ln, gv) kd yf i)
    (hP : ∀ (yt : Int32) (yp vs yk yn : Nat → Int32), rq_YI (tk, fs, sn, ln, gv) vs yk yn → rq_Cl (tk, fs, sn, ln, gv) yk → post (h, yt, gv, kd, yf, sn, ln, yp, vs, yk, yn, ov, ok)) : wpY_computeAll post (h, yt, gv, kd, yf, sn, ln, yp, vs, yk, yn, ov, ok) :=
  ⟨9, rq_y_c2 (tk := tk) (fs := fs) X hT hP 8 0 vs yk rfl (fun q hq => absurd hq (Nat.not_lt_zero q))⟩
end
end
section
/-! what a change of bodies or inputs does to the invariant -/
theorem rq_ev_D {D D' : rq_D} {E : Nat → Int32} {b : Nat} : ∀ {p : Nat}, (∀ i, i < p → D'.1 (b + i) = D.1 (b + i) ∧ D'.2.1 (b + i) = D.2.1 (b + i) ∧ D'.2.2.1 (b + i) = D.2.2.1 (b + i)) → rq_ev D' E b p = rq_ev D E b p := by
  intro p
  induction p with
  | zero => intro _; rfl
  | succ p ih =>
    intro H
    have i := ih (fun i hi => H i (by omega))
    obtain ⟨e1, e2, e3⟩ := H p (Nat.lt_succ_self p)
    show rq_tk D' E (b + p) (rq_ev D' E b p) = rq_tk D E (b + p) (rq_ev D E b p)
    rw [i]
    have en : rq_nx D' (b + p) (rq_ev D E b p).1 = rq_nx D (b + p) (rq_ev D E b p).1 := by
      unfold rq_nx
      rw [e1, e2, e3]
    unfold rq_tk
    rw [en, e1, e2]
/-- the body of q is the same -/
def rq_SB (D D' : rq_D) (q : Nat) : Prop := D'.2.2.2.1 q = D.2.2.2.1 q ∧ ∀ i, i < 10 → D'.1 (10 * q + i) = D.1 (10 * q + i) ∧ D'.2.1 (10 * q + i) = D.2.1 (10 * q + i) ∧ D'.2.2.1 (10 * q + i) = D.2.2.1 (10 * q + i)
theorem rq_SB_L {D D' : rq_D} {q : Nat} (H : rq_SB D D' q) : rq_L D' q = rq_L D q := by
  unfold rq_L
  rw [H.1]
theorem rq_SB_ev {D D' : rq_D} {q : Nat} (H : rq_SB D D' q) (hL : rq_L D q ≤ 10) (E : Nat → Int32) : rq_ev D' E (10 * q) (rq_L D' q) = rq_ev D E (10 * q) (rq_L D q) := by
  rw [rq_SB_L H]
  exact rq_ev_D (fun i hi => H.2 i (by omega))
theorem rq_SB_tr {D D' : rq_D} {q : Nat} (H : rq_SB D D' q) (hL : rq_L D q ≤ 10) (E : Nat → Int32) : rq_tr D' E q = rq_tr D E q := by
  unfold rq_tr
  rw [rq_SB_ev H hL]
theorem rq_SB_vl {D D' : rq_D} {q : Nat} (H : rq_SB D D' q) (hL : rq_L D q ≤ 10) (E : Nat → Int32) : rq_vl D' E q = rq_vl D E q := by
  unfold rq_vl
  rw [rq_SB_ev H hL]
theorem rq_Der_D {D D' : rq_D} (H : ∀ q, q < 8 → ∀ E, rq_tr D' E q = rq_tr D E q ∧ rq_vl D' E q = rq_vl D E q) (hg : D'.2.2.2.2 = D.2.2.2.2) {q : Nat} {v : Int32} (hd : rq_Der D q v) : rq_Der D' q v := by
  refine rq_ind (P := fun q v => rq_Der D' q v) ?_ hd
  intro q v h
  obtain ⟨h8, E, hE, e⟩ := h
  refine rq_mk ⟨h8, E, fun d hdm => ?_, by rw [(H q h8 E).2]; exact e⟩
  rw [(H q h8 E).1] at hdm
  rw [hg]
  exact ⟨(hE d hdm).1, fun h6 => ((hE d hdm).2 h6).2⟩
theorem rq_BI_D {D D' : rq_D} {rv sc : Int32} {gt : Nat → Int32} {z : rq_S} (H : ∀ q, q < 8 → ∀ E, rq_tr D' E q = rq_tr D E q ∧ rq_vl D' E q = rq_vl D E q) (hg : D'.2.2.2.2 = D.2.2.2.2) (B : rq_BI D rv sc gt z) : rq_BI D' rv sc gt z := by
  intro q hq
  obtain ⟨a, b, c, e⟩ := B q hq
  refine ⟨a, fun h1 h2 => ?_, fun h => rq_Der_D H hg (c h), fun h v hd => e h v (rq_Der_D (fun q hq E => ⟨(H q hq E).1.symm, (H q hq E).2.symm⟩) hg.symm hd)⟩
  obtain ⟨r, n⟩ := b h1 h2
  refine ⟨r, ?_⟩
  unfold rq_QM at n ⊢
  rw [(H q hq r).1, (H q hq r).2, hg]
  exact n
/-! bodies and the draft, in both tables -/
def rq_RB (h : Int32) (D : rq_D) (kd yf : Nat → Int32) : Prop :=
  (∀ i, i < 90 → rq_TY D kd yf i) ∧ (∀ q, q < 8 → rq_L D q ≤ 10 ∧ D.2.2.2.1 q = nI (rq_L D q) ∧ rq_WB D.1 (10 * q) (rq_L D q) ∧ rq_ht D.1 (10 * q) (rq_L D q) = 1) ∧
  rq_L D 8 ≤ 10 ∧ D.2.2.2.1 8 = nI (rq_L D 8) ∧ rq_WB D.1 80 (rq_L D 8) ∧ h = nI (rq_ht D.1 80 (rq_L D 8))
theorem rq_RB_BX {h : Int32} {D : rq_D} {kd yf : Nat → Int32} (H : rq_RB h D kd yf) : rq_BX D := ⟨fun i hi => rq_TY_TX (H.1 i hi), H.2.1⟩
def rq_XI (m : Nat) (h rv sc : Int32) (gt : Nat → Int32) (D : rq_D) (z : rq_S) (kd yf : Nat → Int32) : Prop :=
  rq_RB h D kd yf ∧ (∃ R, rv = nI R ∧ R ≤ m) ∧ sc ≤ rv ∧ (∀ i, i < 6 → gt i ≤ rv) ∧ rq_BI D rv sc gt z
theorem rq_XI_up {m n : Nat} {h rv sc : Int32} {gt : Nat → Int32} {D : rq_D} {z : rq_S} {kd yf : Nat → Int32} (hm : m ≤ n) (I : rq_XI m h rv sc gt D z kd yf) : rq_XI n h rv sc gt D z kd yf := by
  obtain ⟨a, ⟨R, e, hR⟩, b⟩ := I
  exact ⟨a, ⟨R, e, Nat.le_trans hR hm⟩, b⟩
theorem rq_TY_congr {D D' : rq_D} {kd yf kd' yf' : Nat → Int32} {i j : Nat} (h1 : D'.1 i = D.1 j) (h2 : D'.2.1 i = D.2.1 j) (h3 : D'.2.2.1 i = D.2.2.1 j) (h4 : kd' i = kd j) (h5 : yf' i = yf j) (T : rq_TY D kd yf j) : rq_TY D' kd' yf' i := by
  unfold rq_TY
  rw [h1, h2, h3, h4, h5]
  exact T
section
variable {h rv sc : Int32} {gt kn sl mm va ca ci sd nc nd ln tk fs sn gv kd yf : Nat → Int32}
theorem rq_lt_s {x : Int32} {R : Nat} (hR : R + 1 < 2 ^ 31) (hx : x ≤ nI R) : x < nI (R + 1) := by
  rw [Int32.le_iff_toInt_le, nI_toInt (by omega)] at hx
  rw [Int32.lt_iff_toInt_lt, nI_toInt hR]
  omega
theorem rq_le_s {x : Int32} {R : Nat} (hR : R + 1 < 2 ^ 31) (hx : x ≤ nI R) : x ≤ nI (R + 1) := Int32.le_of_lt (rq_lt_s hR hx)
theorem rq_nle_s {x : Int32} {R : Nat} (hR : R + 1 < 2 ^ 31) (hx : x ≤ nI R) : ¬ nI (R + 1) ≤ x := Int32.not_le.mpr (rq_lt_s hR hx)
theorem rq_ne_s {x : Int32} {R : Nat} (hR : R + 1 < 2 ^ 31) (hx : x ≤ nI R) : x ≠ nI (R + 1) := fun e => rq_nle_s hR hx (by rw [e]; exact Int32.le_refl _)
/-- an input that seldom asks for more than its own: what is steady stays derived -/
theorem rq_Der_set {D : rq_D} {z : rq_S} {i : Nat} {w : Int32} (X : rq_BX D) (B : rq_BI D rv sc gt z) (hi : i < 3) {q : Nat} {v : Int32} (hd : rq_Der D q v) : rq_Gd sc z q → rq_Der (D.1, D.2.1, D.2.2.1, D.2.2.2.1, upd D.2.2.2.2 i w) q v := by
  refine rq_ind (P := fun q v => rq_Gd sc z q → rq_Der (D.1, D.2.1, D.2.2.1, D.2.2.2.1, upd D.2.2.2.2 i w) q v) ?_ hd
  intro q v hr hg
  obtain ⟨h8, E, hE, e⟩ := hr
  obtain ⟨r, n1, n2, n3, n4, n5⟩ := (B q h8).2.1 hg.1 hg.2.1
  have ag : rq_ev D E (10 * q) (rq_L D q) = rq_ev D r (10 * q) (rq_L D q) := by
    refine rq_ev_agree fun d h1 h2 => ?_
    have h14 := rq_tr_b X h8 (X.2 _ h8).1 d h1
    obtain ⟨e1, e2⟩ := n4 (Or.inr hg) d h2
    rw [← e1]
    by_cases h6 : d < 6
    · rw [(hE d h1).1 h6, rq_E_i _ _ h6]
    · have hde := (B (d - 6) (by omega)).2.2.1 (e2 (by omega))
      have := rq_det ((hE d h1).2 (by omega)).1 _ hde
      rw [this]
      unfold rq_E
      rw [if_neg h6]
  have hsb : rq_SB D (D.1, D.2.1, D.2.2.1, D.2.2.2.1, upd D.2.2.2.2 i w) q := ⟨rfl, fun _ _ => ⟨rfl, rfl, rfl⟩⟩
  have hL := (X.2 _ h8).1
  refine rq_mk ⟨h8, E, fun d hdm => ?_, by rw [rq_SB_vl hsb hL]; exact e⟩
  rw [rq_SB_tr hsb hL] at hdm
  have hdr : d ∈ rq_tr D r q := by
    unfold rq_tr at hdm ⊢
    rw [← ag]; exact hdm
  obtain ⟨g1, g2⟩ := n5 hg d hdr
  refine ⟨fun h6 => ?_, fun h6 => ((hE d hdm).2 h6).2 (g2 h6)⟩
  show E d = upd D.2.2.2.2 i w d
  have := g1 h6
  rw [pk_un (by omega)]
  exact (hE d hdm).1 h6
theorem rq_XI_set {m i : Nat} {w sc' : Int32} (I : rq_XI m h rv sc gt (tk, fs, sn, ln, gv) (kn, sl, mm, va, ca, ci, sd, nc, nd) kd yf) (hm : m < 2000) (hi : i < 6) (hs : (i < 3 ∧ sc' = sc) ∨ (¬ i < 3 ∧ sc' = rv + 1)) : rq_XI (m + 1) h (rv + 1) sc' (upd gt i (rv + 1)) (tk, fs, sn, ln, upd gv i w) (kn, sl, mm, va, ca, ci, sd, nc, nd) kd yf := by
  obtain ⟨A, ⟨R, e, hR⟩, hsc, hgt, B⟩ := I
  subst e
  rw [nI_1] at hs ⊢
  have X := rq_RB_BX A
  have hR31 : R + 1 < 2 ^ 31 := by omega
  refine ⟨A, ⟨R + 1, rfl, by omega⟩, ?_, ?_, ?_⟩
  · rcases hs with ⟨_, e⟩ | ⟨_, e⟩
    · rw [e]; exact rq_le_s hR31 hsc
    · rw [e]; exact Int32.le_refl _
  · intro j hj
    by_cases ej : j = i
    · rw [ej, pk_us]; exact Int32.le_refl _
    · rw [pk_un ej]; exact rq_le_s hR31 (hgt j hj)
  · have hOk : ∀ q, q < 8 → rq_Ok (nI (R + 1)) sc' (kn, sl, mm, va, ca, ci, sd, nc, nd) q → i < 3 ∧ sc' = sc ∧ rq_Gd sc (kn, sl, mm, va, ca, ci, sd, nc, nd) q := by
      intro q hq ho
      have hv := (B q hq).1.1
      rcases ho with ho | ho
      · exact absurd ho.2.2 (rq_ne_s hR31 hv)
      · rcases hs with ⟨a, b⟩ | ⟨_, b⟩
        · rw [b] at ho
          exact ⟨a, b, ho⟩
        · rw [b] at ho
          exact absurd ho.2.2.2 (rq_nle_s hR31 hv)
    intro q hq
    have hsb : rq_SB (tk, fs, sn, ln, gv) (tk, fs, sn, ln, upd gv i w) q := ⟨rfl, fun _ _ => ⟨rfl, rfl, rfl⟩⟩
    have hL := (X.2 q hq).1
    obtain ⟨⟨v1, v2, v3⟩, b, c, f⟩ := B q hq
    refine ⟨⟨rq_le_s hR31 v1, rq_le_s hR31 v2, rq_le_s hR31 v3⟩, fun h1 h2 => ?_, fun ho => ?_, fun h => absurd h (rq_ne_s hR31 v3)⟩
    · obtain ⟨r, n1, n2, n3, n4, n5⟩ := b h1 h2
      unfold rq_QM
      refine ⟨r, by rw [rq_SB_tr hsb hL]; exact n1, by rw [rq_SB_vl hsb hL]; exact n2, ?_, ?_, ?_⟩
      · rw [rq_SB_tr hsb hL]
        intro d hd hst
        show rq_E (upd gv i w) mm d = r d
        have hst' : rq_st (upd gt i (nI (R + 1))) ca d ≤ va q := hst
        by_cases h6 : d < 6
        · rw [rq_st_i _ _ h6] at hst'
          by_cases ed : d = i
          · rw [ed, pk_us] at hst'
            exact absurd hst' (rq_nle_s hR31 v1)
          · rw [pk_un ed] at hst'
            have := n3 d hd (by rw [rq_st_i _ _ h6]; exact hst')
            rw [rq_E_i _ _ h6] at this ⊢
            rw [pk_un ed]; exact this
        · have := n3 d hd (by unfold rq_st at hst' ⊢; rw [if_neg h6] at hst' ⊢; exact hst')
          unfold rq_E at this ⊢
          rw [if_neg h6] at this ⊢
          exact this
      · rw [rq_SB_tr hsb hL]
        intro ho d hd
        obtain ⟨h3, es, hg⟩ := hOk q hq ho
        obtain ⟨a1, a2⟩ := n4 (Or.inr hg) d hd
        obtain ⟨g1, g2⟩ := n5 hg d hd
        refine ⟨?_, fun h6 => Or.inr (by rw [es]; exact g2 h6)⟩
        show rq_E (upd gv i w) mm d = r d
        rw [← a1]
        show rq_E (upd gv i w) mm d = rq_E gv mm d
        by_cases h6 : d < 6
        · have := g1 h6
          rw [rq_E_i _ _ h6, rq_E_i _ _ h6, pk_un (by omega)]
        · unfold rq_E
          rw [if_neg h6, if_neg h6]
      · rw [rq_SB_tr hsb hL]
        intro hg d hd
        obtain ⟨h3, es, hg'⟩ := hOk q hq (Or.inr hg)
        rw [es]
        exact n5 hg' d hd
    · obtain ⟨h3, es, hg⟩ := hOk q hq ho
      exact rq_Der_set X B h3 (c (Or.inr hg)) hg
/-- the draft grows by one token -/
theorem rq_XI_app {m L : Nat} {k1 a1 b1 k2 a2 h' : Int32} (I : rq_XI m h rv sc gt (tk, fs, sn, ln, gv) (kn, sl, mm, va, ca, ci, sd, nc, nd) kd yf) (hL : ln 8 = nI L) (hL10 : L < 10)
    (hT : rq_TY (upd tk (80 + L) k1, upd fs (80 + L) a1, upd sn (80 + L) b1, ln, gv) (upd kd (80 + L) k2) (upd yf (80 + L) a2) (80 + L))
    (h3 : k1 = 3 → 1 ≤ rq_ht tk 80 L) (h4 : k1 = 4 → 2 ≤ rq_ht tk 80 L) (hh : h' = nI (rq_ht (upd tk (80 + L) k1) 80 (L + 1))) :
    rq_XI m h' rv sc gt (upd tk (80 + L) k1, upd fs (80 + L) a1, upd sn (80 + L) b1, upd ln 8 (nI (L + 1)), gv) (kn, sl, mm, va, ca, ci, sd, nc, nd) (upd kd (80 + L) k2) (upd yf (80 + L) a2) := by
  obtain ⟨⟨A1, A2, A3, A4, A5, A6⟩, hR, hsc, hgt, B⟩ := I
  have hsb : ∀ q, q < 8 → rq_SB (tk, fs, sn, ln, gv) (upd tk (80 + L) k1, upd fs (80 + L) a1, upd sn (80 + L) b1, upd ln 8 (nI (L + 1)), gv) q := fun q hq => ⟨pk_un (by omega), fun i hi => ⟨pk_un (by omega), pk_un (by omega), pk_un (by omega)⟩⟩
  have eL : rq_L (tk, fs, sn, ln, gv) 8 = L := by
    show (ln 8).toNatClampNeg = L
    rw [hL]; exact nI_clamp (by omega)
  have eL' : rq_L (upd tk (80 + L) k1, upd fs (80 + L) a1, upd sn (80 + L) b1, upd ln 8 (nI (L + 1)), gv) 8 = L + 1 := by
    show (upd ln 8 (nI (L + 1)) 8).toNatClampNeg = L + 1
    rw [pk_us]; exact nI_clamp (by omega)
  rw [eL] at A3 A4 A5 A6
  refine ⟨⟨fun i hi => ?_, fun q hq => ?_, by rw [eL']; omega, (by rw [eL']; show upd ln 8 (nI (L + 1)) 8 = _; rw [pk_us]), ?_, by rw [eL']; exact hh⟩, hR, hsc, hgt, ?_⟩
  · by_cases ei : i = 80 + L
    · rw [ei]; exact hT
    · exact rq_TY_congr (pk_un ei) (pk_un ei) (pk_un ei) (pk_un ei) (pk_un ei) (A1 i hi)
  · obtain ⟨c1, c2, c3, c4⟩ := A2 q hq
    rw [rq_SB_L (hsb q hq)]
    have hc : ∀ i, i < rq_L (tk, fs, sn, ln, gv) q → upd tk (80 + L) k1 (10 * q + i) = tk (10 * q + i) := fun i hi => pk_un (by omega)
    refine ⟨c1, (pk_un (by omega)).trans c2, rq_WB_congr hc c3, (rq_ht_congr hc).trans c4⟩
  · rw [eL']
    show rq_WB (upd tk (80 + L) k1) 80 (L + 1)
    have hc : ∀ i, i < L → upd tk (80 + L) k1 (80 + i) = tk (80 + i) := fun i hi => pk_un (by omega)
    intro p hp
    rw [rq_ht_congr (t := tk) (b := 80) (fun i hi => hc i (by omega))]
    by_cases ep : p = L
    · rw [ep, pk_us]
      exact ⟨h3, h4⟩
    · rw [hc p (by omega)]
      exact A5 p (by omega)
  · exact rq_BI_D (fun q hq E => ⟨rq_SB_tr (hsb q hq) (A2 q hq).1 E, rq_SB_vl (hsb q hq) (A2 q hq).1 E⟩) rfl B
/-- the draft is scrapped -/
theorem rq_XI_scrap {m : Nat} (I : rq_XI m h rv sc gt (tk, fs, sn, ln, gv) (kn, sl, mm, va, ca, ci, sd, nc, nd) kd yf) : rq_XI m 0 rv sc gt (tk, fs, sn, upd ln 8 0, gv) (kn, sl, mm, va, ca, ci, sd, nc, nd) kd yf := by
  obtain ⟨⟨A1, A2, A3, A4, A5, A6⟩, hR, hsc, hgt, B⟩ := I
  have hsb : ∀ q, q < 8 → rq_SB (tk, fs, sn, ln, gv) (tk, fs, sn, upd ln 8 0, gv) q := fun q hq => ⟨pk_un (by omega), fun i hi => ⟨rfl, rfl, rfl⟩⟩
  have eL' : rq_L (tk, fs, sn, upd ln 8 0, gv) 8 = 0 := by
    show (upd ln 8 0 8).toNatClampNeg = 0
    rw [pk_us]; rfl
  refine ⟨⟨A1, fun q hq => ?_, by rw [eL']; omega, (by rw [eL']; show upd ln 8 0 8 = _; rw [pk_us, nI_0]), by rw [eL']; exact fun p hp => absurd hp (Nat.not_lt_zero p), by rw [eL']; rfl⟩, hR, hsc, hgt, ?_⟩
  · obtain ⟨c1, c2, c3, c4⟩ := A2 q hq
    rw [rq_SB_L (hsb q hq)]
    exact ⟨c1, (pk_un (by omega)).trans c2, c3, c4⟩
  · exact rq_BI_D (fun q hq E => ⟨rq_SB_tr (hsb q hq) (A2 q hq).1 E, rq_SB_vl (hsb q hq) (A2 q hq).1 E⟩) rfl B
end
/-- the first j tokens of the draft copied to body q -/
def rq_cp (a : Nat → Int32) (q : Nat) : Nat → (Nat → Int32)
  | 0 => a
  | j + 1 => upd (rq_cp a q j) (10 * q + j) (rq_cp a q j (80 + j))
theorem rq_cp_o {a : Nat → Int32} {q x : Nat} : ∀ {j : Nat}, (x < 10 * q ∨ 10 * q + j ≤ x) → rq_cp a q j x = a x := by
  intro j
  induction j with
  | zero => intro _; rfl
  | succ j ih =>
    intro hx
    show upd (rq_cp a q j) (10 * q + j) (rq_cp a q j (80 + j)) x = a x
    rw [pk_un (by omega)]
    exact ih (by omega)
theorem rq_cp_i {a : Nat → Int32} {q i : Nat} (hq : q < 8) : ∀ {j : Nat}, i < j → j ≤ 10 → rq_cp a q j (10 * q + i) = a (80 + i) := by
  intro j
  induction j with
  | zero => intro hi; omega
  | succ j ih =>
    intro hi hj
    show upd (rq_cp a q j) (10 * q + j) (rq_cp a q j (80 + j)) (10 * q + i) = a (80 + i)
    by_cases e : i = j
    · rw [e, pk_us]
      exact rq_cp_o (by omega)
    · rw [pk_un (by omega)]
      exact ih (by omega) (by omega)
section
variable {h rv sc : Int32} {gt kn sl mm va ca ci sd nc nd ln tk fs sn gv kd yf : Nat → Int32}
/-- the draft becomes the body of q -/
theorem rq_XI_fin {m L q : Nat} (I : rq_XI m h rv sc gt (tk, fs, sn, ln, gv) (kn, sl, mm, va, ca, ci, sd, nc, nd) kd yf) (hm : m < 2000) (hL : ln 8 = nI L) (hL10 : L ≤ 10) (hq : q < 8) (hh : h = 1) :
    rq_XI (m + 1) 0 (rv + 1) (rv + 1) gt (rq_cp tk q L, rq_cp fs q L, rq_cp sn q L, upd (upd ln q (nI L)) 8 0, gv) (kn, upd sl q 1, mm, va, ca, ci, sd, nc, nd) (rq_cp kd q L) (rq_cp yf q L) := by
  obtain ⟨⟨A1, A2, A3, A4, A5, A6⟩, ⟨R, e, hR⟩, hsc, hgt, B⟩ := I
  subst e
  rw [nI_1]
  have hR31 : R + 1 < 2 ^ 31 := by omega
  have eL : rq_L (tk, fs, sn, ln, gv) 8 = L := by
    show (ln 8).toNatClampNeg = L
    rw [hL]; exact nI_clamp (by omega)
  rw [eL] at A3 A4 A5 A6
  have hsb : ∀ j, j < 8 → j ≠ q → rq_SB (tk, fs, sn, ln, gv) (rq_cp tk q L, rq_cp fs q L, rq_cp sn q L, upd (upd ln q (nI L)) 8 0, gv) j := fun j hj hjq => ⟨(pk_un (by omega)).trans (pk_un hjq), fun i hi => ⟨rq_cp_o (by omega), rq_cp_o (by omega), rq_cp_o (by omega)⟩⟩
  have eL8 : rq_L (rq_cp tk q L, rq_cp fs q L, rq_cp sn q L, upd (upd ln q (nI L)) 8 0, gv) 8 = 0 := by
    show (upd (upd ln q (nI L)) 8 0 8).toNatClampNeg = 0
    rw [pk_us]; rfl
  have eLq : rq_L (rq_cp tk q L, rq_cp fs q L, rq_cp sn q L, upd (upd ln q (nI L)) 8 0, gv) q = L := by
    show (upd (upd ln q (nI L)) 8 0 q).toNatClampNeg = L
    rw [pk_un (by omega), pk_us]; exact nI_clamp (by omega)
  have hht : rq_ht tk 80 L = 1 := by
    have hle := rq_ht_le tk 80 L
    have h1 : nI (rq_ht tk 80 L) = nI 1 := A6.symm.trans hh
    exact (nI_eq (by omega) (by omega)).mp h1
  refine ⟨⟨fun i hi => ?_, fun j hj => ?_, by rw [eL8]; omega, (by rw [eL8]; show upd (upd ln q (nI L)) 8 0 8 = _; rw [pk_us, nI_0]), by rw [eL8]; exact fun p hp => absurd hp (Nat.not_lt_zero p), by rw [eL8]; rfl⟩, ⟨R + 1, rfl, by omega⟩, Int32.le_refl _, fun i hi => rq_le_s hR31 (hgt i hi), ?_⟩
  · by_cases hin : 10 * q ≤ i ∧ i < 10 * q + L
    · obtain ⟨i', rfl⟩ : ∃ i', i = 10 * q + i' := ⟨i - 10 * q, by omega⟩
      exact rq_TY_congr (rq_cp_i hq (by omega) hL10) (rq_cp_i hq (by omega) hL10) (rq_cp_i hq (by omega) hL10) (rq_cp_i hq (by omega) hL10) (rq_cp_i hq (by omega) hL10) (A1 (80 + i') (by omega))
    · exact rq_TY_congr (rq_cp_o (by omega)) (rq_cp_o (by omega)) (rq_cp_o (by omega)) (rq_cp_o (by omega)) (rq_cp_o (by omega)) (A1 i hi)
  · by_cases ejq : j = q
    · subst ejq
      rw [eLq]
      have hc : ∀ i, i < L → rq_cp tk j L (10 * j + i) = tk (80 + i) := fun i hi => rq_cp_i hj hi hL10
      exact ⟨hL10, (pk_un (by omega)).trans pk_us, rq_WB_congr hc A5, (rq_ht_congr hc).trans hht⟩
    · obtain ⟨c1, c2, c3, c4⟩ := A2 j hj
      rw [rq_SB_L (hsb j hj ejq)]
      have hc : ∀ i, i < rq_L (tk, fs, sn, ln, gv) j → rq_cp tk q L (10 * j + i) = tk (10 * j + i) := fun i hi => rq_cp_o (by omega)
      exact ⟨c1, ((pk_un (by omega)).trans (pk_un ejq)).trans c2, rq_WB_congr hc c3, (rq_ht_congr hc).trans c4⟩
  · intro j hj
    obtain ⟨⟨v1, v2, v3⟩, b, c, f⟩ := B j hj
    have hnOk : ¬ rq_Ok (nI (R + 1)) (nI (R + 1)) (kn, upd sl q 1, mm, va, ca, ci, sd, nc, nd) j := by
      intro ho
      rcases ho with ho | ho
      · exact rq_ne_s hR31 v1 ho.2.2
      · exact rq_nle_s hR31 v1 ho.2.2.2
    refine ⟨⟨rq_le_s hR31 v1, rq_le_s hR31 v2, rq_le_s hR31 v3⟩, fun h1 h2 => ?_, fun ho => absurd ho hnOk, fun h => absurd h (rq_ne_s hR31 v3)⟩
    have h2' : upd sl q 1 j = 0 := h2
    have hjq : j ≠ q := by
      intro e
      rw [e, pk_us] at h2'
      exact absurd h2' (by decide)
    rw [pk_un hjq] at h2'
    obtain ⟨r, n1, n2, n3, n4, n5⟩ := b h1 h2'
    refine ⟨r, ?_⟩
    unfold rq_QM
    rw [rq_SB_tr (hsb j hj hjq) (A2 j hj).1, rq_SB_vl (hsb j hj hjq) (A2 j hj).1]
    exact ⟨n1, n2, n3, fun ho => absurd ho hnOk, fun hg => absurd (Or.inr hg) hnOk⟩
end
end
section
/-! the relation, and small walks of both sides -/
def i_Rel (k : Nat) (u : SX) (v : SY) : Prop := match u, v with
  | (h, rv, sc, _, _, _, ln, tk, fs, sn, gv, gt, kn, sl, mm, va, ca, ci, sd, nc, nd, _, _, _, _, _, _), (h2, _, gv2, kd, yf, sn2, ln2, _, _, _, _, _, _) => (h = h2 ∧ gv = gv2 ∧ sn = sn2 ∧ ln = ln2) ∧ rq_XI (k + 1) h rv sc gt (tk, fs, sn, ln, gv) (kn, sl, mm, va, ca, ci, sd, nc, nd) kd yf
theorem rq_rel {k : Nat} {h rv sc fr tp fl yt : Int32} {ln tk fs sn gv gt kn sl mm va ca ci sd nc nd fq fw fp pl wv wc kd yf yp vs yk yn ov ok : Nat → Int32} (I : rq_XI (k + 1) h rv sc gt (tk, fs, sn, ln, gv) (kn, sl, mm, va, ca, ci, sd, nc, nd) kd yf) : i_Rel k (h, rv, sc, fr, tp, fl, ln, tk, fs, sn, gv, gt, kn, sl, mm, va, ca, ci, sd, nc, nd, fq, fw, fp, pl, wv, wc) (h, yt, gv, kd, yf, sn, ln, yp, vs, yk, yn, ov, ok) := ⟨⟨rfl, rfl, rfl, rfl⟩, I⟩
theorem rq_el {k : Nat} {P : SX → SY → Prop} (H : ∀ (h rv sc fr tp fl yt : Int32) (ln tk fs sn gv gt kn sl mm va ca ci sd nc nd fq fw fp pl wv wc kd yf yp vs yk yn ov ok : Nat → Int32), rq_XI (k + 1) h rv sc gt (tk, fs, sn, ln, gv) (kn, sl, mm, va, ca, ci, sd, nc, nd) kd yf → P (h, rv, sc, fr, tp, fl, ln, tk, fs, sn, gv, gt, kn, sl, mm, va, ca, ci, sd, nc, nd, fq, fw, fp, pl, wv, wc) (h, yt, gv, kd, yf, sn, ln, yp, vs, yk, yn, ov, ok)) {u : SX} {v : SY} (I : i_Rel k u v) : P u v := by
  obtain ⟨h, rv, sc, fr, tp, fl, ln, tk, fs, sn, gv, gt, kn, sl, mm, va, ca, ci, sd, nc, nd, fq, fw, fp, pl, wv, wc⟩ := u
  obtain ⟨h2, yt, gv2, kd, yf, sn2, ln2, yp, vs, yk, yn, ov, ok⟩ := v
  obtain ⟨⟨e1, e2, e3, e4⟩, I⟩ := I
  subst e1 e2 e3 e4
  exact H _ _ _ _ _ _ _ _ _ _ _ _ _ _ _ _ _ _ _ _ _ _ _ _ _ _ _ _ _ _ _ _ _ _ _ _ I
theorem i_up {k : Nat} {u : SX} {v : SY} (h : i_Rel k u v) : i_Rel (k + 3) u v := by
  refine rq_el (P := fun u v => i_Rel (k + 3) u v) ?_ h
  intro h rv sc fr tp fl yt ln tk fs sn gv gt kn sl mm va ca ci sd nc nd fq fw fp pl wv wc kd yf yp vs yk yn ov ok I
  exact rq_rel (rq_XI_up (by omega) I)
section
variable {h rv sc fr tp fl : Int32} {ln tk fs sn gv gt kn sl mm va ca ci sd nc nd fq fw fp pl wv wc : Nat → Int32}
theorem rq_x_bq {post : Int32 → Prop} {j : Nat} (hj : j < 8) (hP : post 0) : wpX_badQuery post (h, rv, sc, fr, tp, fl, ln, tk, fs, sn, gv, gt, kn, sl, mm, va, ca, ci, sd, nc, nd, fq, fw, fp, pl, wv, wc) (nI j) := by
  unfold wpX_badQuery
  exact br_f (nI_pos (by omega)) (br_t (nI_lt (b := 8) hj (by decide)) hP)
theorem rq_x_nbq {post : Int32 → Prop} {x : Int32} (hx : x < 0 ∨ nI 8 ≤ x) (hP : post 1) : wpX_badQuery post (h, rv, sc, fr, tp, fl, ln, tk, fs, sn, gv, gt, kn, sl, mm, va, ca, ci, sd, nc, nd, fq, fw, fp, pl, wv, wc) x := by
  unfold wpX_badQuery
  exact br_c (fun _ => hP) (fun z => br_f (fun w => hx.elim z (fun w' => Int32.not_lt.mpr w' w)) hP)
theorem rq_x_df1 {post : Int32 → Prop} (hL : ln 8 = 10) (hP : post 1) : wpX_draftFull post (h, rv, sc, fr, tp, fl, ln, tk, fs, sn, gv, gt, kn, sl, mm, va, ca, ci, sd, nc, nd, fq, fw, fp, pl, wv, wc) := by
  unfold wpX_draftFull
  exact br_t hL hP
theorem rq_x_df0 {post : Int32 → Prop} (hL : ¬ ln 8 = 10) (hP : post 0) : wpX_draftFull post (h, rv, sc, fr, tp, fl, ln, tk, fs, sn, gv, gt, kn, sl, mm, va, ca, ci, sd, nc, nd, fq, fw, fp, pl, wv, wc) := by
  unfold wpX_draftFull
  exact br_f hL hP
theorem rq_80 (L : Nat) : 80 + nI L = nI (80 + L) := nI_add 80 L
theorem rq_x_app {post : Int32 → SX → Prop} (L : Nat) (p0 p1 p2 p3 : Int32) (hL : ln 8 = nI L) (hL10 : L < 10) (hP : post (h + p3) (h + p3, rv, sc, fr, tp, fl, upd ln 8 (nI (L + 1)), upd tk (80 + L) p0, upd fs (80 + L) p1, upd sn (80 + L) p2, gv, gt, kn, sl, mm, va, ca, ci, sd, nc, nd, fq, fw, fp, pl, wv, wc)) : wpX_append post (h, rv, sc, fr, tp, fl, ln, tk, fs, sn, gv, gt, kn, sl, mm, va, ca, ci, sd, nc, nd, fq, fw, fp, pl, wv, wc) p0 p1 p2 p3 := by
  have hi : vp_in (nI (80 + L)) 90 := vp_in_nI (by omega) (by omega)
  have hc : (nI (80 + L)).toNatClampNeg = 80 + L := nI_clamp (by omega)
  unfold wpX_append
  dsimp only
  rw [hL, rq_80, nI_1]
  exact nm_e ⟨hi, nm_r (e' := upd tk (80 + L) p0) (by rw [hc]) ⟨hi, nm_r (e' := upd fs (80 + L) p1) (by rw [hc]) ⟨hi, nm_r (e' := upd sn (80 + L) p2) (by rw [hc]) (nm_e (nm_e hP))⟩⟩⟩
theorem rq_x_set {post : Int32 → SX → Prop} (j : Nat) (w : Int32) (hj : j < 6) (h0 : gv j = w → post 0 (h, rv, sc, fr, tp, fl, ln, tk, fs, sn, gv, gt, kn, sl, mm, va, ca, ci, sd, nc, nd, fq, fw, fp, pl, wv, wc)) (h1 : gv j ≠ w → ∀ sc' : Int32, ((j < 3 ∧ sc' = sc) ∨ (¬ j < 3 ∧ sc' = rv + 1)) → post 1 (h, rv + 1, sc', fr, tp, fl, ln, tk, fs, sn, upd gv j w, upd gt j (rv + 1), kn, sl, mm, va, ca, ci, sd, nc, nd, fq, fw, fp, pl, wv, wc)) : wpX_set post (h, rv, sc, fr, tp, fl, ln, tk, fs, sn, gv, gt, kn, sl, mm, va, ca, ci, sd, nc, nd, fq, fw, fp, pl, wv, wc) (nI j) w := by
  have hi : vp_in (nI j) 6 := vp_in_nI hj (by omega)
  have hc : (nI j).toNatClampNeg = j := nI_clamp (by omega)
  unfold wpX_set
  dsimp only
  rw [hc]
  exact br_f (nI_pos (by omega)) (br_t (nI_lt (b := 6) hj (by decide)) ⟨hi, br_c h0 (fun z => ⟨hi, nm_e (nm_e ⟨hi, nm_e (pk_lt j 3 (fun z3 => h1 z _ (Or.inl ⟨z3, rfl⟩)) (fun z3 => h1 z _ (Or.inr ⟨by omega, rfl⟩)))⟩)⟩)⟩)
theorem rq_x_nset {post : Int32 → SX → Prop} {x : Int32} (w : Int32) (hx : x < 0 ∨ nI 6 ≤ x) (hP : post (-1) (h, rv, sc, fr, tp, fl, ln, tk, fs, sn, gv, gt, kn, sl, mm, va, ca, ci, sd, nc, nd, fq, fw, fp, pl, wv, wc)) : wpX_set post (h, rv, sc, fr, tp, fl, ln, tk, fs, sn, gv, gt, kn, sl, mm, va, ca, ci, sd, nc, nd, fq, fw, fp, pl, wv, wc) x w := by
  unfold wpX_set
  exact br_c (fun _ => hP) (fun z => br_f (fun w => hx.elim z (fun w' => Int32.not_lt.mpr w' w)) hP)
end
section
variable {h yt : Int32} {gv kd yf sn ln yp vs yk yn ov ok : Nat → Int32}
theorem rq_y_in {post : Int32 → Prop} {j : Nat} (hj : j < 6) (hP : post 1) : wpY_isInput post (h, yt, gv, kd, yf, sn, ln, yp, vs, yk, yn, ov, ok) (nI j) := by
  unfold wpY_isInput
  exact br_f (nI_pos (by omega)) (br_f (nI_nlt (a := 5) (by omega) (by decide)) hP)
theorem rq_y_nin {post : Int32 → Prop} {x : Int32} (hx : x < 0 ∨ nI 6 ≤ x) (hP : post 0) : wpY_isInput post (h, yt, gv, kd, yf, sn, ln, yp, vs, yk, yn, ov, ok) x := by
  unfold wpY_isInput
  exact br_c (fun _ => hP) (fun z => br_t (hx.elim (fun w => absurd w z) (fun w => Int32.lt_of_lt_of_le (show (5 : Int32) < nI 6 by decide) w)) hP)
theorem rq_y_q {post : Int32 → Prop} {j : Nat} (hj : j < 8) (hP : post 1) : wpY_isQuery post (h, yt, gv, kd, yf, sn, ln, yp, vs, yk, yn, ov, ok) (nI j) := by
  unfold wpY_isQuery
  exact br_f (nI_pos (by omega)) (br_f (nI_nlt (a := 7) (by omega) (by decide)) hP)
theorem rq_y_nq {post : Int32 → Prop} {x : Int32} (hx : x < 0 ∨ nI 8 ≤ x) (hP : post 0) : wpY_isQuery post (h, yt, gv, kd, yf, sn, ln, yp, vs, yk, yn, ov, ok) x := by
  unfold wpY_isQuery
  exact br_c (fun _ => hP) (fun z => br_t (hx.elim (fun w => absurd w z) (fun w => Int32.lt_of_lt_of_le (show (7 : Int32) < nI 8 by decide) w)) hP)
theorem rq_y_app {post : Int32 → SY → Prop} (L : Nat) (p0 p1 p2 p3 : Int32) (hL : ln 8 = nI L) (hL10 : L < 10) (hP : post (h + p3) (h + p3, yt, gv, upd kd (80 + L) p0, upd yf (80 + L) p1, upd sn (80 + L) p2, upd ln 8 (nI (L + 1)), yp, vs, yk, yn, ov, ok)) : wpY_append post (h, yt, gv, kd, yf, sn, ln, yp, vs, yk, yn, ov, ok) p0 p1 p2 p3 := by
  have hi : vp_in (nI (80 + L)) 90 := vp_in_nI (by omega) (by omega)
  have hc : (nI (80 + L)).toNatClampNeg = 80 + L := nI_clamp (by omega)
  unfold wpY_append
  dsimp only
  rw [hL, rq_80, nI_1]
  exact nm_e ⟨hi, nm_r (e' := upd kd (80 + L) p0) (by rw [hc]) ⟨hi, nm_r (e' := upd yf (80 + L) p1) (by rw [hc]) ⟨hi, nm_r (e' := upd sn (80 + L) p2) (by rw [hc]) (nm_e (nm_e hP))⟩⟩⟩
theorem rq_y_set {post : Int32 → SY → Prop} (j : Nat) (w : Int32) (hj : j < 6) (h0 : gv j = w → post 0 (h, yt, gv, kd, yf, sn, ln, yp, vs, yk, yn, ov, ok)) (h1 : gv j ≠ w → post 1 (h, yt, upd gv j w, kd, yf, sn, ln, yp, vs, yk, yn, ov, ok)) : wpY_set post (h, yt, gv, kd, yf, sn, ln, yp, vs, yk, yn, ov, ok) (nI j) w := by
  have hi : vp_in (nI j) 6 := vp_in_nI hj (by omega)
  have hc : (nI j).toNatClampNeg = j := nI_clamp (by omega)
  unfold wpY_set
  dsimp only
  refine rq_y_in hj (br_f (by decide) ⟨hi, ?_⟩)
  rw [hc]
  refine br_c (fun z => ?_) (fun z => ?_)
  · unfold wY_set_25
    exact ⟨hi, nm_r (e' := gv) (by rw [hc, rq_upd_id z]) (h0 z)⟩
  · unfold wY_set_25
    exact ⟨hi, nm_r (e' := upd gv j w) (by rw [hc]) (h1 z)⟩
theorem rq_y_nset {post : Int32 → SY → Prop} {x : Int32} (w : Int32) (hx : x < 0 ∨ nI 6 ≤ x) (hP : post (-1) (h, yt, gv, kd, yf, sn, ln, yp, vs, yk, yn, ov, ok)) : wpY_set post (h, yt, gv, kd, yf, sn, ln, yp, vs, yk, yn, ov, ok) x w := by
  unfold wpY_set
  dsimp only
  exact rq_y_nin hx (br_t rfl hP)
end
theorem rq_ix6 (x : Int32) : (x < 0 ∨ nI 6 ≤ x) ∨ ∃ j : Nat, j < 6 ∧ x = nI j := (pk_ix x (n := 6) (by decide)).elim (fun a => Or.inl (Or.inl a)) (fun a => a.elim (fun b => Or.inl (Or.inr b)) Or.inr)
theorem rq_ix8 (x : Int32) : (x < 0 ∨ nI 8 ≤ x) ∨ ∃ j : Nat, j < 8 ∧ x = nI j := (pk_ix x (n := 8) (by decide)).elim (fun a => Or.inl (Or.inl a)) (fun a => a.elim (fun b => Or.inl (Or.inr b)) Or.inr)
/-! the owed statements that bring nothing up to date -/
theorem i_vc_set {k : Nat} {u : SX} {v : SY} (I : i_Rel k u v) (hk : k + 3 ≤ 1536) (v1 : Int32) (v2 : Int32) : wpX_set (fun r u' => wpY_set (fun r' v' => r' = r ∧ i_Rel (k + 3) u' v') v v1 v2) u v1 v2 := by
  refine rq_el (P := fun u v => wpX_set (fun r u' => wpY_set (fun r' v' => r' = r ∧ i_Rel (k + 3) u' v') v v1 v2) u v1 v2) ?_ I
  intro h rv sc fr tp fl yt ln tk fs sn gv gt kn sl mm va ca ci sd nc nd fq fw fp pl wv wc kd yf yp vs yk yn ov ok I
  rcases rq_ix6 v1 with hx | ⟨j, hj, rfl⟩
  · exact rq_x_nset v2 hx (rq_y_nset v2 hx ⟨rfl, rq_rel (rq_XI_up (by omega) I)⟩)
  · refine rq_x_set j v2 hj (fun z => rq_y_set j v2 hj (fun _ => ⟨rfl, rq_rel (rq_XI_up (by omega) I)⟩) (fun z' => absurd z z')) (fun z sc' hs => rq_y_set j v2 hj (fun z' => absurd z' z) (fun _ => ⟨rfl, rq_rel (rq_XI_up (by omega) (rq_XI_set I (by omega) hj hs))⟩))
theorem i_vc_get {k : Nat} {u : SX} {v : SY} (I : i_Rel k u v) (hk : k + 3 ≤ 1536) (v1 : Int32) : wpX_get (fun r => wpY_get (fun r' => r' = r ∧ i_Rel (k + 3) u v) v v1) u v1 := by
  have I0 := i_up I
  revert I0
  refine rq_el (P := fun u v => i_Rel (k + 3) u v → wpX_get (fun r => wpY_get (fun r' => r' = r ∧ i_Rel (k + 3) u v) v v1) u v1) ?_ I
  intro h rv sc fr tp fl yt ln tk fs sn gv gt kn sl mm va ca ci sd nc nd fq fw fp pl wv wc kd yf yp vs yk yn ov ok I I0
  unfold wpX_get wpY_get
  dsimp only
  rcases rq_ix6 v1 with hx | ⟨j, hj, rfl⟩
  · exact br_c (fun _ => rq_y_nin hx (br_t rfl ⟨rfl, I0⟩)) (fun z => br_f (fun w => hx.elim z (fun w' => Int32.not_lt.mpr w' w)) (rq_y_nin hx (br_t rfl ⟨rfl, I0⟩)))
  · have hi : vp_in (nI j) 6 := vp_in_nI hj (by omega)
    exact br_f (nI_pos (by omega)) (br_t (nI_lt (b := 6) hj (by decide)) ⟨hi, rq_y_in hj (br_f (by decide) ⟨hi, rfl, I0⟩)⟩)
theorem i_vc_scrap {k : Nat} {u : SX} {v : SY} (I : i_Rel k u v) (hk : k + 3 ≤ 1536) : wpX_scrap (fun u' => wpY_scrap (fun v' => i_Rel (k + 3) u' v') v) u := by
  refine rq_el (P := fun u v => wpX_scrap (fun u' => wpY_scrap (fun v' => i_Rel (k + 3) u' v') v) u) ?_ I
  intro h rv sc fr tp fl yt ln tk fs sn gv gt kn sl mm va ca ci sd nc nd fq fw fp pl wv wc kd yf yp vs yk yn ov ok I
  unfold wpX_scrap wpY_scrap
  exact nm_e (nm_e (rq_rel (rq_XI_up (by omega) (rq_XI_scrap I))))
theorem i_vc_drafted {k : Nat} {u : SX} {v : SY} (I : i_Rel k u v) (hk : k + 3 ≤ 1536) : wpX_drafted (fun r => wpY_drafted (fun r' => r' = r ∧ i_Rel (k + 3) u v) v) u := by
  have I0 := i_up I
  revert I0
  refine rq_el (P := fun u v => i_Rel (k + 3) u v → wpX_drafted (fun r => wpY_drafted (fun r' => r' = r ∧ i_Rel (k + 3) u v) v) u) ?_ I
  intro h rv sc fr tp fl yt ln tk fs sn gv gt kn sl mm va ca ci sd nc nd fq fw fp pl wv wc kd yf yp vs yk yn ov ok I I0
  unfold wpX_drafted wpY_drafted
  exact ⟨rfl, I0⟩
end
section
/-! the owed statements on the draft -/
/-- the draft's length and height -/
theorem rq_draft {m : Nat} {h rv sc : Int32} {gt kn sl mm va ca ci sd nc nd ln tk fs sn gv kd yf : Nat → Int32} (I : rq_XI m h rv sc gt (tk, fs, sn, ln, gv) (kn, sl, mm, va, ca, ci, sd, nc, nd) kd yf) : ∃ L, ln 8 = nI L ∧ L ≤ 10 ∧ h = nI (rq_ht tk 80 L) ∧ rq_ht tk 80 L ≤ L :=
  ⟨_, I.1.2.2.2.1, I.1.2.2.1, I.1.2.2.2.2.2, rq_ht_le _ _ _⟩
theorem rq_ln10 {L : Nat} (hL : L ≤ 10) : nI L = 10 ↔ L = 10 := nI_eq (a := L) (b := 10) (by omega) (by decide)
theorem rq_ht_u {tk : Nat → Int32} {L : Nat} {x : Int32} : rq_ht (upd tk (80 + L) x) 80 L = rq_ht tk 80 L := rq_ht_congr (fun i hi => pk_un (by omega))
theorem rq_ht_u1 {tk : Nat → Int32} {L : Nat} {x : Int32} (h3 : x ≠ 3) (h4 : x ≠ 4) : rq_ht (upd tk (80 + L) x) 80 (L + 1) = rq_ht tk 80 L + 1 := by
  rw [rq_ht_o (by rw [pk_us]; exact h3) (by rw [pk_us]; exact h4), rq_ht_u]
theorem i_vc_num {k : Nat} {u : SX} {v : SY} (I : i_Rel k u v) (hk : k + 3 ≤ 1536) (v1 : Int32) : wpX_num (fun r u' => wpY_num (fun r' v' => r' = r ∧ i_Rel (k + 3) u' v') v v1) u v1 := by
  refine rq_el (P := fun u v => wpX_num (fun r u' => wpY_num (fun r' v' => r' = r ∧ i_Rel (k + 3) u' v') v v1) u v1) ?_ I
  intro h rv sc fr tp fl yt ln tk fs sn gv gt kn sl mm va ca ci sd nc nd fq fw fp pl wv wc kd yf yp vs yk yn ov ok I
  obtain ⟨L, hL, hL10, hh, hle⟩ := rq_draft I
  unfold wpX_num wpY_num
  dsimp only
  by_cases e : L = 10
  · have e' : ln 8 = 10 := hL.trans ((rq_ln10 hL10).mpr e)
    exact rq_x_df1 e' (br_f (by decide) (br_t e' ⟨rfl, rq_rel (rq_XI_up (by omega) I)⟩))
  · have e' : ¬ ln 8 = 10 := fun w => e ((rq_ln10 hL10).mp (hL.symm.trans w))
    refine rq_x_df0 e' (br_t rfl (rq_x_app L _ _ _ _ hL (by omega) (br_f e' (rq_y_app L _ _ _ _ hL (by omega) ⟨rfl, rq_rel (rq_XI_up (by omega) (rq_XI_app I hL (by omega) ?_ (fun w => absurd w (by decide)) (fun w => absurd w (by decide)) ?_))⟩))))
    · exact Or.inl ⟨pk_us, pk_us, pk_us.trans pk_us.symm⟩
    · rw [rq_ht_u1 (by decide) (by decide), hh, nI_1]
theorem i_vc_input {k : Nat} {u : SX} {v : SY} (I : i_Rel k u v) (hk : k + 3 ≤ 1536) (v1 : Int32) : wpX_input (fun r u' => wpY_input (fun r' v' => r' = r ∧ i_Rel (k + 3) u' v') v v1) u v1 := by
  refine rq_el (P := fun u v => wpX_input (fun r u' => wpY_input (fun r' v' => r' = r ∧ i_Rel (k + 3) u' v') v v1) u v1) ?_ I
  intro h rv sc fr tp fl yt ln tk fs sn gv gt kn sl mm va ca ci sd nc nd fq fw fp pl wv wc kd yf yp vs yk yn ov ok I
  obtain ⟨L, hL, hL10, hh, hle⟩ := rq_draft I
  unfold wpX_input wpY_input
  dsimp only
  rcases rq_ix6 v1 with hx | ⟨j, hj, rfl⟩
  · have H := rq_rel (k := k + 3) (fr := fr) (tp := tp) (fl := fl) (yt := yt) (fq := fq) (fw := fw) (fp := fp) (pl := pl) (wv := wv) (wc := wc) (yp := yp) (vs := vs) (yk := yk) (yn := yn) (ov := ov) (ok := ok) (rq_XI_up (show k + 1 ≤ k + 3 + 1 by omega) I)
    exact br_c (fun _ => rq_y_nin hx (br_t rfl ⟨rfl, H⟩)) (fun z => br_f (fun w => hx.elim z (fun w' => Int32.not_lt.mpr w' w)) (rq_y_nin hx (br_t rfl ⟨rfl, H⟩)))
  · refine br_f (nI_pos (by omega)) (br_t (nI_lt (b := 6) hj (by decide)) ?_)
    by_cases e : L = 10
    · have e' : ln 8 = 10 := hL.trans ((rq_ln10 hL10).mpr e)
      exact rq_x_df1 e' (br_f (by decide) (rq_y_in hj (br_f (by decide) (br_t e' ⟨rfl, rq_rel (rq_XI_up (by omega) I)⟩))))
    · have e' : ¬ ln 8 = 10 := fun w => e ((rq_ln10 hL10).mp (hL.symm.trans w))
      refine rq_x_df0 e' (br_t rfl (rq_x_app L _ _ _ _ hL (by omega) (rq_y_in hj (br_f (by decide) (br_f e' (rq_y_app L _ _ _ _ hL (by omega) ⟨rfl, rq_rel (rq_XI_up (by omega) (rq_XI_app I hL (by omega) ?_ (fun w => absurd w (by decide)) (fun w => absurd w (by decide)) ?_))⟩))))))
      · exact Or.inr (Or.inl ⟨pk_us, pk_us, pk_us.trans pk_us.symm, j, hj, pk_us⟩)
      · rw [rq_ht_u1 (by decide) (by decide), hh, nI_1]
theorem i_vc_query {k : Nat} {u : SX} {v : SY} (I : i_Rel k u v) (hk : k + 3 ≤ 1536) (v1 : Int32) : wpX_query (fun r u' => wpY_query (fun r' v' => r' = r ∧ i_Rel (k + 3) u' v') v v1) u v1 := by
  refine rq_el (P := fun u v => wpX_query (fun r u' => wpY_query (fun r' v' => r' = r ∧ i_Rel (k + 3) u' v') v v1) u v1) ?_ I
  intro h rv sc fr tp fl yt ln tk fs sn gv gt kn sl mm va ca ci sd nc nd fq fw fp pl wv wc kd yf yp vs yk yn ov ok I
  obtain ⟨L, hL, hL10, hh, hle⟩ := rq_draft I
  unfold wpX_query wpY_query
  dsimp only
  rcases rq_ix8 v1 with hx | ⟨j, hj, rfl⟩
  · exact rq_x_nbq hx (br_f (by decide) (rq_y_nq hx (br_t rfl ⟨rfl, rq_rel (rq_XI_up (by omega) I)⟩)))
  · refine rq_x_bq hj (br_t rfl ?_)
    by_cases e : L = 10
    · have e' : ln 8 = 10 := hL.trans ((rq_ln10 hL10).mpr e)
      exact rq_x_df1 e' (br_f (by decide) (rq_y_q hj (br_f (by decide) (br_t e' ⟨rfl, rq_rel (rq_XI_up (by omega) I)⟩))))
    · have e' : ¬ ln 8 = 10 := fun w => e ((rq_ln10 hL10).mp (hL.symm.trans w))
      refine rq_x_df0 e' (br_t rfl (rq_x_app L _ _ _ _ hL (by omega) (rq_y_q hj (br_f (by decide) (br_f e' (rq_y_app L _ _ _ _ hL (by omega) ⟨rfl, rq_rel (rq_XI_up (by omega) (rq_XI_app I hL (by omega) ?_ (fun w => absurd w (by decide)) (fun w => absurd w (by decide)) ?_))⟩))))))
      · exact Or.inr (Or.inr (Or.inl ⟨pk_us, pk_us, pk_us.trans pk_us.symm, j, hj, pk_us⟩))
      · rw [rq_ht_u1 (by decide) (by decide), hh, nI_1]
theorem i_vc_choose {k : Nat} {u : SX} {v : SY} (I : i_Rel k u v) (hk : k + 3 ≤ 1536) (v1 : Int32) (v2 : Int32) : wpX_choose (fun r u' => wpY_choose (fun r' v' => r' = r ∧ i_Rel (k + 3) u' v') v v1 v2) u v1 v2 := by
  refine rq_el (P := fun u v => wpX_choose (fun r u' => wpY_choose (fun r' v' => r' = r ∧ i_Rel (k + 3) u' v') v v1 v2) u v1 v2) ?_ I
  intro h rv sc fr tp fl yt ln tk fs sn gv gt kn sl mm va ca ci sd nc nd fq fw fp pl wv wc kd yf yp vs yk yn ov ok I
  obtain ⟨L, hL, hL10, hh, hle⟩ := rq_draft I
  unfold wpX_choose wpY_choose
  dsimp only
  rcases rq_ix8 v1 with hx | ⟨j, hj, rfl⟩
  · exact rq_x_nbq hx (br_f (by decide) (rq_y_nq hx (br_t rfl ⟨rfl, rq_rel (rq_XI_up (by omega) I)⟩)))
  · refine rq_x_bq hj (br_t rfl ?_)
    rcases rq_ix8 v2 with hx | ⟨j', hj', rfl⟩
    · exact rq_x_nbq hx (br_f (by decide) (rq_y_q hj (br_f (by decide) (rq_y_nq hx (br_t rfl ⟨rfl, rq_rel (rq_XI_up (by omega) I)⟩)))))
    · refine rq_x_bq hj' (br_t rfl ?_)
      by_cases e : L = 10
      · have e' : ln 8 = 10 := hL.trans ((rq_ln10 hL10).mpr e)
        exact rq_x_df1 e' (br_f (by decide) (rq_y_q hj (br_f (by decide) (rq_y_q hj' (br_f (by decide) (br_t e' ⟨rfl, rq_rel (rq_XI_up (by omega) I)⟩))))))
      · have e' : ¬ ln 8 = 10 := fun w => e ((rq_ln10 hL10).mp (hL.symm.trans w))
        refine rq_x_df0 e' (br_t rfl ?_)
        subst hh
        by_cases e0 : rq_ht tk 80 L = 0
        · refine br_f ?_ (rq_y_q hj (br_f (by decide) (rq_y_q hj' (br_f (by decide) (br_f e' (br_t ?_ ⟨rfl, rq_rel (rq_XI_up (by omega) I)⟩))))))
          · rw [e0]; decide
          · rw [e0]; decide
        · refine br_t (nI_le (a := 1) (by omega) (by omega)) (rq_x_app L _ _ _ _ hL (by omega) (rq_y_q hj (br_f (by decide) (rq_y_q hj' (br_f (by decide) (br_f e' (br_f (nI_ne0 (by omega) (by omega)) (rq_y_app L _ _ _ _ hL (by omega) ⟨rfl, rq_rel (rq_XI_up (by omega) (rq_XI_app I hL (by omega) ?_ (fun _ => by omega) (fun w => absurd w (by decide)) ?_))⟩))))))))
          · exact Or.inr (Or.inr (Or.inr (Or.inl ⟨pk_us, pk_us, pk_us.trans pk_us.symm, ⟨j, hj, pk_us⟩, j', hj', pk_us⟩)))
          · rw [rq_ht_3 pk_us, rq_ht_u, Int32.add_zero]
theorem i_vc_apply {k : Nat} {u : SX} {v : SY} (I : i_Rel k u v) (hk : k + 3 ≤ 1536) (v1 : Int32) : wpX_apply (fun r u' => wpY_apply (fun r' v' => r' = r ∧ i_Rel (k + 3) u' v') v v1) u v1 := by
  refine rq_el (P := fun u v => wpX_apply (fun r u' => wpY_apply (fun r' v' => r' = r ∧ i_Rel (k + 3) u' v') v v1) u v1) ?_ I
  intro h rv sc fr tp fl yt ln tk fs sn gv gt kn sl mm va ca ci sd nc nd fq fw fp pl wv wc kd yf yp vs yk yn ov ok I
  obtain ⟨L, hL, hL10, hh, hle⟩ := rq_draft I
  have H := rq_rel (k := k + 3) (fr := fr) (tp := tp) (fl := fl) (yt := yt) (fq := fq) (fw := fw) (fp := fp) (pl := pl) (wv := wv) (wc := wc) (yp := yp) (vs := vs) (yk := yk) (yn := yn) (ov := ov) (ok := ok) (rq_XI_up (show k + 1 ≤ k + 3 + 1 by omega) I)
  unfold wpX_apply wpY_apply
  dsimp only
  by_cases h0 : v1 < 0
  · exact br_t h0 (br_t h0 ⟨rfl, H⟩)
  · refine br_f h0 ?_
    by_cases h3 : v1 ≤ 3
    · obtain ⟨j, hj, rfl⟩ := nI_of2 (n := 3) (by decide) h0 h3
      refine br_t h3 ?_
      by_cases e : L = 10
      · have e' : ln 8 = 10 := hL.trans ((rq_ln10 hL10).mpr e)
        exact rq_x_df1 e' (br_f (by decide) (br_f h0 (br_t h3 (br_t e' ⟨rfl, H⟩))))
      · have e' : ¬ ln 8 = 10 := fun w => e ((rq_ln10 hL10).mp (hL.symm.trans w))
        refine rq_x_df0 e' (br_t rfl ?_)
        subst hh
        by_cases e0 : 2 ≤ rq_ht tk 80 L
        · have hb : (2 : Int32) ≤ nI (rq_ht tk 80 L) := nI_le (a := 2) e0 (by omega)
          refine br_t hb (rq_x_app L _ _ _ _ hL (by omega) (br_f h0 (br_t h3 (br_f e' (br_t hb (rq_y_app L _ _ _ _ hL (by omega) ⟨rfl, rq_rel (rq_XI_up (by omega) (rq_XI_app I hL (by omega) ?_ (fun w => absurd w (by decide)) (fun _ => e0) ?_))⟩))))))
          · exact Or.inr (Or.inr (Or.inr (Or.inr ⟨pk_us, j, by omega, pk_us, pk_us.trans (nI_add 4 j)⟩)))
          · rw [rq_ht_4 pk_us, rq_ht_u]
            obtain ⟨n, en⟩ : ∃ n, rq_ht tk 80 L = n + 1 := ⟨rq_ht tk 80 L - 1, by omega⟩
            rw [en, pk_m1]
            rfl
        · have hb : ¬ (2 : Int32) ≤ nI (rq_ht tk 80 L) := nI_ge (b := 2) (by omega) (by decide)
          exact br_f hb (br_f h0 (br_t h3 (br_f e' (br_f hb ⟨rfl, H⟩))))
    · exact br_f h3 (br_f h0 (br_f h3 ⟨rfl, H⟩))
end
section
/-! finish, and the constructors -/
section
variable {h rv sc fr tp fl : Int32} {ln tk fs sn gv gt kn sl mm va ca ci sd nc nd fq fw fp pl wv wc : Nat → Int32}
theorem rq_x_f31 {post : Int32 → SX → Prop} (q L : Nat) (hq : q < 8) (hL10 : L ≤ 10) (hP : post (nI L) (0, rv + 1, rv + 1, fr, tp, fl, upd (upd ln q (nI L)) 8 0, rq_cp tk q L, rq_cp fs q L, rq_cp sn q L, gv, gt, kn, upd sl q 1, mm, va, ca, ci, sd, nc, nd, fq, fw, fp, pl, wv, wc)) :
    ∀ d j : Nat, j + d = L → wX_finish_31 post (nI q) (nI L) h rv sc fr tp fl (d + 1) (nI j) ln (rq_cp tk q j) (rq_cp fs q j) (rq_cp sn q j) gv gt kn sl mm va ca ci sd nc nd fq fw fp pl wv wc := by
  have hi9 : vp_in (nI q) 9 := vp_in_nI (by omega) (by omega)
  have hi8 : vp_in (nI q) 8 := vp_in_nI hq (by omega)
  have hcq : (nI q).toNatClampNeg = q := nI_clamp (by omega)
  intro d
  induction d with
  | zero =>
    intro j hj
    have e : j = L := by omega
    subst e
    rw [wX_finish_31]
    dsimp only
    rw [hcq]
    refine br_t (Int32.le_refl _) ⟨hi9, nm_e ?_⟩
    unfold wpX_scrap
    exact nm_e ⟨hi8, nm_r (e' := upd sl q 1) (by rw [rq_nb1]) (nm_e hP)⟩
  | succ d ih =>
    intro j hj
    have ha : vp_in (nI (80 + j)) 90 := vp_in_nI (by omega) (by omega)
    have hca : (nI (80 + j)).toNatClampNeg = 80 + j := nI_clamp (by omega)
    have hb : vp_in (nI (10 * q + j)) 90 := vp_in_nI (by omega) (by omega)
    have hcb : (nI (10 * q + j)).toNatClampNeg = 10 * q + j := nI_clamp (by omega)
    rw [wX_finish_31]
    dsimp only
    rw [rq_80, rq_ix, hca, hcb]
    exact br_f (nI_ge (by omega) (by omega)) ⟨ha, hb, nm_e ⟨ha, hb, nm_e ⟨ha, hb, nm_e (nm_r (nI_1 j) (ih (j + 1) (by omega)))⟩⟩⟩
end
section
variable {h yt : Int32} {gv kd yf sn ln yp vs yk yn ov ok : Nat → Int32}
theorem rq_y_f23 {post : Int32 → SY → Prop} (q L : Nat) (hq : q < 8) (hL : ln 8 = nI L) (hL10 : L ≤ 10) (hP : post (nI L) (0, yt, gv, rq_cp kd q L, rq_cp yf q L, rq_cp sn q L, upd (upd ln q (nI L)) 8 0, yp, vs, yk, yn, ov, ok)) :
    ∀ d j : Nat, j + d = L → wY_finish_23 post (nI q) h yt (d + 1) (nI j) gv (rq_cp kd q j) (rq_cp yf q j) (rq_cp sn q j) ln yp vs yk yn ov ok := by
  have hi9 : vp_in (nI q) 9 := vp_in_nI (by omega) (by omega)
  have hcq : (nI q).toNatClampNeg = q := nI_clamp (by omega)
  intro d
  induction d with
  | zero =>
    intro j hj
    have e : j = L := by omega
    subst e
    rw [wY_finish_23]
    dsimp only
    rw [hL, hcq]
    refine br_t (Int32.le_refl _) ⟨hi9, nm_e ?_⟩
    unfold wpY_scrap
    have e2 : upd (upd ln q (nI j)) 8 0 q = nI j := (pk_un (by omega)).trans pk_us
    refine nm_e ⟨hi9, ?_⟩
    dsimp only
    rw [e2]
    exact hP
  | succ d ih =>
    intro j hj
    have ha : vp_in (nI (80 + j)) 90 := vp_in_nI (by omega) (by omega)
    have hca : (nI (80 + j)).toNatClampNeg = 80 + j := nI_clamp (by omega)
    have hb : vp_in (nI (10 * q + j)) 90 := vp_in_nI (by omega) (by omega)
    have hcb : (nI (10 * q + j)).toNatClampNeg = 10 * q + j := nI_clamp (by omega)
    rw [wY_finish_23]
    dsimp only
    rw [hL, rq_80, rq_ix2, hca, hcb]
    exact br_f (nI_ge (by omega) (by omega)) ⟨ha, hb, nm_e ⟨ha, hb, nm_e ⟨ha, hb, nm_e (nm_r (nI_1 j) (ih (j + 1) (by omega)))⟩⟩⟩
end
theorem i_vc_finish {k : Nat} {u : SX} {v : SY} (I : i_Rel k u v) (hk : k + 3 ≤ 1536) (v1 : Int32) : wpX_finish (fun r u' => wpY_finish (fun r' v' => r' = r ∧ i_Rel (k + 3) u' v') v v1) u v1 := by
  refine rq_el (P := fun u v => wpX_finish (fun r u' => wpY_finish (fun r' v' => r' = r ∧ i_Rel (k + 3) u' v') v v1) u v1) ?_ I
  intro h rv sc fr tp fl yt ln tk fs sn gv gt kn sl mm va ca ci sd nc nd fq fw fp pl wv wc kd yf yp vs yk yn ov ok I
  obtain ⟨L, hL, hL10, hh, hle⟩ := rq_draft I
  unfold wpX_finish wpY_finish
  dsimp only
  rcases rq_ix8 v1 with hx | ⟨j, hj, rfl⟩
  · exact rq_x_nbq hx (br_f (by decide) (rq_y_nq hx (br_t rfl ⟨rfl, rq_rel (rq_XI_up (by omega) I)⟩)))
  · refine rq_x_bq hj (br_t rfl ?_)
    by_cases h1 : h = 1
    · refine br_t h1 (nm_r hL ⟨L + 1, ?_⟩)
      refine rq_x_f31 j L hj hL10 ?_ L 0 (by omega)
      refine rq_y_q hj (br_f (by decide) (br_t h1 ⟨L + 1, ?_⟩))
      exact rq_y_f23 j L hj hL hL10 ⟨rfl, rq_rel (rq_XI_up (by omega) (rq_XI_fin I (by omega) hL hL10 hj h1))⟩ L 0 (by omega)
    · exact br_f h1 (rq_y_q hj (br_f (by decide) (br_f h1 ⟨rfl, rq_rel (rq_XI_up (by omega) I)⟩)))
/-! the constructors -/
def rq_ini : Nat → (Nat → Int32)
  | 0 => fun _ => 0
  | j + 1 => upd (rq_ini j) j 1
theorem rq_ini_i {q : Nat} : ∀ {j : Nat}, q < j → rq_ini j q = 1 := by
  intro j
  induction j with
  | zero => intro h; omega
  | succ j ih =>
    intro hq
    show upd (rq_ini j) j 1 q = 1
    by_cases e : q = j
    · rw [e, pk_us]
    · rw [pk_un e]; exact ih (by omega)
theorem rq_ini_o {q : Nat} : ∀ {j : Nat}, j ≤ q → rq_ini j q = 0 := by
  intro j
  induction j with
  | zero => intro _; rfl
  | succ j ih =>
    intro hq
    show upd (rq_ini j) j 1 q = 0
    rw [pk_un (by omega)]; exact ih (by omega)
theorem rq_XI_0 : rq_XI 1 0 1 0 (fun _ => 0) (fun _ => 0, fun _ => 0, fun _ => 0, rq_ini 8, fun _ => 0) (fun _ => 0, rq_ini 8, fun _ => 0, fun _ => 0, fun _ => 0, fun _ => 0, fun _ => 0, fun _ => 0, fun _ => 0) (fun _ => 0) (fun _ => 0) := by
  have eL : ∀ q, q < 8 → rq_L (fun _ => 0, fun _ => 0, fun _ => 0, rq_ini 8, fun _ => 0) q = 1 := by
    intro q hq
    show (rq_ini 8 q).toNatClampNeg = 1
    rw [rq_ini_i hq]; decide
  have e8 : rq_L (fun _ => 0, fun _ => 0, fun _ => 0, rq_ini 8, fun _ => 0) 8 = 0 := by
    show (rq_ini 8 8).toNatClampNeg = 0
    rw [rq_ini_o (Nat.le_refl 8)]; decide
  refine ⟨⟨fun i _ => Or.inl ⟨rfl, rfl, rfl⟩, fun q hq => ?_, by rw [e8]; omega, ?_, ?_, by rw [e8]; rfl⟩, ⟨1, rfl, Nat.le_refl _⟩, by decide, fun i _ => (by decide : (0 : Int32) ≤ 1), fun q hq => ?_⟩
  · rw [eL q hq]
    refine ⟨by omega, rq_ini_i hq, fun p hp => ⟨fun w => absurd w (by decide : ¬ (0 : Int32) = 3), fun w => absurd w (by decide : ¬ (0 : Int32) = 4)⟩, rfl⟩
  · rw [e8]
    exact rq_ini_o (Nat.le_refl 8)
  · rw [e8]
    exact fun p hp => absurd hp (Nat.not_lt_zero p)
  · refine ⟨⟨(by decide : (0 : Int32) ≤ 1), (by decide : (0 : Int32) ≤ 1), (by decide : (0 : Int32) ≤ 1)⟩, fun h => absurd rfl h, fun h => ?_, fun h => absurd h (by decide : ¬ (0 : Int32) = 1)⟩
    rcases h with h | h
    · exact absurd rfl h.1
    · exact absurd rfl h.1
theorem rq_x_i179 {post : SX → Prop} (hP : post (0, 1, 0, 0, 0, 0, rq_ini 8, fun _ => 0, fun _ => 0, fun _ => 0, fun _ => 0, fun _ => 0, fun _ => 0, rq_ini 8, fun _ => 0, fun _ => 0, fun _ => 0, fun _ => 0, fun _ => 0, fun _ => 0, fun _ => 0, fun _ => 0, fun _ => 0, fun _ => 0, fun _ => 0, fun _ => 0, fun _ => 0)) :
    ∀ d j : Nat, j + d = 8 → wX_init_179 post 0 1 0 0 0 0 (d + 1) (nI j) (rq_ini j) (fun _ => 0) (fun _ => 0) (fun _ => 0) (fun _ => 0) (fun _ => 0) (fun _ => 0) (rq_ini j) (fun _ => 0) (fun _ => 0) (fun _ => 0) (fun _ => 0) (fun _ => 0) (fun _ => 0) (fun _ => 0) (fun _ => 0) (fun _ => 0) (fun _ => 0) (fun _ => 0) (fun _ => 0) (fun _ => 0) := by
  intro d
  induction d with
  | zero =>
    intro j hj
    have e : j = 8 := by omega
    subst e
    rw [wX_init_179]
    exact br_t (by decide) hP
  | succ d ih =>
    intro j hj
    have h9 : vp_in (nI j) 9 := vp_in_nI (by omega) (by omega)
    have h8 : vp_in (nI j) 8 := vp_in_nI (by omega) (by omega)
    have hc : (nI j).toNatClampNeg = j := nI_clamp (by omega)
    rw [wX_init_179]
    dsimp only
    rw [hc]
    exact br_f (nI_ge (a := j) (b := 8) (by omega) (by decide)) ⟨h9, nm_e ⟨h8, nm_r (e' := upd (rq_ini j) j 1) (by rw [rq_nb1]) (nm_r (nI_1 j) (ih (j + 1) (by omega)))⟩⟩
theorem rq_y_i94 {post : SY → Prop} (hP : post (0, 0, fun _ => 0, fun _ => 0, fun _ => 0, fun _ => 0, rq_ini 8, fun _ => 0, fun _ => 0, fun _ => 0, fun _ => 0, fun _ => 0, fun _ => 0)) :
    ∀ d j : Nat, j + d = 8 → wY_init_94 post 0 0 (d + 1) (nI j) (fun _ => 0) (fun _ => 0) (fun _ => 0) (fun _ => 0) (rq_ini j) (fun _ => 0) (fun _ => 0) (fun _ => 0) (fun _ => 0) (fun _ => 0) (fun _ => 0) := by
  intro d
  induction d with
  | zero =>
    intro j hj
    have e : j = 8 := by omega
    subst e
    rw [wY_init_94]
    exact br_t (by decide) hP
  | succ d ih =>
    intro j hj
    have h9 : vp_in (nI j) 9 := vp_in_nI (by omega) (by omega)
    have hc : (nI j).toNatClampNeg = j := nI_clamp (by omega)
    rw [wY_init_94]
    dsimp only
    rw [hc]
    exact br_f (nI_ge (a := j) (b := 8) (by omega) (by decide)) ⟨h9, nm_e (nm_r (nI_1 j) (ih (j + 1) (by omega)))⟩
theorem i_vc0 : wpX_init (fun u => wpY_init (fun v => i_Rel 0 u v)) :=
  ⟨9, rq_x_i179 ⟨9, rq_y_i94 (rq_rel rq_XI_0) 8 0 rfl⟩ 8 0 rfl⟩
end
section
/-! the answers: both sides against what can be derived -/
noncomputable def rq_dv (D : rq_D) (q : Nat) : Option Int32 := @dite _ (∃ v, rq_Der D q v) (Classical.propDecidable _) (fun h => some h.choose) (fun _ => none)
theorem rq_dv_s {D : rq_D} {q : Nat} {v : Int32} (h : rq_Der D q v) : rq_dv D q = some v := by
  unfold rq_dv
  have hx : ∃ v, rq_Der D q v := ⟨v, h⟩
  rw [dif_pos hx]
  exact congrArg some (rq_det hx.choose_spec _ h)
theorem rq_dv_n {D : rq_D} {q : Nat} (h : ∀ v, ¬ rq_Der D q v) : rq_dv D q = none := by
  unfold rq_dv
  have hx : ¬ ∃ v, rq_Der D q v := fun ⟨v, hv⟩ => h v hv
  rw [dif_neg hx]
section
variable {h rv sc fr tp fl : Int32} {ln tk fs sn gv gt kn sl mm va ca ci sd nc nd fq fw fp pl wv wc kd yf : Nat → Int32} {m : Nat}
theorem rq_x_ens {post : Int32 → SX → Prop} {q : Nat} (hq : q < 8) (I : rq_XI m h rv sc gt (tk, fs, sn, ln, gv) (kn, sl, mm, va, ca, ci, sd, nc, nd) kd yf)
    (hP : ∀ (r fr tp fl : Int32) (kn sl mm va ca ci sd nc nd fq fw fp pl : Nat → Int32), rq_XI m h rv sc gt (tk, fs, sn, ln, gv) (kn, sl, mm, va, ca, ci, sd, nc, nd) kd yf → ((r = 1 ∧ rq_dv (tk, fs, sn, ln, gv) q = some (mm q)) ∨ (r = 0 ∧ rq_dv (tk, fs, sn, ln, gv) q = none)) → post r (h, rv, sc, fr, tp, fl, ln, tk, fs, sn, gv, gt, kn, sl, mm, va, ca, ci, sd, nc, nd, fq, fw, fp, pl, wv, wc)) : wpX_ensure post (h, rv, sc, fr, tp, fl, ln, tk, fs, sn, gv, gt, kn, sl, mm, va, ca, ci, sd, nc, nd, fq, fw, fp, pl, wv, wc) (nI q) := by
  obtain ⟨A, hR, hsc, hgt, B⟩ := I
  refine rq_x_ensure (rq_RB_BX A) hsc hq B (fun fr tp kn sl mm va ca ci sd nc nd fq fw fp pl B' hf => hP _ _ _ _ _ _ _ _ _ _ _ _ _ _ _ _ _ ⟨A, hR, hsc, hgt, B'⟩ (Or.inl ⟨rfl, ?_⟩)) (fun fr tp kn sl mm va ca ci sd nc nd fq fw fp pl B' hn => hP _ _ _ _ _ _ _ _ _ _ _ _ _ _ _ _ _ ⟨A, hR, hsc, hgt, B'⟩ (Or.inr ⟨rfl, rq_dv_n hn⟩))
  exact rq_dv_s ((B' q hq).2.2.1 (Or.inl hf))
end
section
variable {h yt : Int32} {tk fs gv kd yf sn ln yp vs yk yn ov ok : Nat → Int32}
def rq_YA (D : rq_D) (vs yk : Nat → Int32) : Prop := ∀ q, q < 8 → (yk q = 1 ∧ rq_dv D q = some (vs q)) ∨ (yk q = 0 ∧ rq_dv D q = none)
theorem rq_y_cmp {post : SY → Prop} {h0 : Int32} (A : rq_RB h0 (tk, fs, sn, ln, gv) kd yf)
    (hP : ∀ (yt : Int32) (yp vs yk yn : Nat → Int32), rq_YA (tk, fs, sn, ln, gv) vs yk → post (h, yt, gv, kd, yf, sn, ln, yp, vs, yk, yn, ov, ok)) : wpY_computeAll post (h, yt, gv, kd, yf, sn, ln, yp, vs, yk, yn, ov, ok) := by
  refine rq_y_comp (tk := tk) (fs := fs) (rq_RB_BX A) A.1 (fun yt yp vs yk yn I C => hP _ _ _ _ _ (fun q hq => ?_))
  obtain ⟨a, b⟩ := I q hq
  rcases a with a | a
  · exact Or.inr ⟨a, rq_dv_n (C q hq a)⟩
  · exact Or.inl ⟨a, rq_dv_s (b (by rw [a]; decide)).1⟩
end
theorem i_vc_value {k : Nat} {u : SX} {v : SY} (I : i_Rel k u v) (hk : k + 3 ≤ 1536) (v1 : Int32) : wpX_value (fun r u' => wpY_value (fun r' v' => r' = r ∧ i_Rel (k + 3) u' v') v v1) u v1 := by
  refine rq_el (P := fun u v => wpX_value (fun r u' => wpY_value (fun r' v' => r' = r ∧ i_Rel (k + 3) u' v') v v1) u v1) ?_ I
  intro h rv sc fr tp fl yt ln tk fs sn gv gt kn sl mm va ca ci sd nc nd fq fw fp pl wv wc kd yf yp vs yk yn ov ok I
  unfold wpX_value wpY_value
  dsimp only
  rcases rq_ix8 v1 with hx | ⟨j, hj, rfl⟩
  · exact rq_x_nbq hx (br_f (by decide) (rq_y_nq hx (br_t rfl ⟨rfl, rq_rel (rq_XI_up (by omega) I)⟩)))
  · have hi : vp_in (nI j) 8 := vp_in_nI hj (by omega)
    have hc : (nI j).toNatClampNeg = j := nI_clamp (by omega)
    refine rq_x_bq hj (br_t rfl (rq_x_ens hj I (fun r fr tp fl kn sl mm va ca ci sd nc nd fq fw fp pl I' hr => ?_)))
    rcases hr with ⟨rfl, hd⟩ | ⟨rfl, hd⟩
    · refine br_f (by decide) ⟨hi, rq_y_q hj (br_f (by decide) (rq_y_cmp (tk := tk) (fs := fs) I.1 (fun yt yp vs yk yn A => ?_)))⟩
      dsimp only
      rw [hc]
      rcases A j hj with ⟨a, b⟩ | ⟨a, b⟩
      · exact ⟨hi, br_f (by rw [a]; decide) ⟨hi, Option.some.inj (b.symm.trans hd), rq_rel (rq_XI_up (by omega) I')⟩⟩
      · exact absurd (b.symm.trans hd) (by simp)
    · refine br_t rfl (rq_y_q hj (br_f (by decide) (rq_y_cmp (tk := tk) (fs := fs) I.1 (fun yt yp vs yk yn A => ?_))))
      dsimp only
      rw [hc]
      rcases A j hj with ⟨a, b⟩ | ⟨a, b⟩
      · exact absurd (b.symm.trans hd) (by simp)
      · exact ⟨hi, br_t a ⟨rfl, rq_rel (rq_XI_up (by omega) I')⟩⟩
theorem i_vc_circular {k : Nat} {u : SX} {v : SY} (I : i_Rel k u v) (hk : k + 3 ≤ 1536) (v1 : Int32) : wpX_circular (fun r u' => wpY_circular (fun r' v' => r' = r ∧ i_Rel (k + 3) u' v') v v1) u v1 := by
  refine rq_el (P := fun u v => wpX_circular (fun r u' => wpY_circular (fun r' v' => r' = r ∧ i_Rel (k + 3) u' v') v v1) u v1) ?_ I
  intro h rv sc fr tp fl yt ln tk fs sn gv gt kn sl mm va ca ci sd nc nd fq fw fp pl wv wc kd yf yp vs yk yn ov ok I
  unfold wpX_circular wpY_circular
  dsimp only
  rcases rq_ix8 v1 with hx | ⟨j, hj, rfl⟩
  · exact rq_x_nbq hx (br_f (by decide) (rq_y_nq hx (br_t rfl ⟨rfl, rq_rel (rq_XI_up (by omega) I)⟩)))
  · have hi : vp_in (nI j) 8 := vp_in_nI hj (by omega)
    have hc : (nI j).toNatClampNeg = j := nI_clamp (by omega)
    refine rq_x_bq hj (br_t rfl (rq_x_ens hj I (fun r fr tp fl kn sl mm va ca ci sd nc nd fq fw fp pl I' hr => ?_)))
    rcases hr with ⟨rfl, hd⟩ | ⟨rfl, hd⟩
    · refine br_f (by decide) (rq_y_q hj (br_f (by decide) (rq_y_cmp (tk := tk) (fs := fs) I.1 (fun yt yp vs yk yn A => ?_))))
      dsimp only
      rw [hc]
      rcases A j hj with ⟨a, b⟩ | ⟨a, b⟩
      · exact ⟨hi, br_f (by rw [a]; decide) ⟨rfl, rq_rel (rq_XI_up (by omega) I')⟩⟩
      · exact absurd (b.symm.trans hd) (by simp)
    · refine br_t rfl (rq_y_q hj (br_f (by decide) (rq_y_cmp (tk := tk) (fs := fs) I.1 (fun yt yp vs yk yn A => ?_))))
      dsimp only
      rw [hc]
      rcases A j hj with ⟨a, b⟩ | ⟨a, b⟩
      · exact absurd (b.symm.trans hd) (by simp)
      · exact ⟨hi, br_t a ⟨rfl, rq_rel (rq_XI_up (by omega) I')⟩⟩
/-! total and circulars -/
noncomputable def rq_tot (D : rq_D) : Nat → Int32
  | 0 => 0
  | j + 1 => (rq_dv D j).elim (rq_tot D j) (fun v => rq_tot D j + (nI j + 1) * v)
theorem rq_tot_s {D : rq_D} {j : Nat} {v : Int32} (h : rq_dv D j = some v) : rq_tot D (j + 1) = rq_tot D j + (nI j + 1) * v := by
  show (rq_dv D j).elim _ _ = _
  rw [h]; rfl
theorem rq_tot_n {D : rq_D} {j : Nat} (h : rq_dv D j = none) : rq_tot D (j + 1) = rq_tot D j := by
  show (rq_dv D j).elim _ _ = _
  rw [h]; rfl
noncomputable def rq_cir (D : rq_D) : Nat → Int32
  | 0 => 0
  | j + 1 => (rq_dv D j).elim (rq_cir D j ||| ((1 : Int32) <<< (nI j &&& 31))) (fun _ => rq_cir D j)
theorem rq_cir_s {D : rq_D} {j : Nat} {v : Int32} (h : rq_dv D j = some v) : rq_cir D (j + 1) = rq_cir D j := by
  show (rq_dv D j).elim _ _ = _
  rw [h]; rfl
theorem rq_cir_n {D : rq_D} {j : Nat} (h : rq_dv D j = none) : rq_cir D (j + 1) = rq_cir D j ||| ((1 : Int32) <<< (nI j &&& 31)) := by
  show (rq_dv D j).elim _ _ = _
  rw [h]; rfl
theorem rq_tab8 : ∀ j, j < 8 → ∀ x, x < 256 → x < 2 ^ j → nI x ||| ((1 : Int32) <<< (nI j &&& 31)) = nI (x + 2 ^ j) ∧ nI x + ((1 : Int32) <<< (nI j &&& 31)) = nI (x + 2 ^ j) := by decide +kernel
theorem rq_pow8 : ∀ j, j < 8 → 2 ^ j < 256 := by decide
theorem rq_cir_b (D : rq_D) : ∀ {j : Nat}, j ≤ 8 → ∃ x, x < 2 ^ j ∧ rq_cir D j = nI x := by
  intro j
  induction j with
  | zero => intro _; exact ⟨0, by decide, rfl⟩
  | succ j ih =>
    intro hj
    obtain ⟨x, hx, e⟩ := ih (by omega)
    have h2 : 2 ^ (j + 1) = 2 ^ j + 2 ^ j := by rw [Nat.pow_succ]; omega
    have h8 := rq_pow8 j (by omega)
    rcases hd : rq_dv D j with _ | v
    · rw [rq_cir_n hd, e, (rq_tab8 j (by omega) x (by omega) hx).1]
      exact ⟨_, by omega, rfl⟩
    · rw [rq_cir_s hd, e]
      exact ⟨x, by omega, rfl⟩
theorem rq_cir_p {D : rq_D} {j : Nat} (hj : j < 8) (h : rq_dv D j = none) : rq_cir D j + ((1 : Int32) <<< (nI j &&& 31)) = rq_cir D (j + 1) := by
  obtain ⟨x, hx, e⟩ := rq_cir_b D (show j ≤ 8 by omega)
  have h8 := rq_pow8 j hj
  obtain ⟨a, b⟩ := rq_tab8 j hj x (by omega) hx
  rw [rq_cir_n h, e, a, b]
section
variable {h rv sc fr tp fl : Int32} {ln tk fs sn gv gt kn sl mm va ca ci sd nc nd fq fw fp pl wv wc kd yf : Nat → Int32} {m : Nat} {post : Int32 → SX → Prop}
theorem rq_x_tot (hP : ∀ (fr tp fl : Int32) (kn sl mm va ca ci sd nc nd fq fw fp pl : Nat → Int32), rq_XI m h rv sc gt (tk, fs, sn, ln, gv) (kn, sl, mm, va, ca, ci, sd, nc, nd) kd yf → post (rq_tot (tk, fs, sn, ln, gv) 8) (h, rv, sc, fr, tp, fl, ln, tk, fs, sn, gv, gt, kn, sl, mm, va, ca, ci, sd, nc, nd, fq, fw, fp, pl, wv, wc)) :
    ∀ (d j : Nat) (fr tp fl : Int32) (kn sl mm va ca ci sd nc nd fq fw fp pl : Nat → Int32), j + d = 8 → rq_XI m h rv sc gt (tk, fs, sn, ln, gv) (kn, sl, mm, va, ca, ci, sd, nc, nd) kd yf → wX_total_4 post (d + 1) (rq_tot (tk, fs, sn, ln, gv) j) (nI j) h rv sc fr tp fl ln tk fs sn gv gt kn sl mm va ca ci sd nc nd fq fw fp pl wv wc := by
  intro d
  induction d with
  | zero =>
    intro j fr tp fl kn sl mm va ca ci sd nc nd fq fw fp pl hj I
    have e : j = 8 := by omega
    subst e
    rw [wX_total_4]
    exact br_t (by decide) (hP _ _ _ _ _ _ _ _ _ _ _ _ _ _ _ _ I)
  | succ d ih =>
    intro j fr tp fl kn sl mm va ca ci sd nc nd fq fw fp pl hj I
    have h8 : j < 8 := by omega
    have hi : vp_in (nI j) 8 := vp_in_nI h8 (by omega)
    have hc : (nI j).toNatClampNeg = j := nI_clamp (by omega)
    rw [wX_total_4]
    refine br_f (nI_ge (b := 8) h8 (by decide)) (rq_x_ens h8 I (fun r fr tp fl kn sl mm va ca ci sd nc nd fq fw fp pl I' hr => ?_))
    rcases hr with ⟨rfl, hd⟩ | ⟨rfl, hd⟩
    · refine br_f (by decide) ⟨hi, nm_r (e' := rq_tot (tk, fs, sn, ln, gv) (j + 1)) ?_ (nm_r (nI_1 j) (ih (j + 1) _ _ _ _ _ _ _ _ _ _ _ _ _ _ _ _ (by omega) I'))⟩
      rw [rq_tot_s hd, hc]
    · refine br_t rfl (nm_r (nI_1 j) ?_)
      rw [← rq_tot_n hd]
      exact ih (j + 1) _ _ _ _ _ _ _ _ _ _ _ _ _ _ _ _ (by omega) I'
theorem rq_x_cirs (hP : ∀ (fr tp fl : Int32) (kn sl mm va ca ci sd nc nd fq fw fp pl : Nat → Int32), rq_XI m h rv sc gt (tk, fs, sn, ln, gv) (kn, sl, mm, va, ca, ci, sd, nc, nd) kd yf → post (rq_cir (tk, fs, sn, ln, gv) 8) (h, rv, sc, fr, tp, fl, ln, tk, fs, sn, gv, gt, kn, sl, mm, va, ca, ci, sd, nc, nd, fq, fw, fp, pl, wv, wc)) :
    ∀ (d j : Nat) (fr tp fl : Int32) (kn sl mm va ca ci sd nc nd fq fw fp pl : Nat → Int32), j + d = 8 → rq_XI m h rv sc gt (tk, fs, sn, ln, gv) (kn, sl, mm, va, ca, ci, sd, nc, nd) kd yf → wX_circulars_4 post (d + 1) (rq_cir (tk, fs, sn, ln, gv) j) (nI j) h rv sc fr tp fl ln tk fs sn gv gt kn sl mm va ca ci sd nc nd fq fw fp pl wv wc := by
  intro d
  induction d with
  | zero =>
    intro j fr tp fl kn sl mm va ca ci sd nc nd fq fw fp pl hj I
    have e : j = 8 := by omega
    subst e
    rw [wX_circulars_4]
    exact br_t (by decide) (hP _ _ _ _ _ _ _ _ _ _ _ _ _ _ _ _ I)
  | succ d ih =>
    intro j fr tp fl kn sl mm va ca ci sd nc nd fq fw fp pl hj I
    have h8 : j < 8 := by omega
    rw [wX_circulars_4]
    refine br_f (nI_ge (b := 8) h8 (by decide)) (rq_x_ens h8 I (fun r fr tp fl kn sl mm va ca ci sd nc nd fq fw fp pl I' hr => ?_))
    rcases hr with ⟨rfl, hd⟩ | ⟨rfl, hd⟩
    · refine br_f (by decide) (nm_r (nI_1 j) ?_)
      rw [← rq_cir_s hd]
      exact ih (j + 1) _ _ _ _ _ _ _ _ _ _ _ _ _ _ _ _ (by omega) I'
    · exact br_t rfl (nm_r (rq_cir_n hd).symm (nm_r (nI_1 j) (ih (j + 1) _ _ _ _ _ _ _ _ _ _ _ _ _ _ _ _ (by omega) I')))
end
section
variable {h yt : Int32} {gv kd yf sn ln yp vs yk yn ov ok : Nat → Int32} {post : Int32 → SY → Prop} {D : rq_D}
theorem rq_y_tot (A : rq_YA D vs yk) (hP : post (rq_tot D 8) (h, yt, gv, kd, yf, sn, ln, yp, vs, yk, yn, ov, ok)) : ∀ d j : Nat, j + d = 8 → wY_total_8 post h yt gv kd yf sn ln yp vs yk yn ov ok (d + 1) (rq_tot D j) (nI j) := by
  intro d
  induction d with
  | zero =>
    intro j hj
    have e : j = 8 := by omega
    subst e
    rw [wY_total_8]
    exact br_t (by decide) hP
  | succ d ih =>
    intro j hj
    have h8 : j < 8 := by omega
    have hi : vp_in (nI j) 8 := vp_in_nI h8 (by omega)
    have hc : (nI j).toNatClampNeg = j := nI_clamp (by omega)
    rw [wY_total_8]
    dsimp only
    rw [hc]
    refine br_f (nI_ge (b := 8) h8 (by decide)) ⟨hi, ?_⟩
    rcases A j h8 with ⟨a, b⟩ | ⟨a, b⟩
    · exact br_f (by rw [a]; decide) ⟨hi, nm_r (rq_tot_s b).symm (nm_r (nI_1 j) (ih (j + 1) (by omega)))⟩
    · refine br_t a (nm_r (nI_1 j) ?_)
      rw [← rq_tot_n b]
      exact ih (j + 1) (by omega)
theorem rq_y_cirs (A : rq_YA D vs yk) (hP : post (rq_cir D 8) (h, yt, gv, kd, yf, sn, ln, yp, vs, yk, yn, ov, ok)) : ∀ d j : Nat, j + d = 8 → wY_circulars_8 post h yt gv kd yf sn ln yp vs yk yn ov ok (d + 1) (rq_cir D j) (nI j) := by
  intro d
  induction d with
  | zero =>
    intro j hj
    have e : j = 8 := by omega
    subst e
    rw [wY_circulars_8]
    exact br_t (by decide) hP
  | succ d ih =>
    intro j hj
    have h8 : j < 8 := by omega
    have hi : vp_in (nI j) 8 := vp_in_nI h8 (by omega)
    have hc : (nI j).toNatClampNeg = j := nI_clamp (by omega)
    rw [wY_circulars_8]
    dsimp only
    rw [hc]
    refine br_f (nI_ge (b := 8) h8 (by decide)) ⟨hi, ?_⟩
    rcases A j h8 with ⟨a, b⟩ | ⟨a, b⟩
    · refine br_f (by rw [a]; decide) (nm_r (nI_1 j) ?_)
      rw [← rq_cir_s b]
      exact ih (j + 1) (by omega)
    · exact br_t a (nm_r (rq_cir_p h8 b) (nm_r (nI_1 j) (ih (j + 1) (by omega))))
end
theorem i_vc_total {k : Nat} {u : SX} {v : SY} (I : i_Rel k u v) (hk : k + 3 ≤ 1536) : wpX_total (fun r u' => wpY_total (fun r' v' => r' = r ∧ i_Rel (k + 3) u' v') v) u := by
  refine rq_el (P := fun u v => wpX_total (fun r u' => wpY_total (fun r' v' => r' = r ∧ i_Rel (k + 3) u' v') v) u) ?_ I
  intro h rv sc fr tp fl yt ln tk fs sn gv gt kn sl mm va ca ci sd nc nd fq fw fp pl wv wc kd yf yp vs yk yn ov ok I
  unfold wpX_total wpY_total
  dsimp only
  refine ⟨9, rq_x_tot (fun fr tp fl kn sl mm va ca ci sd nc nd fq fw fp pl I' => ?_) 8 0 _ _ _ _ _ _ _ _ _ _ _ _ _ _ _ _ rfl I⟩
  refine rq_y_cmp (tk := tk) (fs := fs) I.1 (fun yt yp vs yk yn A => ⟨9, ?_⟩)
  exact rq_y_tot A ⟨rfl, rq_rel (rq_XI_up (by omega) I')⟩ 8 0 rfl
theorem i_vc_circulars {k : Nat} {u : SX} {v : SY} (I : i_Rel k u v) (hk : k + 3 ≤ 1536) : wpX_circulars (fun r u' => wpY_circulars (fun r' v' => r' = r ∧ i_Rel (k + 3) u' v') v) u := by
  refine rq_el (P := fun u v => wpX_circulars (fun r u' => wpY_circulars (fun r' v' => r' = r ∧ i_Rel (k + 3) u' v') v) u) ?_ I
  intro h rv sc fr tp fl yt ln tk fs sn gv gt kn sl mm va ca ci sd nc nd fq fw fp pl wv wc kd yf yp vs yk yn ov ok I
  unfold wpX_circulars wpY_circulars
  dsimp only
  refine ⟨9, rq_x_cirs (fun fr tp fl kn sl mm va ca ci sd nc nd fq fw fp pl I' => ?_) 8 0 _ _ _ _ _ _ _ _ _ _ _ _ _ _ _ _ rfl I⟩
  refine rq_y_cmp (tk := tk) (fs := fs) I.1 (fun yt yp vs yk yn A => ⟨9, ?_⟩)
  exact rq_y_cirs A ⟨rfl, rq_rel (rq_XI_up (by omega) I')⟩ 8 0 rfl
end
section
/-! stirred -/
noncomputable def rq_cnt (D D' : rq_D) : Nat → Int32
  | 0 => 0
  | j + 1 => if rq_dv D j = rq_dv D' j then rq_cnt D D' j else rq_cnt D D' j + 1
theorem rq_cnt_e {D D' : rq_D} {j : Nat} (h : rq_dv D j = rq_dv D' j) : rq_cnt D D' (j + 1) = rq_cnt D D' j := if_pos h
theorem rq_cnt_d {D D' : rq_D} {j : Nat} (h : rq_dv D j ≠ rq_dv D' j) : rq_cnt D D' (j + 1) = rq_cnt D D' j + 1 := if_neg h
/-- what X noted of the first j queries -/
def rq_WN (D : rq_D) (wv wc : Nat → Int32) (j : Nat) : Prop := ∀ q, q < j → (wc q = 0 ∧ rq_dv D q = some (wv q)) ∨ (wc q = 1 ∧ rq_dv D q = none)
theorem rq_upd_back {f : Nat → Int32} {i : Nat} {w : Int32} : upd (upd f i w) i (f i) = f := by
  funext j
  by_cases h : j = i
  · rw [h, pk_us]
  · rw [pk_un h, pk_un h]
section
variable {h rv sc fr tp fl : Int32} {ln tk fs sn gv gt kn sl mm va ca ci sd nc nd fq fw fp pl wv wc kd yf : Nat → Int32} {m : Nat} {post : Int32 → SX → Prop}
theorem rq_x_s81 {i : Nat} {w : Int32} {D0 : rq_D} (hi : i < 6) (hm : m < 2000) (hw : rq_WN D0 wv wc 8)
    (hP : ∀ (rv sc fr tp fl : Int32) (gt kn sl mm va ca ci sd nc nd fq fw fp pl : Nat → Int32), rq_XI (m + 1) h rv sc gt (tk, fs, sn, ln, gv) (kn, sl, mm, va, ca, ci, sd, nc, nd) kd yf → post (rq_cnt D0 (tk, fs, sn, ln, upd gv i w) 8) (h, rv, sc, fr, tp, fl, ln, tk, fs, sn, gv, gt, kn, sl, mm, va, ca, ci, sd, nc, nd, fq, fw, fp, pl, wv, wc)) :
    ∀ (d j : Nat) (fr tp fl : Int32) (kn sl mm va ca ci sd nc nd fq fw fp pl : Nat → Int32), j + d = 8 → rq_XI m h rv sc gt (tk, fs, sn, ln, upd gv i w) (kn, sl, mm, va, ca, ci, sd, nc, nd) kd yf → wX_stirred_81 post (nI i) (gv i) (d + 1) (rq_cnt D0 (tk, fs, sn, ln, upd gv i w) j) (nI j) h rv sc fr tp fl ln tk fs sn (upd gv i w) gt kn sl mm va ca ci sd nc nd fq fw fp pl wv wc := by
  intro d
  induction d with
  | zero =>
    intro j fr tp fl kn sl mm va ca ci sd nc nd fq fw fp pl hj I
    have e : j = 8 := by omega
    subst e
    rw [wX_stirred_81]
    refine br_t (by decide) (rq_x_set i (gv i) hi (fun z => ?_) (fun z sc' hs => ?_))
    · have eg : upd gv i w = gv := by
        rw [pk_us] at z
        exact rq_upd_id z.symm
      have I' : rq_XI m h rv sc gt (tk, fs, sn, ln, gv) (kn, sl, mm, va, ca, ci, sd, nc, nd) kd yf := by rw [eg] at I; exact I
      have H := hP _ _ fr tp fl _ _ _ _ _ _ _ _ _ _ fq fw fp pl (rq_XI_up (Nat.le_succ m) I')
      dsimp only
      rw [eg] at H ⊢
      exact H
    · have I' := rq_XI_set (w := gv i) I hm hi hs
      rw [rq_upd_back] at I'
      dsimp only
      rw [rq_upd_back]
      exact hP _ _ _ _ _ _ _ _ _ _ _ _ _ _ _ _ _ _ _ I'
  | succ d ih =>
    intro j fr tp fl kn sl mm va ca ci sd nc nd fq fw fp pl hj I
    have h8 : j < 8 := by omega
    have hij : vp_in (nI j) 8 := vp_in_nI h8 (by omega)
    have hc : (nI j).toNatClampNeg = j := nI_clamp (by omega)
    rw [wX_stirred_81]
    refine br_f (nI_ge (b := 8) h8 (by decide)) (rq_x_ens h8 I (fun r fr tp fl kn sl mm va ca ci sd nc nd fq fw fp pl I' hr => ?_))
    dsimp only
    rw [hc]
    refine ⟨hij, ?_⟩
    have next : ∀ c : Int32, c = rq_cnt D0 (tk, fs, sn, ln, upd gv i w) (j + 1) → wX_stirred_81 post (nI i) (gv i) (d + 1) c (nI (j + 1)) h rv sc fr tp fl ln tk fs sn (upd gv i w) gt kn sl mm va ca ci sd nc nd fq fw fp pl wv wc := by
      intro c ec
      rw [ec]
      exact ih (j + 1) _ _ _ _ _ _ _ _ _ _ _ _ _ _ _ _ (by omega) I'
    rcases hw j h8 with ⟨a, b⟩ | ⟨a, b⟩
    · rcases hr with ⟨rfl, hd⟩ | ⟨rfl, hd⟩
      · refine br_f (by rw [a]; decide) (br_f (by decide) ⟨hij, hij, br_c (fun z => nm_r (nI_1 j) (next _ (rq_cnt_e ?_).symm)) (fun z => nm_e (nm_r (nI_1 j) (next _ (rq_cnt_d ?_).symm)))⟩)
        · rw [b, hd, z]
        · rw [b, hd]
          exact fun e => z (Option.some.inj e)
      · refine br_t a (nm_e (nm_r (nI_1 j) (next _ (rq_cnt_d ?_).symm)))
        rw [b, hd]
        exact fun e => absurd e (by simp)
    · rcases hr with ⟨rfl, hd⟩ | ⟨rfl, hd⟩
      · refine br_t a (nm_e (nm_r (nI_1 j) (next _ (rq_cnt_d ?_).symm)))
        rw [b, hd]
        exact fun e => absurd e (by simp)
      · refine br_f (by rw [a]; decide) (br_t rfl (nm_r (nI_1 j) (next _ (rq_cnt_e ?_).symm)))
        rw [b, hd]
theorem rq_x_s14 {i : Nat} {w : Int32} (hi : i < 6) (hm : m + 1 < 2000)
    (hP : ∀ (rv sc fr tp fl : Int32) (gt kn sl mm va ca ci sd nc nd fq fw fp pl wv wc : Nat → Int32), rq_XI (m + 2) h rv sc gt (tk, fs, sn, ln, gv) (kn, sl, mm, va, ca, ci, sd, nc, nd) kd yf → post (rq_cnt (tk, fs, sn, ln, gv) (tk, fs, sn, ln, upd gv i w) 8) (h, rv, sc, fr, tp, fl, ln, tk, fs, sn, gv, gt, kn, sl, mm, va, ca, ci, sd, nc, nd, fq, fw, fp, pl, wv, wc)) :
    ∀ (d j : Nat) (fr tp fl : Int32) (kn sl mm va ca ci sd nc nd fq fw fp pl wv wc : Nat → Int32), j + d = 8 → rq_XI m h rv sc gt (tk, fs, sn, ln, gv) (kn, sl, mm, va, ca, ci, sd, nc, nd) kd yf → rq_WN (tk, fs, sn, ln, gv) wv wc j → wX_stirred_14 post (nI i) w (d + 1) (nI j) h rv sc fr tp fl ln tk fs sn gv gt kn sl mm va ca ci sd nc nd fq fw fp pl wv wc := by
  have hii : vp_in (nI i) 6 := vp_in_nI hi (by omega)
  have hci : (nI i).toNatClampNeg = i := nI_clamp (by omega)
  intro d
  induction d with
  | zero =>
    intro j fr tp fl kn sl mm va ca ci sd nc nd fq fw fp pl wv wc hj I hw
    have e : j = 8 := by omega
    subst e
    rw [wX_stirred_14]
    dsimp only
    refine br_t (by decide) ⟨hii, nm_r (e' := gv i) (by rw [hci]) (rq_x_set i w hi (fun z => ⟨9, ?_⟩) (fun z sc' hs => ⟨9, ?_⟩))⟩
    · have eg : upd gv i w = gv := rq_upd_id z
      have H := rq_x_s81 (i := i) (w := w) (h := h) (rv := rv) (sc := sc) (ln := ln) (tk := tk) (fs := fs) (sn := sn) (gv := gv) (gt := gt) (wv := wv) (wc := wc) (kd := kd) (yf := yf) (m := m) (post := post) (D0 := (tk, fs, sn, ln, gv)) hi (by omega) hw (fun rv sc fr tp fl gt kn sl mm va ca ci sd nc nd fq fw fp pl I' => hP _ _ _ _ _ _ _ _ _ _ _ _ _ _ _ _ _ _ _ _ _ (rq_XI_up (by omega) I')) 8 0 fr tp fl kn sl mm va ca ci sd nc nd fq fw fp pl rfl (by rw [eg]; exact I)
      rw [eg] at H
      exact H
    · exact rq_x_s81 (i := i) (w := w) (m := m + 1) (D0 := (tk, fs, sn, ln, gv)) hi hm hw (fun rv sc fr tp fl gt kn sl mm va ca ci sd nc nd fq fw fp pl I' => hP _ _ _ _ _ _ _ _ _ _ _ _ _ _ _ _ _ _ _ _ _ I') 8 0 _ _ _ _ _ _ _ _ _ _ _ _ _ _ _ _ rfl (rq_XI_set I (by omega) hi hs)
  | succ d ih =>
    intro j fr tp fl kn sl mm va ca ci sd nc nd fq fw fp pl wv wc hj I hw
    have h8 : j < 8 := by omega
    have hij : vp_in (nI j) 8 := vp_in_nI h8 (by omega)
    have hc : (nI j).toNatClampNeg = j := nI_clamp (by omega)
    rw [wX_stirred_14]
    refine br_f (nI_ge (b := 8) h8 (by decide)) (rq_x_ens h8 I (fun r fr tp fl kn sl mm va ca ci sd nc nd fq fw fp pl I' hr => ?_))
    dsimp only
    have step : ∀ b : Int32, (b = 0 ∨ b = 1) → ((b = 0 ∧ rq_dv (tk, fs, sn, ln, gv) j = some (mm j)) ∨ (b = 1 ∧ rq_dv (tk, fs, sn, ln, gv) j = none)) → wX_stirred_42 post (wX_stirred_14 post (nI i) w (d + 1)) (nI i) w (nI j) b (nI j) h rv sc fr tp fl ln tk fs sn gv gt kn sl mm va ca ci sd nc nd fq fw fp pl wv wc := by
      intro b hb hd
      unfold wX_stirred_42
      rw [hc, rq_nar01 hb]
      refine ⟨hij, nm_e ⟨hij, hij, nm_e (nm_r (nI_1 j) (ih (j + 1) _ _ _ _ _ _ _ _ _ _ _ _ _ _ _ _ _ _ (by omega) I' (fun q hq => ?_)))⟩⟩
      by_cases e : q = j
      · rw [e, pk_us, pk_us]; exact hd
      · rw [pk_un e, pk_un e]; exact hw q (by omega)
    rcases hr with ⟨rfl, hd⟩ | ⟨rfl, hd⟩
    · exact br_f (by decide) (step 0 (Or.inl rfl) (Or.inl ⟨rfl, hd⟩))
    · exact br_t rfl (step 1 (Or.inr rfl) (Or.inr ⟨rfl, hd⟩))
end
section
variable {h yt : Int32} {tk fs gv kd yf sn ln yp vs yk yn ov ok : Nat → Int32} {post : Int32 → SY → Prop}
theorem rq_y_s83 {D D' : rq_D} (A : rq_YA D' vs yk) (A0 : rq_YA D ov ok) (hP : post (rq_cnt D D' 8) (h, yt, gv, kd, yf, sn, ln, yp, vs, yk, yn, ov, ok)) : ∀ d j : Nat, j + d = 8 → wY_stirred_83 post h yt gv kd yf sn ln yp vs yk yn ov ok (d + 1) (rq_cnt D D' j) (nI j) := by
  intro d
  induction d with
  | zero =>
    intro j hj
    have e : j = 8 := by omega
    subst e
    rw [wY_stirred_83]
    exact br_t (by decide) hP
  | succ d ih =>
    intro j hj
    have h8 : j < 8 := by omega
    have hi : vp_in (nI j) 8 := vp_in_nI h8 (by omega)
    have hc : (nI j).toNatClampNeg = j := nI_clamp (by omega)
    rw [wY_stirred_83]
    dsimp only
    rw [hc]
    refine br_f (nI_ge (b := 8) h8 (by decide)) ⟨hi, hi, ?_⟩
    have next : ∀ c : Int32, c = rq_cnt D D' (j + 1) → wY_stirred_83 post h yt gv kd yf sn ln yp vs yk yn ov ok (d + 1) c (nI (j + 1)) := by
      intro c ec
      rw [ec]
      exact ih (j + 1) (by omega)
    rcases A j h8 with ⟨a, b⟩ | ⟨a, b⟩
    · rcases A0 j h8 with ⟨a0, b0⟩ | ⟨a0, b0⟩
      · refine br_t (a.trans a0.symm) ⟨hi, br_f (by rw [a]; decide) ⟨hi, hi, br_c (fun z => nm_r (nI_1 j) (next _ (rq_cnt_e ?_).symm)) (fun z => nm_e (nm_r (nI_1 j) (next _ (rq_cnt_d ?_).symm)))⟩⟩
        · rw [b, b0, z]
        · rw [b, b0]
          exact fun e => z (Option.some.inj e).symm
      · refine br_f (by rw [a, a0]; decide) (nm_e (nm_r (nI_1 j) (next _ (rq_cnt_d ?_).symm)))
        rw [b, b0]
        exact fun e => absurd e (by simp)
    · rcases A0 j h8 with ⟨a0, b0⟩ | ⟨a0, b0⟩
      · refine br_f (by rw [a, a0]; decide) (nm_e (nm_r (nI_1 j) (next _ (rq_cnt_d ?_).symm)))
        rw [b, b0]
        exact fun e => absurd e (by simp)
      · refine br_t (a.trans a0.symm) ⟨hi, br_t a (nm_r (nI_1 j) (next _ (rq_cnt_e ?_).symm))⟩
        rw [b, b0]
theorem rq_y_s16 {i : Nat} {w h0 : Int32} (hi : i < 6) (B : rq_RB h0 (tk, fs, sn, ln, gv) kd yf) (A : rq_YA (tk, fs, sn, ln, gv) vs yk)
    (hP : ∀ (yt : Int32) (yp vs yk yn ov ok : Nat → Int32), post (rq_cnt (tk, fs, sn, ln, gv) (tk, fs, sn, ln, upd gv i w) 8) (h, yt, gv, kd, yf, sn, ln, yp, vs, yk, yn, ov, ok)) :
    ∀ (d j : Nat) (ov ok : Nat → Int32), j + d = 8 → (∀ q, q < j → ov q = vs q ∧ ok q = yk q) → wY_stirred_16 post (nI i) w h yt (d + 1) (nI j) gv kd yf sn ln yp vs yk yn ov ok := by
  have hii : vp_in (nI i) 6 := vp_in_nI hi (by omega)
  have hci : (nI i).toNatClampNeg = i := nI_clamp (by omega)
  intro d
  induction d with
  | zero =>
    intro j ov ok hj hw
    have e : j = 8 := by omega
    subst e
    have A0 : rq_YA (tk, fs, sn, ln, gv) ov ok := by
      intro q hq
      obtain ⟨e1, e2⟩ := hw q hq
      rw [e1, e2]
      exact A q hq
    rw [wY_stirred_16]
    dsimp only
    rw [hci]
    refine br_t (by decide) ⟨hii, nm_e ⟨hii, nm_e ?_⟩⟩
    refine rq_y_cmp (tk := tk) (fs := fs) (h0 := h0) B (fun yt yp vs yk yn A' => ⟨hii, ?_⟩)
    refine nm_r (e' := gv) rq_upd_back ⟨9, ?_⟩
    exact rq_y_s83 (D := (tk, fs, sn, ln, gv)) (D' := (tk, fs, sn, ln, upd gv i w)) A' A0 (hP _ _ _ _ _ _ _) 8 0 rfl
  | succ d ih =>
    intro j ov ok hj hw
    have h8 : j < 8 := by omega
    have hij : vp_in (nI j) 8 := vp_in_nI h8 (by omega)
    have hc : (nI j).toNatClampNeg = j := nI_clamp (by omega)
    have hb : yk j = 0 ∨ yk j = 1 := (A j h8).elim (fun z => Or.inr z.1) (fun z => Or.inl z.1)
    rw [wY_stirred_16]
    dsimp only
    rw [hc, rq_nar01 hb]
    refine br_f (nI_ge (b := 8) h8 (by decide)) ⟨hij, hij, nm_e ⟨hij, hij, nm_e (nm_r (nI_1 j) (ih (j + 1) _ _ (by omega) (fun q hq => ?_)))⟩⟩
    by_cases e : q = j
    · rw [e, pk_us, pk_us]; exact ⟨rfl, rfl⟩
    · rw [pk_un e, pk_un e]; exact hw q (by omega)
end
theorem i_vc_stirred {k : Nat} {u : SX} {v : SY} (I : i_Rel k u v) (hk : k + 3 ≤ 1536) (v1 : Int32) (v2 : Int32) : wpX_stirred (fun r u' => wpY_stirred (fun r' v' => r' = r ∧ i_Rel (k + 3) u' v') v v1 v2) u v1 v2 := by
  refine rq_el (P := fun u v => wpX_stirred (fun r u' => wpY_stirred (fun r' v' => r' = r ∧ i_Rel (k + 3) u' v') v v1 v2) u v1 v2) ?_ I
  intro h rv sc fr tp fl yt ln tk fs sn gv gt kn sl mm va ca ci sd nc nd fq fw fp pl wv wc kd yf yp vs yk yn ov ok I
  have H := rq_rel (k := k + 3) (fr := fr) (tp := tp) (fl := fl) (yt := yt) (fq := fq) (fw := fw) (fp := fp) (pl := pl) (wv := wv) (wc := wc) (yp := yp) (vs := vs) (yk := yk) (yn := yn) (ov := ov) (ok := ok) (rq_XI_up (show k + 1 ≤ k + 3 + 1 by omega) I)
  unfold wpX_stirred wpY_stirred
  dsimp only
  rcases rq_ix6 v1 with hx | ⟨j, hj, rfl⟩
  · exact br_c (fun _ => rq_y_nin hx (br_t rfl ⟨rfl, H⟩)) (fun z => br_f (fun w => hx.elim z (fun w' => Int32.not_lt.mpr w' w)) (rq_y_nin hx (br_t rfl ⟨rfl, H⟩)))
  · refine br_f (nI_pos (by omega)) (br_t (nI_lt (b := 6) hj (by decide)) ⟨9, ?_⟩)
    refine rq_x_s14 (m := k + 1) hj (by omega) (fun rv sc fr tp fl gt kn sl mm va ca ci sd nc nd fq fw fp pl wv wc I' => ?_) 8 0 _ _ _ _ _ _ _ _ _ _ _ _ _ _ _ _ _ _ rfl I (fun q hq => absurd hq (Nat.not_lt_zero q))
    refine rq_y_in hj (br_f (by decide) (rq_y_cmp (tk := tk) (fs := fs) I.1 (fun yt yp vs yk yn A => ⟨9, ?_⟩)))
    exact rq_y_s16 (tk := tk) (fs := fs) hj I.1 A (fun yt yp vs yk yn ov ok => ⟨rfl, rq_rel (rq_XI_up (by omega) I')⟩) 8 0 _ _ rfl (fun q hq => absurd hq (Nat.not_lt_zero q))
end
section
/-! needs: both sides against the set of what can be reached -/
theorem rq_bt_bit : ∀ d, d < 14 → ∀ i, i < 32 → bt (rq_bit d) i = decide (i = d) := by decide +kernel
theorem rq_bt_1 : ∀ i, i < 32 → bt 1 i = decide (i = 0) := by decide +kernel
theorem rq_bt_b {d i : Nat} (hd : d < 14) (hi : i < 32) : bt (rq_bit d) i = true ↔ i = d := by
  rw [rq_bt_bit d hd i hi, decide_eq_true_iff]
theorem rq_bt_or {x y : Int32} {i : Nat} : bt (x ||| y) i = true ↔ bt x i = true ∨ bt y i = true := by
  rw [b_or, Bool.or_eq_true]
theorem rq_test {x : Int32} {n : Nat} (hn : n < 14) : ((x >>> (nI n &&& 31)) &&& 1) = 1 ↔ bt x n = true := by
  have h0 : bt (x >>> (nI n &&& 31)) 0 = bt x n := by
    rw [b_sshr n (by omega) x (by decide), if_pos (by omega)]
    rfl
  constructor
  · intro h
    have this : bt ((x >>> (nI n &&& 31)) &&& 1) 0 = bt 1 0 := congrArg (fun y => bt y 0) h
    rw [b_and, h0, rq_bt_1 0 (by decide)] at this
    rcases hb : bt x n with _ | _
    · rw [hb] at this; exact absurd this (by decide)
    · rfl
  · intro h
    refine b_ext (fun i hi => ?_)
    rw [b_and, rq_bt_1 i hi]
    by_cases e : i = 0
    · rw [e, h0, h]; rfl
    · rw [decide_eq_false e, Bool.and_false]
theorem rq_bt_fm {yn : Nat → Int32} {i : Nat} (hi : i < 32) : ∀ {l : List Nat} {a : Int32}, (∀ d, d ∈ l → d < 14) → (bt (l.foldl (fun a d => rq_up yn d a) a) i = true ↔ bt a i = true ∨ ∃ d, d ∈ l ∧ (i = d ∨ (6 ≤ d ∧ bt (yn (d - 6)) i = true)))
  | [], a, _ => by
    refine ⟨Or.inl, fun h => ?_⟩
    rcases h with h | ⟨d, hd, _⟩
    · exact h
    · exact absurd hd List.not_mem_nil
  | d :: l, a, H => by
    have ih := rq_bt_fm (yn := yn) hi (l := l) (a := rq_up yn d a) (fun d' h' => H d' (List.mem_cons_of_mem _ h'))
    have hd := H d List.mem_cons_self
    have hu : bt (rq_up yn d a) i = true ↔ bt a i = true ∨ (i = d ∨ (6 ≤ d ∧ bt (yn (d - 6)) i = true)) := by
      unfold rq_up
      by_cases h6 : d < 6
      · rw [if_pos h6, rq_bt_or, rq_bt_b hd hi]
        constructor
        · intro h
          exact h.elim Or.inl (fun e => Or.inr (Or.inl e))
        · intro h
          rcases h with h | h | h
          · exact Or.inl h
          · exact Or.inr h
          · omega
      · rw [if_neg h6, rq_bt_or, rq_bt_or, rq_bt_b hd hi]
        constructor
        · intro h
          rcases h with (h | h) | h
          · exact Or.inl h
          · exact Or.inr (Or.inr ⟨by omega, h⟩)
          · exact Or.inr (Or.inl h)
        · intro h
          rcases h with h | h | h
          · exact Or.inl (Or.inl h)
          · exact Or.inr h
          · exact Or.inl (Or.inr h.2)
    show bt (l.foldl (fun a d => rq_up yn d a) (rq_up yn d a)) i = true ↔ _
    rw [ih, hu]
    constructor
    · intro h
      rcases h with (h | h) | ⟨d', h1, h2⟩
      · exact Or.inl h
      · exact Or.inr ⟨d, List.mem_cons_self, h⟩
      · exact Or.inr ⟨d', List.mem_cons_of_mem _ h1, h2⟩
    · intro h
      rcases h with h | ⟨d', h1, h2⟩
      · exact Or.inl (Or.inl h)
      · rcases List.mem_cons.mp h1 with e | e
        · rw [e] at h2; exact Or.inl (Or.inr h2)
        · exact Or.inr ⟨d', e, h2⟩
/-! the true needs, and what can be reached by them -/
noncomputable def rq_Ed (D : rq_D) (d : Nat) : Int32 := if d < 6 then D.2.2.2.2 d else (rq_dv D (d - 6)).getD 0
noncomputable def rq_DL (D : rq_D) (q : Nat) : List Nat := rq_tr D (rq_Ed D) q
theorem rq_DL_eq {D : rq_D} {E : Nat → Int32} {q : Nat} (H : ∀ d, d ∈ rq_tr D E q → rq_Rd D E d) : rq_tr D E q = rq_DL D q := by
  unfold rq_DL rq_tr
  rw [rq_ev_congr (E := E) (E' := rq_Ed D) (fun d hd => ?_)]
  have h := H d hd
  unfold rq_Ed
  by_cases h6 : d < 6
  · rw [if_pos h6]; exact h.1 h6
  · rw [if_neg h6, rq_dv_s (h.2 (by omega))]
    rfl
def rq_Rc (D : rq_D) (q b : Nat) : Prop := ∀ S : Nat → Nat → Prop, (∀ q d, d ∈ rq_DL D q → S q d) → (∀ q d b, d ∈ rq_DL D q → 6 ≤ d → S (d - 6) b → S q b) → S q b
theorem rq_Rc_1 {D : rq_D} {q d : Nat} (h : d ∈ rq_DL D q) : rq_Rc D q d := fun _ h1 _ => h1 q d h
theorem rq_Rc_2 {D : rq_D} {q d b : Nat} (h : d ∈ rq_DL D q) (h6 : 6 ≤ d) (hr : rq_Rc D (d - 6) b) : rq_Rc D q b := fun S h1 h2 => h2 q d b h h6 (hr S h1 h2)
theorem rq_Rc_t {D : rq_D} {q k b : Nat} (h : rq_Rc D q (6 + k)) (hb : rq_Rc D k b) : rq_Rc D q b := by
  refine h (fun q b' => b' = 6 + k → rq_Rc D q b) (fun q d hd e => ?_) (fun q d b' hd h6 ih e => rq_Rc_2 hd h6 (ih e)) rfl
  refine rq_Rc_2 hd (by omega) ?_
  rw [e, show 6 + k - 6 = k by omega]
  exact hb
/-- Y's sets -/
theorem rq_Y_bits {D : rq_D} {vs yk yn : Nat → Int32} (X : rq_BX D) (I : rq_YI D vs yk yn) (C : rq_Cl D yk) {q b : Nat} (hq : q < 8) (hb : b < 32) (hk : yk q ≠ 0) : bt (yn q) b = true ↔ rq_Rc D q b := by
  have hDL : ∀ q, q < 8 → yk q ≠ 0 → rq_tr D (rq_E D.2.2.2.2 vs) q = rq_DL D q := fun q hq hk => rq_DL_eq (fun d hd => rq_Y_rd X I hq (X.2 _ hq).1 hd (((I q hq).2 hk).2.1 d hd))
  have hbits : ∀ q b, q < 8 → b < 32 → yk q ≠ 0 → (bt (yn q) b = true ↔ ∃ d, d ∈ rq_DL D q ∧ (b = d ∨ (6 ≤ d ∧ bt (yn (d - 6)) b = true))) := by
    intro q b hq hb hk
    rw [((I q hq).2 hk).2.2, hDL q hq hk]
    unfold rq_fm
    rw [rq_bt_fm (l := rq_DL D q) hb (rq_tr_b X hq (X.2 _ hq).1), b_0]
    constructor
    · intro h
      rcases h with h | h
      · exact absurd h (by decide)
      · exact h
    · exact Or.inr
  have hdep : ∀ q d, q < 8 → yk q ≠ 0 → d ∈ rq_DL D q → d < 14 ∧ (6 ≤ d → yk (d - 6) ≠ 0) := by
    intro q d hq hk hd
    refine ⟨rq_tr_b X hq (X.2 _ hq).1 d hd, ?_⟩
    rw [← hDL q hq hk] at hd
    exact ((I q hq).2 hk).2.1 d hd
  constructor
  · intro h
    refine rq_ind (D := D) (P := fun q _ => bt (yn q) b = true → rq_Rc D q b) ?_ ((I q hq).2 hk).1 h
    intro q v hr hbt
    obtain ⟨h8, E, hE, ev⟩ := hr
    have hE' : rq_Fit D (rq_Der D) E q := rq_Fit_mono (fun _ _ h => h.1) hE
    have hkq : yk q ≠ 0 := fun z => C q h8 z _ (rq_mk ⟨h8, E, hE', rfl⟩)
    obtain ⟨d, hd, ho⟩ := (hbits q b h8 hb hkq).mp hbt
    rcases ho with e | ⟨h6, hbd⟩
    · rw [e]; exact rq_Rc_1 hd
    · have hd' := hd
      rw [← rq_DL_eq hE'] at hd'
      exact rq_Rc_2 hd h6 (((hE d hd').2 h6).2 hbd)
  · intro h
    refine h (fun q b => q < 8 → yk q ≠ 0 → b < 32 → bt (yn q) b = true) (fun q d hd h8 hk hb => ?_) (fun q d b hd h6 ih h8 hk hb => ?_) hq hk hb
    · exact (hbits q d h8 hb hk).mpr ⟨d, hd, Or.inl rfl⟩
    · obtain ⟨h14, hkd⟩ := hdep q d h8 hk hd
      exact (hbits q b h8 hb hk).mpr ⟨d, hd, Or.inr ⟨h6, ih (by omega) (hkd h6) hb⟩⟩
/-- X's need lists -/
theorem rq_X_DL {D : rq_D} {rv sc : Int32} {gt : Nat → Int32} {z : rq_S} (X : rq_BX D) (B : rq_BI D rv sc gt z) {q : Nat} (hq : q < 8) (ho : rq_Ok rv sc z q) : rq_NL z q (rq_DL D q) ∧ ∀ d, d ∈ rq_DL D q → d < 14 ∧ (6 ≤ d → rq_Ok rv sc z (d - 6)) := by
  have hkn : z.1 q ≠ 0 ∧ z.2.1 q = 0 := ho.elim (fun h => ⟨h.1, h.2.1⟩) (fun h => ⟨h.1, h.2.1⟩)
  obtain ⟨r, n1, n2, n3, n4, n5⟩ := (B q hq).2.1 hkn.1 hkn.2
  have h14 : ∀ d, d ∈ rq_tr D r q → d < 14 := rq_tr_b X hq (X.2 _ hq).1
  have e : rq_tr D r q = rq_DL D q := by
    refine rq_DL_eq (fun d hd => ?_)
    obtain ⟨e1, e2⟩ := n4 ho d hd
    refine rq_Rd_r (E := rq_E D.2.2.2.2 z.2.2.1) ⟨fun h => rq_E_i _ _ h, fun h6 => ?_⟩ e1
    have := (B (d - 6) (by have := h14 d hd; omega)).2.2.1 (e2 h6)
    unfold rq_E
    rw [if_neg (by omega)]
    exact this
  rw [← e]
  exact ⟨n1, fun d hd => ⟨h14 d hd, (n4 ho d hd).2⟩⟩
theorem rq_X_Rc {D : rq_D} {rv sc : Int32} {gt : Nat → Int32} {z : rq_S} (X : rq_BX D) (B : rq_BI D rv sc gt z) {q k : Nat} (hq : q < 8) (ho : rq_Ok rv sc z q) (h : rq_Rc D q (6 + k)) : rq_Ok rv sc z k := by
  have := h (fun q b => q < 8 → rq_Ok rv sc z q → 6 ≤ b → rq_Ok rv sc z (b - 6)) (fun q d hd h8 ho h6 => ((rq_X_DL X B h8 ho).2 d hd).2 h6) (fun q d b hd h6 ih h8 ho hb => by
    obtain ⟨a, b'⟩ := (rq_X_DL X B h8 ho).2 d hd
    exact ih (by omega) (b' h6) hb) hq ho (by omega)
  rw [show 6 + k - 6 = k by omega] at this
  exact this
section
variable {h rv sc fr tp fl : Int32} {ln tk fs sn gv gt kn sl mm va ca ci sd nc nd fq fw fp pl wv wc : Nat → Int32}
theorem rq_x_dn4 {post : Int32 → Prop} (q : Nat) (l : List Nat) (hq : q < 8) (N : rq_NL (kn, sl, mm, va, ca, ci, sd, nc, nd) q l) (hl : l.length ≤ 10) (h14 : ∀ d, d ∈ l → d < 14)
    (hP : ∀ x : Int32, (∀ i, i < 32 → (bt x i = true ↔ i ∈ l)) → post x) :
    ∀ (d j : Nat) (x : Int32), j + d = l.length → (∀ i, i < 32 → (bt x i = true ↔ ∃ j', j' < j ∧ l[j']? = some i)) → wX_directNeeds_4 post (nI q) h rv sc fr tp fl ln tk fs sn gv gt kn sl mm va ca ci sd nc nd fq fw fp pl wv wc (d + 1) x (nI j) := by
  have hiq : vp_in (nI q) 8 := vp_in_nI hq (by omega)
  have hcq : (nI q).toNatClampNeg = q := nI_clamp (by omega)
  have en : nc q = nI l.length := N.1
  intro d
  induction d with
  | zero =>
    intro j x hj hx
    have e : j = l.length := by omega
    subst e
    rw [wX_directNeeds_4]
    dsimp only
    rw [hcq, en]
    refine ⟨hiq, br_t (Int32.le_refl _) (hP x (fun i hi => ?_))⟩
    rw [hx i hi]
    constructor
    · intro ⟨j', _, e⟩
      exact List.mem_of_getElem? e
    · intro hm
      obtain ⟨j', e⟩ := List.getElem?_of_mem hm
      refine ⟨j', ?_, e⟩
      rcases Nat.lt_or_ge j' l.length with w | w
      · exact w
      · rw [List.getElem?_eq_none w] at e; exact absurd e (by simp)
  | succ d ih =>
    intro j x hj hx
    have hii : vp_in (nI (10 * q + j)) 80 := vp_in_nI (by omega) (by omega)
    have hcii : (nI (10 * q + j)).toNatClampNeg = 10 * q + j := nI_clamp (by omega)
    have hg : l[j]? = some (l[j]'(by omega)) := List.getElem?_eq_getElem (by omega)
    have ed : nd (10 * q + j) = nI (l[j]'(by omega)) := N.2 j _ hg
    have hd14 := h14 _ (List.mem_of_getElem? hg)
    rw [wX_directNeeds_4]
    dsimp only
    rw [hcq, en, rq_ix, hcii, ed]
    refine ⟨hiq, br_f (nI_ge (by omega) (by omega)) ⟨hii, nm_e (nm_r (nI_1 j) (ih (j + 1) _ (by omega) (fun i hi => ?_)))⟩⟩
    have hb := rq_bt_b (d := l[j]'(by omega)) hd14 hi
    unfold rq_bit at hb
    rw [rq_bt_or, hx i hi, hb]
    constructor
    · intro hh
      rcases hh with ⟨j', hj', e⟩ | e
      · exact ⟨j', by omega, e⟩
      · exact ⟨j, by omega, by rw [e]; exact hg⟩
    · intro ⟨j', hj', e⟩
      by_cases ej : j' = j
      · rw [ej, hg] at e
        exact Or.inr (Option.some.inj e).symm
      · exact Or.inl ⟨j', by omega, e⟩
theorem rq_x_dn {post : Int32 → Prop} (q : Nat) (l : List Nat) (hq : q < 8) (N : rq_NL (kn, sl, mm, va, ca, ci, sd, nc, nd) q l) (hl : l.length ≤ 10) (h14 : ∀ d, d ∈ l → d < 14)
    (hP : ∀ x : Int32, (∀ i, i < 32 → (bt x i = true ↔ i ∈ l)) → post x) : wpX_directNeeds post (h, rv, sc, fr, tp, fl, ln, tk, fs, sn, gv, gt, kn, sl, mm, va, ca, ci, sd, nc, nd, fq, fw, fp, pl, wv, wc) (nI q) :=
  ⟨l.length + 1, rq_x_dn4 q l hq N hl h14 hP l.length 0 0 (by omega) (fun i _ => by
    rw [b_0]
    exact ⟨fun z => absurd z (by decide), fun ⟨j', hj', _⟩ => absurd hj' (Nat.not_lt_zero j')⟩)⟩
end
/-- a set that holds, with a query, what that query needs -/
def rq_Clo (D : rq_D) (x : Int32) : Prop := ∀ k, k < 8 → bt x (6 + k) = true → ∀ d, d ∈ rq_DL D k → bt x d = true
def rq_Cov (x : Int32) (U : List Nat) : Prop := ∀ k, k < 8 → ¬ bt x (6 + k) = true → k ∈ U
/-- a round of needs, at query j; N bounds what isn't in the set -/
def rq_NQ (D : rq_D) (x : Int32) (N j : Nat) : Prop :=
  rq_Clo D x ∨ (∃ U, rq_Cov x U ∧ U.length + 1 ≤ N) ∨ ((∃ U, rq_Cov x U ∧ U.length ≤ N) ∧ ∀ k, k < j → bt x (6 + k) = true → ∀ d, d ∈ rq_DL D k → bt x d = true)
theorem rq_NQ_or {D : rq_D} {x y : Int32} {N j : Nat} (hj : j < 8) (hb : bt x (6 + j) = true) (h14 : ∀ d, d ∈ rq_DL D j → d < 14) (hy : ∀ i, i < 32 → (bt y i = true ↔ i ∈ rq_DL D j)) (Q : rq_NQ D x N j) : rq_NQ D (x ||| y) N (j + 1) := by
  rcases Q with Q | ⟨U, hU, hl⟩ | ⟨⟨U, hU, hl⟩, Q⟩
  · left
    have same : ∀ i, i < 32 → (bt (x ||| y) i = true ↔ bt x i = true) := by
      intro i hi
      rw [rq_bt_or]
      refine ⟨fun h => h.elim id (fun h => Q j hj hb i ((hy i hi).mp h)), Or.inl⟩
    intro k hk hbk d hd
    rw [rq_bt_or]
    exact Or.inl (Q k hk ((same _ (by omega)).mp hbk) d hd)
  · exact Or.inr (Or.inl ⟨U, fun k hk hn => hU k hk (fun h => hn (rq_bt_or.mpr (Or.inl h))), hl⟩)
  · by_cases hnew : ∃ k, k < 8 ∧ ¬ bt x (6 + k) = true ∧ bt (x ||| y) (6 + k) = true
    · obtain ⟨k, hk, h1, h2⟩ := hnew
      have hin := hU k hk h1
      have := List.length_pos_of_mem hin
      refine Or.inr (Or.inl ⟨U.erase k, fun k' hk' hn => ?_, by rw [List.length_erase_of_mem hin]; omega⟩)
      have hne : k' ≠ k := fun e => hn (by rw [e]; exact h2)
      exact (List.mem_erase_of_ne hne).mpr (hU k' hk' (fun h => hn (rq_bt_or.mpr (Or.inl h))))
    · refine Or.inr (Or.inr ⟨⟨U, fun k hk hn => hU k hk (fun h => hn (rq_bt_or.mpr (Or.inl h))), hl⟩, fun k hk hbk d hd => ?_⟩)
      have hbk' : bt x (6 + k) = true := Classical.byContradiction (fun hn => hnew ⟨k, by omega, hn, hbk⟩)
      rw [rq_bt_or]
      by_cases e : k = j
      · rw [e] at hd
        exact Or.inr ((hy d (by have := h14 d hd; omega)).mpr hd)
      · exact Or.inl (Q k (by omega) hbk' d hd)
theorem rq_NQ_no {D : rq_D} {x : Int32} {N j : Nat} (hb : ¬ bt x (6 + j) = true) (Q : rq_NQ D x N j) : rq_NQ D x N (j + 1) := by
  rcases Q with Q | Q | ⟨U, Q⟩
  · exact Or.inl Q
  · exact Or.inr (Or.inl Q)
  · refine Or.inr (Or.inr ⟨U, fun k hk hbk d hd => ?_⟩)
    by_cases e : k = j
    · rw [e] at hbk; exact absurd hbk hb
    · exact Q k (by omega) hbk d hd
section
variable {h rv sc fr tp fl : Int32} {ln tk fs sn gv gt kn sl mm va ca ci sd nc nd fq fw fp pl wv wc : Nat → Int32} {post : Int32 → SX → Prop}
/-- what the set of X always is: reachable, and with q's own needs -/
def rq_NB (D : rq_D) (q : Nat) (x : Int32) : Prop := (∀ i, i < 32 → bt x i = true → rq_Rc D q i) ∧ ∀ d, d ∈ rq_DL D q → bt x d = true
theorem rq_x_n42 {J : Int32 → Int32 → Prop} {x4 : Int32} {q N : Nat} (X : rq_BX (tk, fs, sn, ln, gv)) (B : rq_BI (tk, fs, sn, ln, gv) rv sc gt (kn, sl, mm, va, ca, ci, sd, nc, nd)) (hq : q < 8) (ho : rq_Ok rv sc (kn, sl, mm, va, ca, ci, sd, nc, nd) q)
    (hJ : ∀ x, rq_NB (tk, fs, sn, ln, gv) q x → rq_NQ (tk, fs, sn, ln, gv) x N 8 → J x (x4 + 1)) :
    ∀ (d j : Nat) (x : Int32), j + d = 8 → rq_NB (tk, fs, sn, ln, gv) q x → rq_NQ (tk, fs, sn, ln, gv) x N j → wX_needs_42 post J x4 h rv sc fr tp fl ln tk fs sn gv gt kn sl mm va ca ci sd nc nd fq fw fp pl wv wc (d + 1) x (nI j) := by
  intro d
  induction d with
  | zero =>
    intro j x hj NB Q
    have e : j = 8 := by omega
    subst e
    rw [wX_needs_42]
    exact br_t (by decide) (nm_e (hJ x NB Q))
  | succ d ih =>
    intro j x hj NB Q
    have h8 : j < 8 := by omega
    rw [wX_needs_42]
    dsimp only
    rw [rq_6k]
    refine br_f (nI_ge (b := 8) h8 (by decide)) (br_c (fun z => ?_) (fun z => nm_r (nI_1 j) (ih (j + 1) x (by omega) NB (rq_NQ_no (fun hb => z ((rq_test (by omega)).mpr hb)) Q))))
    have hb := (rq_test (n := 6 + j) (by omega)).mp z
    have hrc := NB.1 (6 + j) (by omega) hb
    have hoj := rq_X_Rc X B hq ho hrc
    obtain ⟨N1, N2⟩ := rq_X_DL X B h8 hoj
    refine rq_x_dn j (rq_DL (tk, fs, sn, ln, gv) j) h8 N1 (rq_tr_l X _ h8) (fun d hd => (N2 d hd).1) (fun y hy => nm_e (nm_r (nI_1 j) (ih (j + 1) _ (by omega) ⟨fun i hi hbi => ?_, fun d hd => rq_bt_or.mpr (Or.inl (NB.2 d hd))⟩ (rq_NQ_or h8 hb (fun d hd => (N2 d hd).1) hy Q))))
    rcases rq_bt_or.mp hbi with w | w
    · exact NB.1 i hi w
    · exact rq_Rc_t hrc (rq_Rc_1 ((hy i hi).mp w))
theorem rq_x_n32 {q : Nat} (X : rq_BX (tk, fs, sn, ln, gv)) (B : rq_BI (tk, fs, sn, ln, gv) rv sc gt (kn, sl, mm, va, ca, ci, sd, nc, nd)) (hq : q < 8) (ho : rq_Ok rv sc (kn, sl, mm, va, ca, ci, sd, nc, nd) q)
    (hP : ∀ x, rq_NB (tk, fs, sn, ln, gv) q x → rq_Clo (tk, fs, sn, ln, gv) x → post x (h, rv, sc, fr, tp, fl, ln, tk, fs, sn, gv, gt, kn, sl, mm, va, ca, ci, sd, nc, nd, fq, fw, fp, pl, wv, wc)) :
    ∀ (d r : Nat) (x : Int32), r + d = 8 → rq_NB (tk, fs, sn, ln, gv) q x → (rq_Clo (tk, fs, sn, ln, gv) x ∨ ∃ U, rq_Cov x U ∧ U.length + r + 1 ≤ 8) → wX_needs_32 post h rv sc fr tp fl ln tk fs sn gv gt kn sl mm va ca ci sd nc nd fq fw fp pl wv wc (d + 1) x (nI r) := by
  intro d
  induction d with
  | zero =>
    intro r x hr NB Q
    have e : r = 8 := by omega
    subst e
    rw [wX_needs_32]
    refine br_t (by decide) (hP x NB ?_)
    rcases Q with Q | ⟨U, _, hl⟩
    · exact Q
    · omega
  | succ d ih =>
    intro r x hr NB Q
    rw [wX_needs_32]
    refine br_f (nI_ge (a := r) (b := 8) (by omega) (by decide)) ⟨9, ?_⟩
    refine rq_x_n42 (N := 7 - r) X B hq ho (fun x NB' Q' => ?_) 8 0 x rfl NB ?_
    · rw [nI_1]
      refine ih (r + 1) x (by omega) NB' ?_
      rcases Q' with Q' | ⟨U, hU, hl⟩ | ⟨_, Q'⟩
      · exact Or.inl Q'
      · exact Or.inr ⟨U, hU, by omega⟩
      · exact Or.inl Q'
    · rcases Q with Q | ⟨U, hU, hl⟩
      · exact Or.inl Q
      · exact Or.inr (Or.inr ⟨⟨U, hU, by omega⟩, fun k hk => absurd hk (Nat.not_lt_zero k)⟩)
end
theorem rq_Clo_Rc {D : rq_D} {q : Nat} {x : Int32} (X : rq_BX D) (hq : q < 8) (NB : rq_NB D q x) (C : rq_Clo D x) {b : Nat} (h : rq_Rc D q b) : bt x b = true := by
  have h1 : ∀ q' d, (q' = q ∨ (q' < 8 ∧ bt x (6 + q') = true)) → d ∈ rq_DL D q' → bt x d = true ∧ d < 14 := by
    intro q' d hh hd
    rcases hh with e | ⟨h8, hb⟩
    · rw [e] at hd
      exact ⟨NB.2 d hd, rq_tr_b X hq (X.2 _ hq).1 d hd⟩
    · exact ⟨C q' h8 hb d hd, rq_tr_b X h8 (X.2 _ h8).1 d hd⟩
  refine h (fun q' b => (q' = q ∨ (q' < 8 ∧ bt x (6 + q') = true)) → bt x b = true) (fun q' d hd hh => (h1 q' d hh hd).1) (fun q' d b hd h6 ih hh => ih (Or.inr ?_)) (Or.inl rfl)
  obtain ⟨a, c⟩ := h1 q' d hh hd
  refine ⟨by omega, ?_⟩
  rw [show 6 + (d - 6) = d by omega]
  exact a
theorem i_vc_needs {k : Nat} {u : SX} {v : SY} (I : i_Rel k u v) (hk : k + 3 ≤ 1536) (v1 : Int32) : wpX_needs (fun r u' => wpY_needs (fun r' v' => r' = r ∧ i_Rel (k + 3) u' v') v v1) u v1 := by
  refine rq_el (P := fun u v => wpX_needs (fun r u' => wpY_needs (fun r' v' => r' = r ∧ i_Rel (k + 3) u' v') v v1) u v1) ?_ I
  intro h rv sc fr tp fl yt ln tk fs sn gv gt kn sl mm va ca ci sd nc nd fq fw fp pl wv wc kd yf yp vs yk yn ov ok I
  unfold wpX_needs wpY_needs
  dsimp only
  rcases rq_ix8 v1 with hx | ⟨j, hj, rfl⟩
  · exact rq_x_nbq hx (br_f (by decide) (rq_y_nq hx (br_t rfl ⟨rfl, rq_rel (rq_XI_up (by omega) I)⟩)))
  · have hi : vp_in (nI j) 8 := vp_in_nI hj (by omega)
    have hc : (nI j).toNatClampNeg = j := nI_clamp (by omega)
    obtain ⟨A, hR, hsc, hgt, B⟩ := I
    have X := rq_RB_BX A
    refine rq_x_bq hj (br_t rfl (rq_x_ensure X hsc hj B (fun fr tp kn sl mm va ca ci sd nc nd fq fw fp pl B' hf => br_f (by decide) ?_) (fun fr tp kn sl mm va ca ci sd nc nd fq fw fp pl B' hn => br_t rfl ?_)))
    · have ho : rq_Ok rv sc (kn, sl, mm, va, ca, ci, sd, nc, nd) j := Or.inl hf
      obtain ⟨N1, N2⟩ := rq_X_DL X B' hj ho
      refine rq_x_dn j (rq_DL (tk, fs, sn, ln, gv) j) hj N1 (rq_tr_l X _ hj) (fun d hd => (N2 d hd).1) (fun x hx => ⟨9, ?_⟩)
      refine rq_x_n32 X B' hj ho (fun x NB C => ?_) 8 0 x rfl ⟨fun i hi hb => rq_Rc_1 ((hx i hi).mp hb), fun d hd => (hx d (by have := (N2 d hd).1; omega)).mpr hd⟩ ?_
      · refine rq_y_q hj (br_f (by decide) (rq_y_comp (tk := tk) (fs := fs) X A.1 (fun yt yp vs yk yn YI YC => ?_)))
        dsimp only
        rw [hc]
        have hk1 : yk j ≠ 0 := fun z => YC j hj z _ ((B' j hj).2.2.1 ho)
        refine ⟨hi, br_f hk1 ⟨hi, b_ext (fun i hi => ?_), rq_rel (rq_XI_up (by omega) ⟨A, hR, hsc, hgt, B'⟩)⟩⟩
        have e1 := rq_Y_bits X YI YC hj hi hk1
        have e2 : bt x i = true ↔ rq_Rc (tk, fs, sn, ln, gv) j i := ⟨NB.1 i hi, rq_Clo_Rc X hj NB C⟩
        rw [Bool.eq_iff_iff, e1, e2]
      · by_cases hex : ∃ k0, k0 < 8 ∧ bt x (6 + k0) = true
        · obtain ⟨k0, hk0, hb0⟩ := hex
          refine Or.inr ⟨(List.range 8).erase k0, fun k hk hn => (List.mem_erase_of_ne (fun e => hn (by rw [e]; exact hb0))).mpr (List.mem_range.mpr hk), ?_⟩
          rw [List.length_erase_of_mem (List.mem_range.mpr hk0), List.length_range]
          decide
        · exact Or.inl (fun k hk hb => absurd ⟨k, hk, hb⟩ hex)
    · refine rq_y_q hj (br_f (by decide) (rq_y_comp (tk := tk) (fs := fs) X A.1 (fun yt yp vs yk yn YI YC => ?_)))
      dsimp only
      rw [hc]
      have hk0 : yk j = 0 := Classical.byContradiction (fun z => hn _ ((YI j hj).2 z).1)
      exact ⟨hi, br_t hk0 ⟨rfl, rq_rel (rq_XI_up (by omega) ⟨A, hR, hsc, hgt, B'⟩)⟩⟩
end
