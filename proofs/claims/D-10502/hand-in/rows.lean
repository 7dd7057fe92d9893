section
/-- the natural behind an int -/
def sk_nt (x : Int32) : Nat := x.toNatClampNeg
theorem sk_nt_nI {n : Nat} (h : n < 2 ^ 31) : sk_nt (nI n) = n := nI_clamp h
/-- a truth value as an int -/
def sk_bI (b : Bool) : Int32 := if b = true then 1 else 0
theorem sk_bI_1 {b : Bool} (h : sk_bI b = 1) : b = true := by
  cases b
  · exact absurd h (by decide)
  · rfl
theorem sk_bI_0 {b : Bool} (h : sk_bI b = 0) : b = false := by
  cases b
  · rfl
  · exact absurd h (by decide)
theorem sk_bI_n (b : Bool) : sk_bI b ≠ -1 := by cases b <;> decide
theorem sk_bI_01 (b : Bool) : sk_bI b = 0 ∨ sk_bI b = 1 := by cases b <;> decide
theorem sk_bI_inj {a b : Bool} (h : sk_bI a = sk_bI b) : a = b := by
  cases a <;> cases b <;> first | rfl | exact absurd h (by decide)
theorem sk_bI_8 (b : Bool) : (sk_bI b).toInt8.toInt32 = sk_bI b := by cases b <;> decide
/-- the opposite end -/
def sk_ng (e : Nat) : Nat := if e % 2 = 0 then e + 1 else e - 1
theorem sk_ng_div (e : Nat) : sk_ng e / 2 = e / 2 := by unfold sk_ng; split <;> omega
theorem sk_ng_mod (e : Nat) : sk_ng e % 2 = 1 - e % 2 := by unfold sk_ng; split <;> omega
theorem sk_ng_ng (e : Nat) : sk_ng (sk_ng e) = e := by unfold sk_ng; split <;> split <;> omega
theorem sk_ng_lt {e P : Nat} (h : e < 2 * P) : sk_ng e < 2 * P := by unfold sk_ng; split <;> omega
theorem sk_xn (e : Nat) : e ^^^ 1 = sk_ng e := by
  have h1 : (e ^^^ 1) / 2 = e / 2 := by rw [Nat.xor_div_two]; simp
  have h2 := Nat.xor_mod_two_eq_one (a := e) (b := 1)
  unfold sk_ng
  generalize e ^^^ 1 = z at h1 h2
  split <;> omega
theorem sk_xor (a b : Nat) : nI a ^^^ nI b = nI (a ^^^ b) := by
  apply Int32.toBitVec_inj.1
  show BitVec.ofNat 32 a ^^^ BitVec.ofNat 32 b = BitVec.ofNat 32 (a ^^^ b)
  apply BitVec.eq_of_getLsbD_eq
  intro i hi
  simp [hi]
theorem sk_xor1 (e : Nat) : nI e ^^^ 1 = nI (sk_ng e) := by
  show nI e ^^^ nI 1 = _
  rw [sk_xor, sk_xn]
theorem sk_sh {e : Nat} (h : e < 2 ^ 31) : nI e >>> ((1 : Int32) &&& 31) = nI (e / 2) := pk_shrN h _ 1 (by decide)
theorem sk_a1 {e : Nat} (h : e < 2 ^ 31) : nI e &&& 1 = nI (e % 2) := pk_andN (by omega) 1 (by decide)
theorem sk_s16 {e : Nat} (h : e < 32768) : (nI e).toInt16.toInt32 = nI e := by
  apply lg_i2s_small
  · rw [nI_toInt (by omega)]; omega
  · rw [nI_toInt (by omega)]; omega
theorem sk_s8 {e : Nat} (h : e < 128) : (nI e).toInt8.toInt32 = nI e := by
  revert e
  decide +kernel
theorem sk_vs {e : Nat} (h : e < 32768) : vp_nar .short (nI e) = nI e := by rw [vp_nar_short, sk_s16 h]
theorem sk_vsm : vp_nar .short (-1) = -1 := by decide
theorem sk_vb0 : vp_nar .boolean 0 = 0 := by decide
theorem sk_vb1 : vp_nar .boolean 1 = 1 := by decide
theorem sk_nm1 {e : Nat} (h : e < 2 ^ 31) : nI e ≠ -1 := by
  intro z
  have := nI_toInt h
  rw [z] at this
  have h2 : (-1 : Int32).toInt = -1 := by decide
  omega
theorem sk_m1neg : (-1 : Int32) < 0 := by decide
/-- what an end is, when parts are as v says -/
def sk_ev (v : Nat → Bool) (e : Nat) : Bool := Bool.xor (v (e / 2)) (decide (e % 2 = 1))
theorem sk_ev_ng (v : Nat → Bool) (e : Nat) : sk_ev v (sk_ng e) = !sk_ev v e := by
  unfold sk_ev
  rw [sk_ng_div, sk_ng_mod]
  rcases Nat.mod_two_eq_zero_or_one e with h | h <;> rw [h] <;> cases v (e / 2) <;> rfl
theorem sk_ev_2 (v : Nat → Bool) (p : Nat) : sk_ev v (2 * p) = v p := by
  unfold sk_ev
  rw [show 2 * p / 2 = p by omega, show 2 * p % 2 = 0 by omega]
  cases v p <;> rfl
theorem sk_ev_21 (v : Nat → Bool) (p : Nat) : sk_ev v (2 * p + 1) = !v p := by
  unfold sk_ev
  rw [show (2 * p + 1) / 2 = p by omega, show (2 * p + 1) % 2 = 1 by omega]
  cases v p <;> rfl
theorem sk_ev_0 {v : Nat → Bool} (h : v 0 = false) : sk_ev v 0 = false := by rw [show (0 : Nat) = 2 * 0 from rfl, sk_ev_2, h]
theorem sk_ev_1 {v : Nat → Bool} (h : v 0 = false) : sk_ev v 1 = true := by rw [show (1 : Nat) = 2 * 0 + 1 from rfl, sk_ev_21, h]; rfl
theorem sk_ev_c {v w : Nat → Bool} {e : Nat} (h : v (e / 2) = w (e / 2)) : sk_ev v e = sk_ev w e := by
  unfold sk_ev
  rw [h]
theorem sk_xo (b : Bool) (e : Nat) : sk_bI b ^^^ nI (e % 2) = sk_bI (Bool.xor b (decide (e % 2 = 1))) := by
  rcases Nat.mod_two_eq_zero_or_one e with h | h <;> rw [h] <;> cases b <;> decide
/-- what an end must be -/
def sk_me (m : Nat → Int32) (e : Nat) : Int32 := if m (e / 2) = -1 then -1 else m (e / 2) ^^^ nI (e % 2)
theorem sk_me_v {m : Nat → Int32} {v : Nat → Bool} {e : Nat} (h : m (e / 2) ≠ -1 → m (e / 2) = sk_bI (v (e / 2))) (hn : sk_me m e ≠ -1) : sk_me m e = sk_bI (sk_ev v e) := by
  unfold sk_me at hn ⊢
  by_cases c : m (e / 2) = -1
  · rw [if_pos c] at hn
    exact absurd rfl hn
  · rw [if_neg c, h c, sk_xo]
    rfl
theorem sk_me_o {m : Nat → Int32} {e : Nat} (h : m (e / 2) = -1) : sk_me m e = -1 := if_pos h
/-- the graph: parts 9 .. P - 1 have ends below them, none of them at an input of X -/
def sk_GW (X : Nat → Prop) (P : Nat) (l r : Nat → Int32) : Prop :=
  ∀ p, 9 ≤ p → p < P → (l p = nI (sk_nt (l p)) ∧ sk_nt (l p) < 2 * p ∧ ¬ X (sk_nt (l p) / 2)) ∧ (r p = nI (sk_nt (r p)) ∧ sk_nt (r p) < 2 * p ∧ ¬ X (sk_nt (r p) / 2))
/-- v is what parts are for some assignment -/
def sk_co (P : Nat) (l r : Nat → Int32) (v : Nat → Bool) : Prop :=
  v 0 = false ∧ ∀ p, 9 ≤ p → p < P → v p = (sk_ev v (sk_nt (l p)) && sk_ev v (sk_nt (r p)))
theorem sk_co_le {P Q : Nat} {l r l' r' : Nat → Int32} {v : Nat → Bool} (h : sk_co Q l' r' v) (hP : P ≤ Q) (hs : ∀ p, p < P → l' p = l p ∧ r' p = r p) : sk_co P l r v := by
  refine ⟨h.1, fun p h9 hp => ?_⟩
  rw [← (hs p hp).1, ← (hs p hp).2]
  exact h.2 p h9 (by omega)
/-- one more part: any v can go on -/
theorem sk_co_up {X : Nat → Prop} {P : Nat} {l r : Nat → Int32} {v : Nat → Bool} (hg : sk_GW X (P + 1) l r) (h9 : 9 ≤ P) (h : sk_co P l r v) :
    ∃ w, sk_co (P + 1) l r w ∧ (∀ q, q ≠ P → w q = v q) ∧ w P = (sk_ev v (sk_nt (l P)) && sk_ev v (sk_nt (r P))) := by
  refine ⟨fun q => if q = P then (sk_ev v (sk_nt (l P)) && sk_ev v (sk_nt (r P))) else v q, ⟨?_, fun p hp1 hp2 => ?_⟩, fun q hq => if_neg hq, if_pos rfl⟩
  · show (if 0 = P then _ else v 0) = false
    rw [if_neg (by omega)]
    exact h.1
  · obtain ⟨⟨_, l2, _⟩, ⟨_, r2, _⟩⟩ := hg p hp1 hp2
    have el : ∀ e, e < 2 * p → sk_ev (fun q => if q = P then (sk_ev v (sk_nt (l P)) && sk_ev v (sk_nt (r P))) else v q) e = sk_ev v e := by
      intro e he
      apply sk_ev_c
      show (if e / 2 = P then _ else v (e / 2)) = v (e / 2)
      rw [if_neg (by omega)]
    rw [el _ l2, el _ r2]
    show (if p = P then _ else v p) = _
    by_cases e : p = P
    · rw [if_pos e, e]
    · rw [if_neg e]
      exact h.2 p hp1 (by omega)
/-- for every assignment there is such a v -/
theorem sk_co_ex {X : Nat → Prop} {l r : Nat → Int32} (y : Nat → Bool) : ∀ P, sk_GW X P l r → ∃ v, sk_co P l r v ∧ ∀ i, 1 ≤ i → i ≤ 8 → v i = y i := by
  intro P
  induction P with
  | zero =>
    intro _
    exact ⟨fun q => if q = 0 then false else y q, ⟨rfl, fun p _ h => absurd h (by omega)⟩, fun i h1 _ => if_neg (by omega)⟩
  | succ P ih =>
    intro hg
    obtain ⟨v, hv, hy⟩ := ih (fun p h9 hp => hg p h9 (by omega))
    by_cases h9 : 9 ≤ P
    · obtain ⟨w, hw, hs, _⟩ := sk_co_up hg h9 hv
      exact ⟨w, hw, fun i h1 h8 => by rw [hs i (by omega)]; exact hy i h1 h8⟩
    · exact ⟨v, ⟨hv.1, fun p h1 h2 => absurd h2 (by omega)⟩, hy⟩
/-- how many of 1 .. n are unset -/
def sk_op (m : Nat → Int32) : Nat → Nat
  | 0 => 0
  | n + 1 => sk_op m n + (if m (n + 1) = -1 then 1 else 0)
theorem sk_op_far {m : Nat → Int32} {p : Nat} {x : Int32} : ∀ n, n < p → sk_op (upd m p x) n = sk_op m n := by
  intro n
  induction n with
  | zero => intro _; rfl
  | succ n ih =>
    intro h
    show sk_op (upd m p x) n + (if upd m p x (n + 1) = -1 then 1 else 0) = sk_op m n + (if m (n + 1) = -1 then 1 else 0)
    rw [ih (by omega), pk_un (by omega)]
theorem sk_op_upd {m : Nat → Int32} {p : Nat} {x : Int32} : ∀ n, 1 ≤ p → p ≤ n → sk_op (upd m p x) n + (if m p = -1 then 1 else 0) = sk_op m n + (if x = -1 then 1 else 0) := by
  intro n
  induction n with
  | zero => intro h1 h2; omega
  | succ n ih =>
    intro h1 h2
    show sk_op (upd m p x) n + (if upd m p x (n + 1) = -1 then 1 else 0) + _ = sk_op m n + (if m (n + 1) = -1 then 1 else 0) + _
    by_cases e : p = n + 1
    · subst e
      rw [sk_op_far n (by omega), pk_us]
      omega
    · have := ih h1 (by omega)
      rw [pk_un (show n + 1 ≠ p by omega)]
      omega
theorem sk_op_all {m : Nat → Int32} : ∀ n, (∀ p, 1 ≤ p → p ≤ n → m p = -1) → sk_op m n = n := by
  intro n
  induction n with
  | zero => intro _; rfl
  | succ n ih =>
    intro h
    show sk_op m n + (if m (n + 1) = -1 then 1 else 0) = n + 1
    rw [ih (fun p h1 h2 => h p h1 (by omega)), if_pos (h (n + 1) (by omega) (by omega))]
end
section
/-- the trail t of length T holds, once each, the parts of 1 .. C that are set in m -/
def sk_TI (C : Nat) (m t : Nat → Int32) (T : Nat) : Prop :=
  m 0 = 0 ∧ T + sk_op m C = C ∧ (∀ j, j < T → ∃ p, 1 ≤ p ∧ p ≤ C ∧ t j = nI p ∧ m p ≠ -1) ∧ (∀ j k, j < k → k < T → t j ≠ t k) ∧ (∀ p, 1 ≤ p → p ≤ C → m p ≠ -1 → ∃ j, j < T ∧ t j = nI p)
/-- what is set holds for all v of V -/
def sk_Ok (V : (Nat → Bool) → Prop) (C : Nat) (m : Nat → Int32) : Prop := ∀ v, V v → ∀ p, p ≤ C → m p ≠ -1 → m p = sk_bI (v p)
/-- more is set, nothing else changed -/
def sk_Ex (C : Nat) (m t : Nat → Int32) (T : Nat) (m' t' : Nat → Int32) (T' : Nat) : Prop :=
  T ≤ T' ∧ (∀ j, j < T → t' j = t j) ∧ (∀ p, p ≤ C → m p ≠ -1 → m' p = m p)
theorem sk_Ex_r (C : Nat) (m t : Nat → Int32) (T : Nat) : sk_Ex C m t T m t T := ⟨Nat.le_refl T, fun _ _ => rfl, fun _ _ _ => rfl⟩
theorem sk_Ex_t {C : Nat} {m t : Nat → Int32} {T : Nat} {m' t' : Nat → Int32} {T' : Nat} {m'' t'' : Nat → Int32} {T'' : Nat} (h : sk_Ex C m t T m' t' T') (g : sk_Ex C m' t' T' m'' t'' T'') : sk_Ex C m t T m'' t'' T'' := by
  refine ⟨Nat.le_trans h.1 g.1, fun j hj => ?_, fun p hp hm => ?_⟩
  · rw [g.2.1 j (Nat.lt_of_lt_of_le hj h.1), h.2.1 j hj]
  · have e := h.2.2 p hp hm
    rw [g.2.2 p hp (by rw [e]; exact hm), e]
def sk_FJ (V : (Nat → Bool) → Prop) (C : Nat) (m0 t0 : Nat → Int32) (T0 : Nat) (cl : Int32) (T : Nat) (m t : Nat → Int32) : Prop :=
  sk_TI C m t T ∧ sk_Ok V C m ∧ (¬ cl = 0 → ∀ v, ¬ V v) ∧ sk_Ex C m0 t0 T0 m t T
def sk_FI (V : (Nat → Bool) → Prop) (C : Nat) (m0 t0 : Nat → Int32) (T0 : Nat) (q0 : Int32) (cl mv : Int32) (T : Nat) (m t : Nat → Int32) : Prop :=
  sk_FJ V C m0 t0 T0 cl T m t ∧ (mv = q0 ∨ T0 < T)
/-- a part is set that was unset -/
theorem sk_TI_push {C T p : Nat} {m t : Nat → Int32} {x : Int32} (h : sk_TI C m t T) (hC : C < 2560) (h1 : p ≤ C) (ho : m p = -1) (hx : x ≠ -1) :
    T < C ∧ 1 ≤ p ∧ sk_TI C (upd m p x) (upd t T (nI p)) (T + 1) := by
  obtain ⟨t0, tc, t1, t2, t3⟩ := h
  have hp : 1 ≤ p := by
    rcases Nat.eq_zero_or_pos p with z | z
    · rw [z, t0] at ho
      exact absurd ho (by decide)
    · exact z
  have hc := sk_op_upd (m := m) (p := p) (x := x) C hp h1
  rw [if_pos ho, if_neg hx] at hc
  refine ⟨by omega, hp, by rw [pk_un (by omega)]; exact t0, by omega, fun j hj => ?_, fun j k hjk hk => ?_, fun q hq1 hq2 hq => ?_⟩
  · by_cases e : j = T
    · exact ⟨p, hp, h1, by rw [e, pk_us], by rw [pk_us]; exact hx⟩
    · obtain ⟨q, q1, q2, q3, q4⟩ := t1 j (by omega)
      refine ⟨q, q1, q2, by rw [pk_un e]; exact q3, ?_⟩
      rw [pk_un (fun z => q4 (by rw [z]; exact ho))]
      exact q4
  · rw [pk_un (show j ≠ T by omega)]
    by_cases e : k = T
    · rw [e, pk_us]
      obtain ⟨q, q1, q2, q3, q4⟩ := t1 j (by omega)
      rw [q3]
      intro z
      have := (nI_eq (by omega) (by omega)).mp z
      rw [this] at q4
      exact q4 ho
    · rw [pk_un e]
      exact t2 j k hjk (by omega)
  · by_cases e : q = p
    · exact ⟨T, by omega, by rw [pk_us, e]⟩
    · rw [pk_un e] at hq
      obtain ⟨j, j1, j2⟩ := t3 q hq1 hq2 hq
      exact ⟨j, by omega, by rw [pk_un (by omega)]; exact j2⟩
section
variable {ct pt pn lc cl mv ts lv fa : Int32} {a1 a2 a3 a4 a5 a6 a7 : Nat → Int32} {a8 : Nat → Int64} {a9 a10 a11 a12 a13 a14 a15 a16 a17 a18 : Nat → Int32}
variable {post : St2 → Prop} {X : Nat → Prop} {P : Nat} {V : (Nat → Bool) → Prop} {C : Nat} {m0 t0 : Nat → Int32} {T0 : Nat} {q0 : Int32}
theorem sk_demand {T : Nat} {m t : Nat → Int32} {e : Nat} (b : Bool) (hC : C < 2560) (hF : sk_FI V C m0 t0 T0 q0 cl mv T m t) (he : e / 2 ≤ C) (hv : ∀ v, V v → sk_ev v e = b)
    (hp : ∀ cl' mv' T' m' t', sk_FI V C m0 t0 T0 q0 cl' mv' T' m' t' → m' (e / 2) ≠ -1 → post (ct, pt, pn, lc, cl', mv', (nI T'), lv, fa, a1, a2, a3, a4, a5, a6, a7, a8, a9, a10, a11, m', t', a14, a15, a16, a17, a18)) :
    wpX_demand post (ct, pt, pn, lc, cl, mv, (nI T), lv, fa, a1, a2, a3, a4, a5, a6, a7, a8, a9, a10, a11, m, t, a14, a15, a16, a17, a18) (nI e) (sk_bI b) := by
  obtain ⟨⟨hT, hO, hc, hE⟩, hq⟩ := hF
  have hb : sk_bI b ^^^ (nI e &&& 1) = sk_bI (Bool.xor b (decide (e % 2 = 1))) := by rw [sk_a1 (by omega), sk_xo]
  have hvv : ∀ v, V v → v (e / 2) = Bool.xor b (decide (e % 2 = 1)) := by
    intro v h
    rw [← hv v h]
    unfold sk_ev
    cases v (e / 2) <;> cases decide (e % 2 = 1) <;> rfl
  unfold wpX_demand
  dsimp only
  refine nm_r (sk_sh (by omega)) (nm_r hb ⟨pk_in (e / 2) 2560 (by omega), ?_⟩)
  rw [nI_clamp (show e / 2 < 2 ^ 31 by omega)]
  refine br_c (fun c => ?_) (fun c => ?_)
  · obtain ⟨k1, k2, k3⟩ := sk_TI_push (x := sk_bI (Bool.xor b (decide (e % 2 = 1)))) hT hC he c (sk_bI_n _)
    refine ⟨pk_in (e / 2) 2560 (by omega), ?_⟩
    rw [sk_bI_8, sk_s16 (show e / 2 < 32768 by omega), nI_clamp (show T < 2 ^ 31 by omega)]
    refine nm_e ⟨pk_in T 2560 (by omega), nm_e (nm_r (nI_1 T) ?_)⟩
    refine hp _ _ (T + 1) _ _ ⟨⟨k3, fun v h p hpC hpn => ?_, hc, sk_Ex_t hE ⟨by omega, fun j hj => pk_un (by omega), fun p hpC hpn => pk_un (fun z => hpn (by rw [z]; exact c))⟩⟩, Or.inr (by have := hE.1; omega)⟩ (by rw [pk_us]; exact sk_bI_n _)
    by_cases z : p = e / 2
    · rw [z, pk_us, hvv v h]
    · rw [pk_un z] at hpn ⊢
      exact hO v h p hpC hpn
  · refine ⟨pk_in (e / 2) 2560 (by omega), br_c (fun d => ?_) (fun d => ?_)⟩
    · exact hp _ _ T _ _ ⟨⟨hT, hO, hc, hE⟩, hq⟩ c
    · refine hp _ _ T _ _ ⟨⟨hT, hO, fun _ v h => ?_, hE⟩, hq⟩ c
      apply d
      rw [hO v h _ he c, hvv v h]
theorem sk_mustEnd {post : Int32 → Prop} {m : Nat → Int32} {e : Nat} (he : e / 2 < 2560) (hp : post (sk_me m e)) : wpX_mustEnd post (ct, pt, pn, lc, cl, mv, ts, lv, fa, a1, a2, a3, a4, a5, a6, a7, a8, a9, a10, a11, m, a13, a14, a15, a16, a17, a18) (nI e) := by
  unfold wpX_mustEnd
  dsimp only
  rw [sk_sh (by omega), nI_clamp (show e / 2 < 2 ^ 31 by omega), sk_a1 (by omega)]
  refine ⟨pk_in (e / 2) 2560 he, nm_e (br_c (fun c => ?_) (fun c => ?_))⟩
  · rw [sk_me_o c] at hp
    exact hp
  · unfold sk_me at hp
    rw [if_neg c] at hp
    exact hp
theorem sk_f122 {T : Nat} {m t : Nat → Int32} {p el er : Nat} {B own : Int32} (hC : C < 2560) (hF : sk_FI V C m0 t0 T0 q0 cl mv T m t) (h9 : 9 ≤ p) (hpC : p ≤ C)
    (hl : a3 p = nI el) (el2 : el < 2 * p) (hB : B ≠ -1 → ∀ v, V v → B = sk_bI (sk_ev v er)) (hO : own ≠ -1 → ∀ v, V v → own = sk_bI (v p))
    (hV : ∀ v, V v → v p = (sk_ev v el && sk_ev v er))
    (hp : ∀ cl' mv' T' m' t', sk_FI V C m0 t0 T0 q0 cl' mv' T' m' t' → post (ct, pt, pn, lc, cl', mv', (nI T'), lv, fa, a1, a2, a3, a4, a5, a6, a7, a8, a9, a10, a11, m', t', a14, a15, a16, a17, a18)) :
    wX_follow_122 post (nI p) B own ct pt pn lc cl mv (nI T) lv fa a1 a2 a3 a4 a5 a6 a7 a8 a9 a10 a11 m t a14 a15 a16 a17 a18 := by
  unfold wX_follow_122
  refine br_c (fun o0 => br_c (fun b1 => ⟨pk_in p 2560 (by omega), ?_⟩) (fun b1 => hp _ _ T _ _ hF)) (fun o0 => hp _ _ T _ _ hF)
  rw [nI_clamp (show p < 2 ^ 31 by omega), hl]
  refine sk_demand false hC hF (by omega) (fun v h => ?_) (fun cl' mv' T' m' t' hF' _ => hp _ _ T' _ _ hF')
  have e1 : v p = false := sk_bI_0 (by rw [← hO (by rw [o0]; decide) v h, o0])
  have e2 : sk_ev v er = true := sk_bI_1 (by rw [← hB (by rw [b1]; decide) v h, b1])
  rw [hV v h, e2] at e1
  simpa using e1
theorem sk_f67 {T : Nat} {m t : Nat → Int32} {p el er : Nat} {A B own : Int32} (hC : C < 2560) (hF : sk_FI V C m0 t0 T0 q0 cl mv T m t) (h9 : 9 ≤ p) (hpC : p ≤ C)
    (hl : a3 p = nI el) (el2 : el < 2 * p) (hr : a4 p = nI er) (er2 : er < 2 * p) (hA : A ≠ -1 → ∀ v, V v → A = sk_bI (sk_ev v el)) (hB : B ≠ -1 → ∀ v, V v → B = sk_bI (sk_ev v er)) (hO : own ≠ -1 → ∀ v, V v → own = sk_bI (v p))
    (hV : ∀ v, V v → v p = (sk_ev v el && sk_ev v er))
    (hp : ∀ cl' mv' T' m' t', sk_FI V C m0 t0 T0 q0 cl' mv' T' m' t' → post (ct, pt, pn, lc, cl', mv', (nI T'), lv, fa, a1, a2, a3, a4, a5, a6, a7, a8, a9, a10, a11, m', t', a14, a15, a16, a17, a18)) :
    wX_follow_67 post (nI p) A B own ct pt pn lc cl mv (nI T) lv fa a1 a2 a3 a4 a5 a6 a7 a8 a9 a10 a11 m t a14 a15 a16 a17 a18 := by
  unfold wX_follow_67
  rw [nI_clamp (show p < 2 ^ 31 by omega), hl, hr]
  refine br_c (fun o1 => ⟨pk_in p 2560 (by omega), ?_⟩) (fun o1 => br_c (fun o0 => br_c (fun a1 => ⟨pk_in p 2560 (by omega), ?_⟩) (fun a1 => sk_f122 hC hF h9 hpC hl el2 hB hO hV hp)) (fun o0 => sk_f122 hC hF h9 hpC hl el2 hB hO hV hp))
  · have e0 : ∀ v, V v → (sk_ev v el && sk_ev v er) = true := fun v h => by rw [← hV v h]; exact sk_bI_1 (by rw [← hO (by rw [o1]; decide) v h, o1])
    refine sk_demand true hC hF (by omega) (fun v h => ?_) (fun cl' mv' T' m' t' hF' _ => ⟨pk_in p 2560 (by omega), ?_⟩)
    · have := e0 v h
      rw [Bool.and_eq_true] at this
      exact this.1
    · rw [hr]
      refine sk_demand true hC hF' (by omega) (fun v h => ?_) (fun cl' mv' T' m' t' hF' _ => hp _ _ T' _ _ hF')
      have := e0 v h
      rw [Bool.and_eq_true] at this
      exact this.2
  · refine sk_demand false hC hF (by omega) (fun v h => ?_) (fun cl' mv' T' m' t' hF' _ => hp _ _ T' _ _ hF')
    have e1 : v p = false := sk_bI_0 (by rw [← hO (by rw [o0]; decide) v h, o0])
    have e2 : sk_ev v el = true := sk_bI_1 (by rw [← hA (by rw [a1]; decide) v h, a1])
    rw [hV v h, e2] at e1
    simpa using e1
theorem sk_follow {T : Nat} {m t : Nat → Int32} {p : Nat} (hC : C < 2560) (hCP : C < P) (hg : sk_GW X P a3 a4) (hV : ∀ v, V v → sk_co P a3 a4 v) (hF : sk_FI V C m0 t0 T0 q0 cl mv T m t) (h9 : 9 ≤ p) (hpC : p ≤ C)
    (hp : ∀ cl' mv' T' m' t', sk_FI V C m0 t0 T0 q0 cl' mv' T' m' t' → post (ct, pt, pn, lc, cl', mv', (nI T'), lv, fa, a1, a2, a3, a4, a5, a6, a7, a8, a9, a10, a11, m', t', a14, a15, a16, a17, a18)) :
    wpX_follow post (ct, pt, pn, lc, cl, mv, (nI T), lv, fa, a1, a2, a3, a4, a5, a6, a7, a8, a9, a10, a11, m, t, a14, a15, a16, a17, a18) (nI p) := by
  obtain ⟨⟨l1, l2, _⟩, ⟨r1, r2, _⟩⟩ := hg p h9 (by omega)
  have hV1 : ∀ v, V v → v p = (sk_ev v (sk_nt (a3 p)) && sk_ev v (sk_nt (a4 p))) := fun v h => (hV v h).2 p h9 (by omega)
  generalize sk_nt (a3 p) = el at l1 l2 hV1
  generalize sk_nt (a4 p) = er at r1 r2 hV1
  have hOk := hF.1.2.1
  have hA : sk_me m el ≠ -1 → ∀ v, V v → sk_me m el = sk_bI (sk_ev v el) := fun hn v h => sk_me_v (fun c => hOk v h _ (by omega) c) hn
  have hB : sk_me m er ≠ -1 → ∀ v, V v → sk_me m er = sk_bI (sk_ev v er) := fun hn v h => sk_me_v (fun c => hOk v h _ (by omega) c) hn
  have hO : m p ≠ -1 → ∀ v, V v → m p = sk_bI (v p) := fun hn v h => hOk v h p hpC hn
  unfold wpX_follow
  dsimp only
  rw [nI_clamp (show p < 2 ^ 31 by omega), l1, r1]
  refine ⟨pk_in p 2560 (by omega), sk_mustEnd (by omega) ⟨pk_in p 2560 (by omega), sk_mustEnd (by omega) ⟨pk_in p 2560 (by omega), nm_e ?_⟩⟩⟩
  have K : ∀ cl' mv' T' m' t', sk_FI V C m0 t0 T0 q0 cl' mv' T' m' t' → wX_follow_67 post (nI p) (sk_me m el) (sk_me m er) (m p) ct pt pn lc cl' mv' (nI T') lv fa a1 a2 a3 a4 a5 a6 a7 a8 a9 a10 a11 m' t' a14 a15 a16 a17 a18 :=
    fun cl' mv' T' m' t' hF' => sk_f67 hC hF' h9 hpC l1 l2 r1 r2 hA hB hO hV1 hp
  have e2 : (2 : Int32) * nI p = nI (2 * p) := pk_mul 2 p
  have Z : (∀ v, V v → v p = false) → wX_follow_38 post (nI p) (sk_me m el) (sk_me m er) (m p) ct pt pn lc cl mv (nI T) lv fa a1 a2 a3 a4 a5 a6 a7 a8 a9 a10 a11 m t a14 a15 a16 a17 a18 := by
    intro z
    unfold wX_follow_38
    rw [e2]
    exact sk_demand false hC hF (by omega) (fun v h => by rw [sk_ev_2]; exact z v h) (fun cl' mv' T' m' t' hF' _ => K _ _ T' _ _ hF')
  refine br_c (fun ha => Z (fun v h => ?_)) (fun ha => br_c (fun hb => Z (fun v h => ?_)) (fun hb => br_c (fun a1 => br_c (fun b1 => ?_) (fun _ => K _ _ T _ _ hF)) (fun _ => K _ _ T _ _ hF)))
  · rw [hV1 v h, sk_bI_0 (b := sk_ev v el) (by rw [← hA (by rw [ha]; decide) v h, ha])]
    rfl
  · rw [hV1 v h, sk_bI_0 (b := sk_ev v er) (by rw [← hB (by rw [hb]; decide) v h, hb])]
    exact Bool.and_false _
  · rw [e2]
    refine sk_demand true hC hF (by omega) (fun v h => ?_) (fun cl' mv' T' m' t' hF' _ => K _ _ T' _ _ hF')
    rw [sk_ev_2, hV1 v h, sk_bI_1 (b := sk_ev v el) (by rw [← hA (by rw [a1]; decide) v h, a1]), sk_bI_1 (b := sk_ev v er) (by rw [← hB (by rw [b1]; decide) v h, b1])]
    rfl
theorem sk_fa65 {J : Int32 → Int32 → Int32 → Int32 → Int32 → Int32 → Int32 → Int32 → Int32 → (Nat → Int32) → (Nat → Int32) → (Nat → Int32) → (Nat → Int32) → (Nat → Int32) → (Nat → Int32) → (Nat → Int32) → (Nat → Int64) → (Nat → Int32) → (Nat → Int32) → (Nat → Int32) → (Nat → Int32) → (Nat → Int32) → (Nat → Int32) → (Nat → Int32) → (Nat → Int32) → (Nat → Int32) → (Nat → Int32) → Prop} (hC : C < 2560) (hCP : C < P) (hg : sk_GW X P a3 a4) (hV : ∀ v, V v → sk_co P a3 a4 v)
    (hJ : ∀ cl' mv' T' m' t', sk_FI V C m0 t0 T0 q0 cl' mv' T' m' t' → J ct pt pn (nI C) cl' mv' (nI T') lv fa a1 a2 a3 a4 a5 a6 a7 a8 a9 a10 a11 m' t' a14 a15 a16 a17 a18) :
    ∀ (k i : Nat) (cl mv : Int32) (T : Nat) (m t : Nat → Int32), C + 1 ≤ i + k → 9 ≤ i → i < 2 ^ 31 → sk_FI V C m0 t0 T0 q0 cl mv T m t → wX_followAll_65 post J (k + 1) (nI i) ct pt pn (nI C) cl mv (nI T) lv fa a1 a2 a3 a4 a5 a6 a7 a8 a9 a10 a11 m t a14 a15 a16 a17 a18 := by
  intro k
  induction k with
  | zero =>
    intro i cl mv T m t hk h9 hi hF
    exact pk_lt C i (fun _ => hJ _ _ T _ _ hF) (fun z => absurd z (by omega))
  | succ k ih =>
    intro i cl mv T m t hk h9 hi hF
    refine pk_lt C i (fun _ => hJ _ _ T _ _ hF) (fun z => br_c (fun c => ⟨pk_in i 2560 (by omega), br_c (fun d => nm_r (nI_1 i) (ih (i + 1) _ _ T _ _ (by omega) (by omega) (by omega) hF)) (fun d => ?_)⟩) (fun c => hJ _ _ T _ _ hF))
    refine sk_follow hC hCP hg hV hF h9 z (fun cl' mv' T' m' t' hF' => nm_r (nI_1 i) ?_)
    exact ih (i + 1) _ _ T' _ _ (by omega) (by omega) (by omega) hF'
theorem sk_fa29 {J : Int32 → Int32 → Int32 → Int32 → Int32 → Int32 → Int32 → Int32 → Int32 → (Nat → Int32) → (Nat → Int32) → (Nat → Int32) → (Nat → Int32) → (Nat → Int32) → (Nat → Int32) → (Nat → Int32) → (Nat → Int64) → (Nat → Int32) → (Nat → Int32) → (Nat → Int32) → (Nat → Int32) → (Nat → Int32) → (Nat → Int32) → (Nat → Int32) → (Nat → Int32) → (Nat → Int32) → (Nat → Int32) → Prop} (hC : C < 2560) (hCP : C < P) (hg : sk_GW X P a3 a4) (hV : ∀ v, V v → sk_co P a3 a4 v)
    (hJ : ∀ cl' mv' T' m' t', sk_FI V C m0 t0 T0 q0 cl' mv' T' m' t' → J ct pt pn (nI C) cl' mv' (nI T') lv fa a1 a2 a3 a4 a5 a6 a7 a8 a9 a10 a11 m' t' a14 a15 a16 a17 a18) :
    ∀ (k i : Nat) (cl mv : Int32) (T : Nat) (m t : Nat → Int32), i ≤ k + 8 → i ≤ C → sk_FI V C m0 t0 T0 q0 cl mv T m t → wX_followAll_29 post J (k + 1) (nI i) ct pt pn (nI C) cl mv (nI T) lv fa a1 a2 a3 a4 a5 a6 a7 a8 a9 a10 a11 m t a14 a15 a16 a17 a18 := by
  have E : ∀ (cl mv : Int32) (T : Nat) (m t : Nat → Int32), sk_FI V C m0 t0 T0 q0 cl mv T m t → ∃ fu65 : Nat, wX_followAll_65 post J fu65 9 ct pt pn (nI C) cl mv (nI T) lv fa a1 a2 a3 a4 a5 a6 a7 a8 a9 a10 a11 m t a14 a15 a16 a17 a18 :=
    fun cl mv T m t hF => ⟨C + 1, sk_fa65 hC hCP hg hV hJ C 9 cl mv T m t (by omega) (by omega) (by omega) hF⟩
  intro k
  induction k with
  | zero =>
    intro i cl mv T m t hk hi hF
    exact pk_lt i 9 (fun _ => E _ _ T _ _ hF) (fun z => absurd z (by omega))
  | succ k ih =>
    intro i cl mv T m t hk hi hF
    refine pk_lt i 9 (fun _ => E _ _ T _ _ hF) (fun z => ?_)
    obtain ⟨j, rfl⟩ : ∃ j, i = j + 1 := ⟨i - 1, by omega⟩
    refine br_c (fun c => ⟨pk_in (j + 1) 2560 (by omega), br_c (fun d => nm_r (pk_m1 j) (ih j _ _ T _ _ (by omega) (by omega) hF)) (fun d => ?_)⟩) (fun c => E _ _ T _ _ hF)
    refine sk_follow hC hCP hg hV hF z hi (fun cl' mv' T' m' t' hF' => nm_r (pk_m1 j) ?_)
    exact ih j _ _ T' _ _ (by omega) (by omega) hF'
theorem sk_fa5 (hC : C < 2560) (hCP : C < P) (hg : sk_GW X P a3 a4) (hV : ∀ v, V v → sk_co P a3 a4 v)
    (hp : ∀ cl' mv' T' m' t', sk_FJ V C m0 t0 T0 cl' T' m' t' → post (ct, pt, pn, (nI C), cl', mv', (nI T'), lv, fa, a1, a2, a3, a4, a5, a6, a7, a8, a9, a10, a11, m', t', a14, a15, a16, a17, a18)) :
    ∀ (n : Nat) (cl mv : Int32) (T : Nat) (m t : Nat → Int32), sk_FJ V C m0 t0 T0 cl T m t → ((mv = 0 ∧ 1 ≤ n) ∨ C + 2 ≤ T + n) → T ≤ C → wX_followAll_5 post n ct pt pn (nI C) cl mv (nI T) lv fa a1 a2 a3 a4 a5 a6 a7 a8 a9 a10 a11 m t a14 a15 a16 a17 a18 := by
  intro n
  induction n with
  | zero =>
    intro cl mv T m t hF hn hT
    exact absurd hn (by omega)
  | succ n ih =>
    intro cl mv T m t hF hn hT
    refine br_c (fun h => hp _ _ T _ _ hF) (fun h => br_c (fun c => ?_) (fun c => hp _ _ T _ _ hF))
    have hn2 : C + 2 ≤ T + (n + 1) := by
      rcases hn with z | z
      · exact absurd z.1 h
      · exact z
    refine ⟨C + 1, sk_fa29 (m0 := m) (t0 := t) (T0 := T) (q0 := 0) hC hCP hg hV (fun cl' mv' T' m' t' hF' => ?_) C C cl 0 T m t (by omega) (Nat.le_refl C) ⟨⟨hF.1, hF.2.1, hF.2.2.1, sk_Ex_r C m t T⟩, Or.inl rfl⟩⟩
    obtain ⟨⟨g1, g2, g3, g4⟩, g5⟩ := hF'
    have hT' : T' ≤ C := by have := g1.2.1; omega
    refine ih cl' mv' T' m' t' ⟨g1, g2, g3, sk_Ex_t hF.2.2.2 g4⟩ ?_ hT'
    rcases g5 with z | z
    · exact Or.inl ⟨z, by omega⟩
    · exact Or.inr (by omega)
theorem sk_followAll {T : Nat} {m t : Nat → Int32} (hC : C < 2560) (hCP : C < P) (hg : sk_GW X P a3 a4) (hV : ∀ v, V v → sk_co P a3 a4 v) (hF : sk_FJ V C m0 t0 T0 cl T m t)
    (hp : ∀ cl' mv' T' m' t', sk_FJ V C m0 t0 T0 cl' T' m' t' → post (ct, pt, pn, (nI C), cl', mv', (nI T'), lv, fa, a1, a2, a3, a4, a5, a6, a7, a8, a9, a10, a11, m', t', a14, a15, a16, a17, a18)) :
    wpX_followAll post (ct, pt, pn, (nI C), cl, mv, (nI T), lv, fa, a1, a2, a3, a4, a5, a6, a7, a8, a9, a10, a11, m, t, a14, a15, a16, a17, a18) := by
  have hT : T ≤ C := by have := hF.1.2.1; omega
  exact ⟨C + 2, sk_fa5 hC hCP hg hV hp (C + 2) cl 1 T m t hF (Or.inr (by omega)) hT⟩
end
end
section
section
variable {ct pt pn lc cl mv ts lv fa : Int32} {a1 a2 a3 a4 a5 a6 a7 : Nat → Int32} {a8 : Nat → Int64} {a9 a10 a11 a12 a13 a14 a15 a16 a17 a18 : Nat → Int32}
variable {post : St2 → Prop} {X : Nat → Prop} {P : Nat} {C : Nat}
/-- what is concerned is closed under ends, above i -/
def sk_Cc (i C : Nat) (l r b : Nat → Int32) : Prop := ∀ q, i ≤ q → 9 ≤ q → q ≤ C → b q ≠ 0 → b (sk_nt (l q) / 2) ≠ 0 ∧ b (sk_nt (r q) / 2) ≠ 0
theorem sk_up1 {b : Nat → Int32} {k q : Nat} (h : b q ≠ 0 ∨ q = k) : upd b k 1 q ≠ 0 := by
  by_cases e : q = k
  · rw [e, pk_us]; decide
  · rw [pk_un e]
    exact h.resolve_right e
theorem sk_Cc_step {i C P : Nat} {b : Nat → Int32} (hg : sk_GW X P a3 a4) (h9 : 9 ≤ i) (hi : i < P) (h : sk_Cc (i + 1) C a3 a4 b) :
    sk_Cc i C a3 a4 (upd (upd b (sk_nt (a3 i) / 2) 1) (sk_nt (a4 i) / 2) 1) := by
  obtain ⟨⟨_, l2, _⟩, ⟨_, r2, _⟩⟩ := hg i h9 hi
  intro q hiq hq9 hqC hb
  by_cases e : q = i
  · subst e
    exact ⟨sk_up1 (Or.inl (sk_up1 (Or.inr rfl))), sk_up1 (Or.inr rfl)⟩
  · rw [pk_un (show q ≠ sk_nt (a4 i) / 2 by omega), pk_un (show q ≠ sk_nt (a3 i) / 2 by omega)] at hb
    obtain ⟨c1, c2⟩ := h q (by omega) hq9 hqC hb
    exact ⟨sk_up1 (Or.inl (sk_up1 (Or.inl c1))), sk_up1 (Or.inl (sk_up1 (Or.inl c2)))⟩
theorem sk_Cc_skip {i C : Nat} {b : Nat → Int32} (h : sk_Cc (i + 1) C a3 a4 b) (hb : b i = 0) : sk_Cc i C a3 a4 b := by
  intro q hiq hq9 hqC hbq
  by_cases e : q = i
  · rw [e] at hbq
    exact absurd hb hbq
  · exact h q (by omega) hq9 hqC hbq
theorem sk_c82 {e1 e2 : Nat} {b12 : Nat → Int32} (hg : sk_GW X P a3 a4) (hP : P ≤ 2560) (hC : C < P)
    (hp : ∀ b11, b11 (e1 / 2) ≠ 0 → b11 (e2 / 2) ≠ 0 → sk_Cc 0 C a3 a4 b11 → post (ct, pt, pn, lc, 0, mv, 0, 0, fa, a1, a2, a3, a4, a5, a6, a7, a8, a9, a10, b11, b12, a13, a14, a15, a16, a17, a18)) :
    ∀ (k i : Nat) (b11 : Nat → Int32), i ≤ k + 8 → i ≤ C → b11 (e1 / 2) ≠ 0 → b11 (e2 / 2) ≠ 0 → sk_Cc (i + 1) C a3 a4 b11 → wX_concern_82 post ct pt pn lc cl mv ts lv fa (k + 1) (nI i) a1 a2 a3 a4 a5 a6 a7 a8 a9 a10 b11 b12 a13 a14 a15 a16 a17 a18 := by
  have Z : ∀ (i : Nat) (b11 : Nat → Int32), i < 9 → b11 (e1 / 2) ≠ 0 → b11 (e2 / 2) ≠ 0 → sk_Cc (i + 1) C a3 a4 b11 → post (ct, pt, pn, lc, 0, mv, 0, 0, fa, a1, a2, a3, a4, a5, a6, a7, a8, a9, a10, b11, b12, a13, a14, a15, a16, a17, a18) :=
    fun i b11 hi h1 h2 hc => hp b11 h1 h2 (fun q _ hq9 hqC hb => hc q (by omega) hq9 hqC hb)
  intro k
  induction k with
  | zero =>
    intro i b11 hk hi h1 h2 hc
    exact pk_lt i 9 (fun z => Z i b11 z h1 h2 hc) (fun z => absurd z (by omega))
  | succ k ih =>
    intro i b11 hk hi h1 h2 hc
    refine pk_lt i 9 (fun z => Z i b11 z h1 h2 hc) (fun z => ⟨pk_in i 2560 (by omega), ?_⟩)
    obtain ⟨⟨l1, l2, _⟩, ⟨r1, r2, _⟩⟩ := hg i z (by omega)
    obtain ⟨j, rfl⟩ : ∃ j, i = j + 1 := ⟨i - 1, by omega⟩
    rw [nI_clamp (show j + 1 < 2 ^ 31 by omega)]
    refine br_c (fun d => nm_r (pk_m1 j) (ih j _ (by omega) (by omega) h1 h2 (sk_Cc_skip hc d))) (fun d => ?_)
    have hst := sk_Cc_step (C := C) (b := b11) hg z (by omega) hc
    rw [l1, r1]
    generalize sk_nt (a3 (j + 1)) = el at l2 hst
    generalize sk_nt (a4 (j + 1)) = er at r2 hst
    rw [sk_sh (show el < 2 ^ 31 by omega), sk_sh (show er < 2 ^ 31 by omega), nI_clamp (show el / 2 < 2 ^ 31 by omega), nI_clamp (show er / 2 < 2 ^ 31 by omega)]
    refine ⟨pk_in (j + 1) 2560 (by omega), pk_in (el / 2) 2560 (by omega), nm_e ⟨pk_in (j + 1) 2560 (by omega), pk_in (er / 2) 2560 (by omega), nm_e (nm_r (pk_m1 j) ?_)⟩⟩
    exact ih j _ (by omega) (by omega) (sk_up1 (Or.inl (sk_up1 (Or.inl h1)))) (sk_up1 (Or.inl (sk_up1 (Or.inl h2)))) hst
theorem sk_c24 {e1 e2 : Nat} (hg : sk_GW X P a3 a4) (hP : P ≤ 2560) (hC : C < P) (h1 : e1 / 2 ≤ C) (h2 : e2 / 2 ≤ C) (he1 : e1 < 2 ^ 31) (he2 : e2 < 2 ^ 31)
    (hp : ∀ b11 b12, b11 (e1 / 2) ≠ 0 → b11 (e2 / 2) ≠ 0 → sk_Cc 0 C a3 a4 b11 → b12 0 = 0 → (∀ p, 1 ≤ p → p ≤ C → b12 p = -1) → post (ct, pt, pn, (nI C), 0, mv, 0, 0, fa, a1, a2, a3, a4, a5, a6, a7, a8, a9, a10, b11, b12, a13, a14, a15, a16, a17, a18)) :
    ∀ (k i : Nat) (b11 b12 : Nat → Int32), C + 1 ≤ i + k → i ≤ C + 1 → (∀ p, p < i → b12 p = -1 ∧ (p = e1 / 2 ∨ p = e2 / 2 → b11 p ≠ 0)) →
      wX_concern_24 post (nI e1) (nI e2) ct pt pn (nI C) cl mv ts lv fa (k + 1) (nI i) a1 a2 a3 a4 a5 a6 a7 a8 a9 a10 b11 b12 a13 a14 a15 a16 a17 a18 := by
  intro k
  induction k with
  | zero =>
    intro i b11 b12 hk hi hI
    have hiC : i = C + 1 := by omega
    refine pk_lt C i (fun z => nm_e ⟨C + 1, sk_c82 (e1 := e1) (e2 := e2) hg hP hC (fun c11 g1 g2 gc => hp c11 _ g1 g2 gc pk_us (fun p p1 p2 => ?_)) C C b11 (by omega) (Nat.le_refl C) ((hI _ (by omega)).2 (Or.inl rfl)) ((hI _ (by omega)).2 (Or.inr rfl)) (fun q q1 _ q3 _ => absurd q3 (by omega))⟩) (fun z => absurd z (by omega))
    rw [pk_un (by omega)]
    exact (hI p (by omega)).1
  | succ k ih =>
    intro i b11 b12 hk hi hI
    by_cases hiC : i = C + 1
    · refine pk_lt C i (fun z => nm_e ⟨C + 1, sk_c82 (e1 := e1) (e2 := e2) hg hP hC (fun c11 g1 g2 gc => hp c11 _ g1 g2 gc pk_us (fun p p1 p2 => ?_)) C C b11 (by omega) (Nat.le_refl C) ((hI _ (by omega)).2 (Or.inl rfl)) ((hI _ (by omega)).2 (Or.inr rfl)) (fun q q1 _ q3 _ => absurd q3 (by omega))⟩) (fun z => absurd z (by omega))
      rw [pk_un (by omega)]
      exact (hI p (by omega)).1
    · have S : ∀ z : Int32, vp_nar .boolean z = z → (i = e1 / 2 ∨ i = e2 / 2 → z ≠ 0) → wX_concern_56 post (wX_concern_24 post (nI e1) (nI e2) ct pt pn (nI C) cl mv ts lv fa (k + 1)) (nI e1) (nI e2) (nI i) z (nI i) ct pt pn (nI C) cl mv ts lv fa a1 a2 a3 a4 a5 a6 a7 a8 a9 a10 b11 b12 a13 a14 a15 a16 a17 a18 := by
        intro z hz hz2
        unfold wX_concern_56
        rw [hz, nI_clamp (show i < 2 ^ 31 by omega)]
        refine ⟨pk_in i 2560 (by omega), nm_e ⟨pk_in i 2560 (by omega), nm_e (nm_r (nI_1 i) (ih (i + 1) _ _ (by omega) (by omega) (fun p hpi => ?_)))⟩⟩
        by_cases e : p = i
        · rw [e, pk_us, pk_us]
          exact ⟨rfl, hz2⟩
        · rw [pk_un e, pk_un e]
          exact hI p (by omega)
      refine pk_lt C i (fun z => absurd z (by omega)) (fun _ => ?_)
      rw [sk_sh he1, sk_sh he2]
      refine pk_eq i (e1 / 2) (fun _ => S 1 sk_vb1 (fun _ => by decide)) (fun n1 => pk_eq i (e2 / 2) (fun _ => S 1 sk_vb1 (fun _ => by decide)) (fun n2 => S 0 sk_vb0 (fun h => absurd h (by omega))))
theorem sk_concern {e1 e2 : Nat} (hg : sk_GW X P a3 a4) (hP : P ≤ 2560) (h1 : e1 / 2 < P) (h2 : e2 / 2 < P)
    (hp : ∀ C b11 b12, e1 / 2 ≤ C → e2 / 2 ≤ C → C < P → (C = e1 / 2 ∨ C = e2 / 2) → b11 (e1 / 2) ≠ 0 → b11 (e2 / 2) ≠ 0 → sk_Cc 0 C a3 a4 b11 → b12 0 = 0 → (∀ p, 1 ≤ p → p ≤ C → b12 p = -1) → post (ct, pt, pn, (nI C), 0, mv, 0, 0, fa, a1, a2, a3, a4, a5, a6, a7, a8, a9, a10, b11, b12, a13, a14, a15, a16, a17, a18)) :
    wpX_concern post (ct, pt, pn, lc, cl, mv, ts, lv, fa, a1, a2, a3, a4, a5, a6, a7, a8, a9, a10, a11, a12, a13, a14, a15, a16, a17, a18) (nI e1) (nI e2) := by
  unfold wpX_concern
  dsimp only
  rw [sk_sh (show e1 < 2 ^ 31 by omega), sk_sh (show e2 < 2 ^ 31 by omega)]
  refine pk_le (e1 / 2) (e2 / 2) (fun z => nm_e ⟨e2 / 2 + 2, ?_⟩) (fun z => nm_e ⟨e1 / 2 + 2, ?_⟩)
  · exact sk_c24 hg hP h2 z (Nat.le_refl _) (by omega) (by omega) (fun b11 b12 g1 g2 g3 g4 g5 => hp _ b11 b12 z (Nat.le_refl _) h2 (Or.inr rfl) g1 g2 g3 g4 g5) (e2 / 2 + 1) 0 _ _ (by omega) (by omega) (fun p z => absurd z (by omega))
  · exact sk_c24 hg hP h1 (Nat.le_refl _) (by omega) (by omega) (by omega) (fun b11 b12 g1 g2 g3 g4 g5 => hp _ b11 b12 (Nat.le_refl _) (by omega) h1 (Or.inl rfl) g1 g2 g3 g4 g5) (e1 / 2 + 1) 0 _ _ (by omega) (by omega) (fun p z => absurd z (by omega))
theorem sk_openInput {post : Int32 → Prop} (hC : C < 2560) (hn : post (-1))
    (hs : ∀ i, i ≤ 7 → i + 1 ≤ C → a11 (i + 1) ≠ 0 → a12 (i + 1) = -1 → (∀ j, i < j → j ≤ 7 → j + 1 ≤ C → a11 (j + 1) ≠ 0 → a12 (j + 1) ≠ -1) → post (nI i)) :
    wpX_openInput post (ct, pt, pn, (nI C), cl, mv, ts, lv, fa, a1, a2, a3, a4, a5, a6, a7, a8, a9, a10, a11, a12, a13, a14, a15, a16, a17, a18) := by
  have N : ∀ n, wX_openInput_3 post ct pt pn (nI C) cl mv ts lv fa a1 a2 a3 a4 a5 a6 a7 a8 a9 a10 a11 a12 a13 a14 a15 a16 a17 a18 (n + 1) (-1) := fun n => br_t (by decide) hn
  have K : ∀ i, i ≤ 7 → (∀ j, i < j → j ≤ 7 → j + 1 ≤ C → a11 (j + 1) ≠ 0 → a12 (j + 1) ≠ -1) → wX_openInput_3 post ct pt pn (nI C) cl mv ts lv fa a1 a2 a3 a4 a5 a6 a7 a8 a9 a10 a11 a12 a13 a14 a15 a16 a17 a18 (i + 2) (nI i) := by
    intro i
    induction i with
    | zero =>
      intro h7 hj
      refine br_f (by decide) ?_
      refine pk_lt C 1 (fun z => nm_e (N 0)) (fun z => ⟨pk_in 1 2560 (by omega), br_c (fun d => nm_e (N 0)) (fun d => ⟨pk_in 1 2560 (by omega), br_c (fun f => ?_) (fun f => nm_e (N 0))⟩)⟩)
      exact hs 0 h7 z d f hj
    | succ i ih =>
      intro h7 hj
      refine br_f (nI_pos (by omega)) ?_
      rw [nI_1 (i + 1), nI_clamp (show i + 1 + 1 < 2 ^ 31 by omega)]
      have R : (¬ (i + 1 + 1 ≤ C ∧ a11 (i + 1 + 1) ≠ 0 ∧ a12 (i + 1 + 1) = -1)) → ∀ x, x = nI (i + 1) + (-1) → wX_openInput_3 post ct pt pn (nI C) cl mv ts lv fa a1 a2 a3 a4 a5 a6 a7 a8 a9 a10 a11 a12 a13 a14 a15 a16 a17 a18 (i + 2) x := by
        intro hc
        refine nm_r (pk_m1 i) (ih (by omega) (fun j j1 j2 j3 j4 j5 => ?_))
        by_cases e : j = i + 1
        · subst e
          exact hc ⟨j3, j4, j5⟩
        · exact hj j (by omega) j2 j3 j4 j5
      refine pk_lt C (i + 1 + 1) (fun z => R (fun h => absurd h.1 (by omega))) (fun z => ⟨pk_in (i + 1 + 1) 2560 (by omega), br_c (fun d => R (fun h => h.2.1 d)) (fun d => ⟨pk_in (i + 1 + 1) 2560 (by omega), br_c (fun f => ?_) (fun f => R (fun h => f h.2.2))⟩)⟩)
      exact hs (i + 1) h7 z d f hj
  exact ⟨9, K 7 (by omega) (fun j h1 h2 => absurd h1 (by omega))⟩
theorem sk_take (hp : ∀ fa', post (ct, pt, pn, lc, cl, mv, ts, lv, fa', a1, a2, a3, a4, a5, a6, a7, a8, a9, a10, a11, a12, a13, a14, a15, a16, a17, a18)) : wpX_takeAssignment post (ct, pt, pn, lc, cl, mv, ts, lv, fa, a1, a2, a3, a4, a5, a6, a7, a8, a9, a10, a11, a12, a13, a14, a15, a16, a17, a18) := by
  have K : ∀ (k i : Nat) (fa' : Int32), 8 ≤ i + k → i ≤ 8 → wX_takeAssignment_7 post ct pt pn lc cl mv ts lv a1 a2 a3 a4 a5 a6 a7 a8 a9 a10 a11 a12 a13 a14 a15 a16 a17 a18 (k + 1) (nI i) fa' := by
    intro k
    induction k with
    | zero =>
      intro i fa' hk hi
      exact pk_le 8 i (fun _ => hp fa') (fun z => absurd z (by omega))
    | succ k ih =>
      intro i fa' hk hi
      refine pk_le 8 i (fun _ => hp fa') (fun z => ?_)
      have S : ∀ z0 : Int32, wX_takeAssignment_51 post (wX_takeAssignment_7 post ct pt pn lc cl mv ts lv a1 a2 a3 a4 a5 a6 a7 a8 a9 a10 a11 a12 a13 a14 a15 a16 a17 a18 (k + 1)) (nI i) z0 ct pt pn lc cl mv ts lv fa' a1 a2 a3 a4 a5 a6 a7 a8 a9 a10 a11 a12 a13 a14 a15 a16 a17 a18 := by
        intro z0
        unfold wX_takeAssignment_51
        exact br_c (fun _ => nm_e (nm_r (nI_1 i) (ih (i + 1) _ (by omega) (by omega)))) (fun _ => nm_e (nm_r (nI_1 i) (ih (i + 1) _ (by omega) (by omega))))
      exact br_c (fun _ => S 0) (fun _ => ⟨pk_in (i + 1) 2560 (by omega) (nI_1 i), br_c (fun _ => S 0) (fun _ => ⟨pk_in (i + 1) 2560 (by omega) (nI_1 i), br_c (fun _ => S 1) (fun _ => S 0)⟩)⟩)
  exact ⟨9, K 8 0 0 (by omega) (by omega)⟩
end
end
section
/-- v goes with the first k decisions -/
def sk_Cn (k : Nat) (a15 a16 : Nat → Int32) (v : Nat → Bool) : Prop := ∀ j, j < k → sk_bI (v (sk_nt (a15 j) + 1)) = a16 j
def sk_VL (V0 : (Nat → Bool) → Prop) (k : Nat) (a15 a16 : Nat → Int32) (v : Nat → Bool) : Prop := V0 v ∧ sk_Cn k a15 a16 v
/-- the decisions: inputs go down, what was set before each follows from those before it, a turned one had to be 1, greater inputs that matter were set before -/
def sk_LI (V0 : (Nat → Bool) → Prop) (C L : Nat) (m t : Nat → Int32) (T : Nat) (a11 a14 a15 a16 : Nat → Int32) : Prop :=
  (∀ k, k < L → a15 k = nI (sk_nt (a15 k)) ∧ sk_nt (a15 k) + k ≤ 7 ∧ sk_nt (a15 k) + 1 ≤ C ∧ a14 k = nI (sk_nt (a14 k)) ∧ sk_nt (a14 k) ≤ T ∧ (a16 k = 0 ∨ a16 k = 1)) ∧
  (∀ j k, j ≤ k → k < L → sk_nt (a14 j) ≤ sk_nt (a14 k)) ∧
  (∀ k, k < L → ∀ v, V0 v → sk_Cn k a15 a16 v → ∀ j p, j < sk_nt (a14 k) → t j = nI p → p ≤ C → m p = sk_bI (v p)) ∧
  (∀ k, k < L → a16 k = 1 → ∀ v, V0 v → sk_Cn k a15 a16 v → v (sk_nt (a15 k) + 1) = true) ∧
  (∀ k, k < L → ∀ j, sk_nt (a15 k) < j → j ≤ 7 → j + 1 ≤ C → a11 (j + 1) ≠ 0 → ∃ τ, τ < sk_nt (a14 k) ∧ t τ = nI (j + 1))
theorem sk_LI_ex {V0 : (Nat → Bool) → Prop} {C L : Nat} {m t : Nat → Int32} {T : Nat} {m' t' : Nat → Int32} {T' : Nat} {a11 a14 a15 a16 : Nat → Int32} (hC : C < 2560) (h : sk_LI V0 C L m t T a11 a14 a15 a16) (hT : sk_TI C m t T) (hE : sk_Ex C m t T m' t' T') : sk_LI V0 C L m' t' T' a11 a14 a15 a16 := by
  obtain ⟨l1, l2, l3, l4, l5⟩ := h
  refine ⟨fun k hk => ?_, l2, fun k hk v v0 vc j p hj hp hpC => ?_, l4, fun k hk j j1 j2 j3 j4 => ?_⟩
  · obtain ⟨x1, x2, x3, x4, x5, x6⟩ := l1 k hk
    exact ⟨x1, x2, x3, x4, Nat.le_trans x5 hE.1, x6⟩
  · obtain ⟨x1, x2, x3, x4, x5, x6⟩ := l1 k hk
    rw [hE.2.1 j (by omega)] at hp
    have e := l3 k hk v v0 vc j p hj hp hpC
    rw [hE.2.2 p hpC (by rw [e]; exact sk_bI_n _)]
    exact e
  · obtain ⟨x1, x2, x3, x4, x5, x6⟩ := l1 k hk
    obtain ⟨τ, y1, y2⟩ := l5 k hk j j1 j2 j3 j4
    exact ⟨τ, y1, by rw [hE.2.1 τ (by omega)]; exact y2⟩
theorem sk_LI_le {V0 : (Nat → Bool) → Prop} {C L K : Nat} {m t : Nat → Int32} {T : Nat} {a11 a14 a15 a16 : Nat → Int32} (h : sk_LI V0 C L m t T a11 a14 a15 a16) (hK : K ≤ L) : sk_LI V0 C K m t T a11 a14 a15 a16 := by
  obtain ⟨l1, l2, l3, l4, l5⟩ := h
  exact ⟨fun k hk => l1 k (by omega), fun j k hjk hk => l2 j k hjk (by omega), fun k hk => l3 k (by omega), fun k hk => l4 k (by omega), fun k hk => l5 k (by omega)⟩
/-- the last of the trail is opened again -/
theorem sk_TI_pop {C T : Nat} {m t : Nat → Int32} (h : sk_TI C m t (T + 1)) (hC : C < 2560) : ∃ p, 1 ≤ p ∧ p ≤ C ∧ t T = nI p ∧ sk_TI C (upd m p (-1)) t T := by
  obtain ⟨t0, tc, t1, t2, t3⟩ := h
  obtain ⟨p, p1, p2, p3, p4⟩ := t1 T (by omega)
  have hc := sk_op_upd (m := m) (p := p) (x := -1) C p1 p2
  rw [if_neg p4, if_pos rfl] at hc
  refine ⟨p, p1, p2, p3, by rw [pk_un (by omega)]; exact t0, by omega, fun j hj => ?_, fun j k hjk hk => t2 j k hjk (by omega), fun q q1 q2 hq => ?_⟩
  · obtain ⟨q, q1, q2, q3, q4⟩ := t1 j (by omega)
    refine ⟨q, q1, q2, q3, ?_⟩
    rw [pk_un (fun z => t2 j T hj (by omega) (by rw [q3, p3, z]))]
    exact q4
  · by_cases e : q = p
    · rw [e, pk_us] at hq
      exact absurd rfl hq
    · rw [pk_un e] at hq
      obtain ⟨j, j1, j2⟩ := t3 q q1 q2 hq
      refine ⟨j, ?_, j2⟩
      rcases Nat.lt_or_ge j T with z | z
      · exact z
      · have : j = T := by omega
        rw [this, p3] at j2
        exact absurd ((nI_eq (by omega) (by omega)).mp j2).symm e
theorem sk_LI_pop {V0 : (Nat → Bool) → Prop} {C L T p : Nat} {m t : Nat → Int32} {a11 a14 a15 a16 : Nat → Int32} (h : sk_LI V0 C (L + 1) m t (T + 1) a11 a14 a15 a16) (hT : sk_TI C m t (T + 1)) (hp : t T = nI p) (ha : sk_nt (a14 L) ≤ T) : sk_LI V0 C (L + 1) (upd m p (-1)) t T a11 a14 a15 a16 := by
  obtain ⟨l1, l2, l3, l4, l5⟩ := h
  have hk0 : ∀ k, k < L + 1 → sk_nt (a14 k) ≤ T := fun k hk => Nat.le_trans (l2 k L (by omega) (by omega)) ha
  refine ⟨fun k hk => ?_, l2, fun k hk v v0 vc j q hj hq hqC => ?_, l4, l5⟩
  · obtain ⟨x1, x2, x3, x4, x5, x6⟩ := l1 k hk
    exact ⟨x1, x2, x3, x4, hk0 k hk, x6⟩
  · have := hk0 k hk
    rw [pk_un (fun z => hT.2.2.2.1 j T (by omega) (by omega) (by rw [hq, hp, z]))]
    exact l3 k hk v v0 vc j q hj hq hqC
/-- how far the search is -/
def sk_N (a16 : Nat → Int32) : Nat → Nat
  | 0 => 0
  | k + 1 => sk_N a16 k + (if a16 k = 0 then 1 else 2 ^ (8 - k))
theorem sk_N_upd {a16 : Nat → Int32} {L : Nat} {x : Int32} : ∀ k, k ≤ L → sk_N (upd a16 L x) k = sk_N a16 k := by
  intro k
  induction k with
  | zero => intro _; rfl
  | succ k ih =>
    intro h
    show sk_N (upd a16 L x) k + (if upd a16 L x k = 0 then 1 else 2 ^ (8 - k)) = sk_N a16 k + (if a16 k = 0 then 1 else 2 ^ (8 - k))
    rw [ih (by omega), pk_un (by omega)]
theorem sk_pw {k : Nat} (h : k ≤ 8) : 2 ^ (9 - k) = 2 * 2 ^ (8 - k) := by
  rw [show 9 - k = (8 - k) + 1 by omega, Nat.pow_succ, Nat.mul_comm]
theorem sk_N_le {a16 : Nat → Int32} : ∀ L, L ≤ 8 → sk_N a16 L + 2 ^ (9 - L) ≤ 512 := by
  intro L
  induction L with
  | zero => intro _; exact (by decide : 0 + 2 ^ (9 - 0) ≤ 512)
  | succ L ih =>
    intro h
    have := ih (by omega)
    rw [sk_pw (by omega)] at this
    have h1 : 1 ≤ 2 ^ (8 - L) := Nat.one_le_two_pow
    show sk_N a16 L + (if a16 L = 0 then 1 else 2 ^ (8 - L)) + 2 ^ (9 - (L + 1)) ≤ 512
    rw [show 9 - (L + 1) = 8 - L by omega]
    split <;> omega
theorem sk_N_512 {a16 : Nat → Int32} {L : Nat} (h : L ≤ 8) : sk_N a16 L ≤ 512 := Nat.le_trans (Nat.le_add_right _ _) (sk_N_le L h)
/-- the search between two rounds -/
def sk_SI (V0 : (Nat → Bool) → Prop) (C L : Nat) (cl : Int32) (T : Nat) (m t : Nat → Int32) (a11 a14 a15 a16 : Nat → Int32) : Prop :=
  L ≤ 8 ∧ sk_TI C m t T ∧ sk_Ok (sk_VL V0 L a15 a16) C m ∧ (¬ cl = 0 → ∀ v, ¬ sk_VL V0 L a15 a16 v) ∧ sk_LI V0 C L m t T a11 a14 a15 a16 ∧ (0 < L → m (sk_nt (a15 (L - 1)) + 1) ≠ -1)
theorem sk_Cn_upd {k L : Nat} {a15 a16 : Nat → Int32} {x y : Int32} {v : Nat → Bool} (h : k ≤ L) : sk_Cn k (upd a15 L x) (upd a16 L y) v ↔ sk_Cn k a15 a16 v := by
  constructor
  · intro z j hj
    have := z j hj
    rw [pk_un (by omega), pk_un (by omega)] at this
    exact this
  · intro z j hj
    rw [pk_un (by omega), pk_un (by omega)]
    exact z j hj
theorem sk_Cn_upd1 {k L : Nat} {a15 a16 : Nat → Int32} {y : Int32} {v : Nat → Bool} (h : k ≤ L) : sk_Cn k a15 (upd a16 L y) v ↔ sk_Cn k a15 a16 v := by
  constructor
  · intro z j hj
    have := z j hj
    rw [pk_un (by omega)] at this
    exact this
  · intro z j hj
    rw [pk_un (by omega)]
    exact z j hj
theorem sk_LI_add {V0 : (Nat → Bool) → Prop} {C L T i : Nat} {m t : Nat → Int32} {a11 a14 a15 a16 : Nat → Int32} (hC : C < 2560) (h : sk_LI V0 C L m t T a11 a14 a15 a16) (hT : sk_TI C m t T) (hO : sk_Ok (sk_VL V0 L a15 a16) C m)
    (hi : i + L ≤ 7) (hiC : i + 1 ≤ C) (hj : ∀ j, i < j → j ≤ 7 → j + 1 ≤ C → a11 (j + 1) ≠ 0 → m (j + 1) ≠ -1) :
    sk_LI V0 C (L + 1) m t T a11 (upd a14 L (nI T)) (upd a15 L (nI i)) (upd a16 L 0) := by
  obtain ⟨l1, l2, l3, l4, l5⟩ := h
  have hTC : T ≤ C := by have := hT.2.1; omega
  have nT : sk_nt (nI T) = T := sk_nt_nI (by omega)
  have ni : sk_nt (nI i) = i := sk_nt_nI (by omega)
  refine ⟨fun k hk => ?_, fun j k hjk hk => ?_, fun k hk v v0 vc j p hjj hp hpC => ?_, fun k hk h16 v v0 vc => ?_, fun k hk j j1 j2 j3 j4 => ?_⟩
  · by_cases e : k = L
    · subst e
      rw [pk_us, pk_us, pk_us, nT, ni]
      exact ⟨rfl, hi, hiC, rfl, Nat.le_refl T, Or.inl rfl⟩
    · rw [pk_un e, pk_un e, pk_un e]
      exact l1 k (by omega)
  · by_cases e : k = L
    · subst e
      by_cases e2 : j = k
      · rw [e2]; exact Nat.le_refl _
      · rw [pk_us, pk_un e2, nT]
        exact (l1 j (by omega)).2.2.2.2.1
    · rw [pk_un e, pk_un (by omega)]
      exact l2 j k hjk (by omega)
  · rw [sk_Cn_upd (by omega)] at vc
    by_cases e : k = L
    · subst e
      rw [pk_us, nT] at hjj
      obtain ⟨q, q1, q2, q3, q4⟩ := hT.2.2.1 j hjj
      have : q = p := (nI_eq (by omega) (by omega)).mp (by rw [← q3, hp])
      subst this
      exact hO v ⟨v0, vc⟩ q hpC q4
    · rw [pk_un e] at hjj
      exact l3 k (by omega) v v0 vc j p hjj hp hpC
  · rw [sk_Cn_upd (by omega)] at vc
    by_cases e : k = L
    · subst e
      rw [pk_us] at h16
      exact absurd h16 (by decide)
    · rw [pk_un e] at h16
      rw [pk_un e]
      exact l4 k (by omega) h16 v v0 vc
  · by_cases e : k = L
    · subst e
      rw [pk_us, ni] at j1
      rw [pk_us, nT]
      exact hT.2.2.2.2 (j + 1) (by omega) j3 (hj j j1 j2 j3 j4)
    · rw [pk_un e] at j1 ⊢
      exact l5 k (by omega) j j1 j2 j3 j4
section
variable {ct pt pn lc cl mv ts lv fa : Int32} {a1 a2 a3 a4 a5 a6 a7 : Nat → Int32} {a8 : Nat → Int64} {a9 a10 a11 a12 a13 a14 a15 a16 a17 a18 : Nat → Int32}
variable {X : Nat → Prop} {P : Nat} {V0 : (Nat → Bool) → Prop} {C : Nat}
theorem sk_decide {post : St2 → Prop} {L T i : Nat} {m t : Nat → Int32} (hC : C < 2560) (hS : sk_SI V0 C L 0 T m t a11 a14 a15 a16) (hi : i ≤ 7) (hiC : i + 1 ≤ C) (h11 : a11 (i + 1) ≠ 0) (ho : m (i + 1) = -1)
    (hj : ∀ j, i < j → j ≤ 7 → j + 1 ≤ C → a11 (j + 1) ≠ 0 → m (j + 1) ≠ -1)
    (hp : ∀ cl' mv' T' m' t' b14 b15 b16, sk_SI V0 C (L + 1) cl' T' m' t' a11 b14 b15 b16 → sk_N b16 (L + 1) = sk_N a16 L + 1 → post (ct, pt, pn, (nI C), cl', mv', (nI T'), (nI (L+1)), fa, a1, a2, a3, a4, a5, a6, a7, a8, a9, a10, a11, m', t', b14, b15, b16, a17, a18)) :
    wpX_decide post (ct, pt, pn, (nI C), 0, mv, (nI T), (nI L), fa, a1, a2, a3, a4, a5, a6, a7, a8, a9, a10, a11, m, t, a14, a15, a16, a17, a18) (nI i) := by
  obtain ⟨hL, hT, hO, hc, hLI, htop⟩ := hS
  have hTC : T ≤ C := by have := hT.2.1; omega
  have hiL : i + L ≤ 7 := by
    rcases Nat.eq_zero_or_pos L with z | z
    · omega
    · obtain ⟨x1, x2, x3, x4, x5, x6⟩ := hLI.1 (L - 1) (by omega)
      rcases Nat.lt_or_ge i (sk_nt (a15 (L - 1))) with y | y
      · omega
      · rcases Nat.eq_or_lt_of_le y with w | w
        · rw [← w] at ho
          exact absurd ho (htop z)
        · obtain ⟨τ, y1, y2⟩ := hLI.2.2.2.2 (L - 1) (by omega) i w hi hiC h11
          obtain ⟨q, q1, q2, q3, q4⟩ := hT.2.2.1 τ (by omega)
          have : q = i + 1 := (nI_eq (by omega) (by omega)).mp (by rw [← q3, y2])
          rw [this] at q4
          exact absurd ho q4
  have hLI2 := sk_LI_add hC hLI hT hO hiL hiC hj
  have e2 : (2 : Int32) * (nI i + 1) = nI (2 * (i + 1)) := by rw [nI_1]; exact pk_mul 2 (i + 1)
  unfold wpX_decide
  dsimp only
  rw [nI_clamp (show L < 2 ^ 31 by omega), sk_s16 (show T < 32768 by omega), sk_s8 (show i < 128 by omega), e2]
  refine ⟨pk_in L 9 (by omega), nm_e ⟨pk_in L 9 (by omega), nm_e ⟨pk_in L 9 (by omega), nm_e (nm_r (nI_1 L) ?_)⟩⟩⟩
  have hVs : ∀ v, sk_VL V0 (L + 1) (upd a15 L (nI i)) (upd a16 L 0) v → sk_VL V0 L a15 a16 v ∧ v (i + 1) = false := by
    intro v hv
    refine ⟨⟨hv.1, (sk_Cn_upd (Nat.le_refl L)).mp (fun j hj => hv.2 j (by omega))⟩, ?_⟩
    have := hv.2 L (by omega)
    rw [pk_us, pk_us, sk_nt_nI (by omega)] at this
    exact sk_bI_0 this
  refine sk_demand (V := sk_VL V0 (L + 1) (upd a15 L (nI i)) (upd a16 L 0)) (m0 := m) (t0 := t) (T0 := T) (q0 := mv) false hC ⟨⟨hT, fun v hv p hpC hpn => hO v (hVs v hv).1 p hpC hpn, fun z => absurd rfl z, sk_Ex_r C m t T⟩, Or.inl rfl⟩ (by omega) (fun v hv => ?_) (fun cl' mv' T' m' t' hF hm => ?_)
  · rw [sk_ev_2]
    exact (hVs v hv).2
  · obtain ⟨⟨f1, f2, f3, f4⟩, _⟩ := hF
    rw [show 2 * (i + 1) / 2 = i + 1 by omega] at hm
    refine hp cl' mv' T' m' t' (upd a14 L (nI T)) (upd a15 L (nI i)) (upd a16 L 0) ⟨by omega, f1, f2, f3, sk_LI_ex hC hLI2 hT f4, fun _ => ?_⟩ ?_
    · rw [show L + 1 - 1 = L by omega, pk_us, sk_nt_nI (by omega)]
      exact hm
    · show sk_N (upd a16 L 0) L + (if upd a16 L 0 L = 0 then 1 else 2 ^ (8 - L)) = sk_N a16 L + 1
      rw [sk_N_upd L (Nat.le_refl L), pk_us, if_pos rfl]
theorem sk_t43 {post : Int32 → St2 → Prop} {K : Nat} {M : Nat} (hC : C < 2560) (h0 : ∀ v, V0 v → v 0 = false) (hK : K < 8) (h16 : a16 K = 0) (hno : ∀ v, ¬ sk_VL V0 (K + 1) a15 a16 v) (hM : M + 1 ≤ sk_N a16 K + 2 ^ (8 - K))
    (hp : ∀ cl' mv' T' m' t' b16, sk_SI V0 C (K + 1) cl' T' m' t' a11 a14 a15 b16 → M + 1 ≤ sk_N b16 (K + 1) → post 1 (ct, pt, pn, (nI C), cl', mv', (nI T'), (nI (K+1)), fa, a1, a2, a3, a4, a5, a6, a7, a8, a9, a10, a11, m', t', a14, a15, b16, a17, a18)) :
    ∀ (n T : Nat) (m t : Nat → Int32), sk_TI C m t T → sk_LI V0 C (K + 1) m t T a11 a14 a15 a16 → T < sk_nt (a14 K) + n → wX_turn_43 post ct pt pn (nI C) cl mv (nI (K+1)) fa n (nI T) a1 a2 a3 a4 a5 a6 a7 a8 a9 a10 a11 m t a14 a15 a16 a17 a18 := by
  intro n
  induction n with
  | zero =>
    intro T m t hT hLI hn
    have := (hLI.1 K (by omega)).2.2.2.2.1
    omega
  | succ n ih =>
    intro T m t hT hLI hn
    obtain ⟨x1, x2, x3, x4, x5, x6⟩ := hLI.1 K (by omega)
    have hTC : T ≤ C := by have := hT.2.1; omega
    have eK : nI (K + 1) - 1 = nI K := nI_pred K
    refine ⟨by rw [eK]; exact pk_in K 9 (by omega), ?_⟩
    rw [eK, nI_clamp (show K < 2 ^ 31 by omega), x4]
    refine pk_le T (sk_nt (a14 K)) (fun z => ?_) (fun z => ?_)
    · have hTe : T = sk_nt (a14 K) := by omega
      rw [x1]
      have e2 : (2 : Int32) * (nI (sk_nt (a15 K)) + 1) = nI (2 * (sk_nt (a15 K) + 1)) := by rw [nI_1]; exact pk_mul 2 (sk_nt (a15 K) + 1)
      rw [e2]
      refine ⟨pk_in K 9 (by omega), nm_e ⟨pk_in K 9 (by omega), ?_⟩⟩
      have hVs : ∀ v, sk_VL V0 (K + 1) a15 (upd a16 K 1) v → V0 v ∧ sk_Cn K a15 a16 v ∧ v (sk_nt (a15 K) + 1) = true := by
        intro v hv
        refine ⟨hv.1, (sk_Cn_upd1 (Nat.le_refl K)).mp (fun j hj => hv.2 j (by omega)), ?_⟩
        have := hv.2 K (by omega)
        rw [pk_us] at this
        exact sk_bI_1 this
      have hO : sk_Ok (sk_VL V0 (K + 1) a15 (upd a16 K 1)) C m := by
        intro v hv p hpC hpn
        rcases Nat.eq_zero_or_pos p with y | y
        · rw [y, hT.1, h0 v hv.1]
          rfl
        · obtain ⟨j, j1, j2⟩ := hT.2.2.2.2 p y hpC hpn
          exact hLI.2.2.1 K (by omega) v hv.1 (hVs v hv).2.1 j p (by omega) j2 hpC
      have hLI2 : sk_LI V0 C (K + 1) m t T a11 a14 a15 (upd a16 K 1) := by
        obtain ⟨l1, l2, l3, l4, l5⟩ := hLI
        refine ⟨fun k hk => ?_, l2, fun k hk v v0 vc => l3 k hk v v0 ((sk_Cn_upd1 (by omega)).mp vc), fun k hk g16 v v0 vc => ?_, l5⟩
        · obtain ⟨w1, w2, w3, w4, w5, w6⟩ := l1 k hk
          refine ⟨w1, w2, w3, w4, w5, ?_⟩
          by_cases e : k = K
          · rw [e, pk_us]; exact Or.inr rfl
          · rw [pk_un e]; exact w6
        · have vc2 := (sk_Cn_upd1 (by omega)).mp vc
          by_cases e : k = K
          · subst e
            cases hb : v (sk_nt (a15 k) + 1) with
            | true => rfl
            | false =>
              refine absurd ⟨v0, fun j hj => ?_⟩ (hno v)
              by_cases e3 : j = k
              · rw [e3, hb, h16]; rfl
              · exact vc2 j (by omega)
          · rw [pk_un e] at g16
            exact l4 k hk g16 v v0 vc2
      refine sk_demand (V := sk_VL V0 (K + 1) a15 (upd a16 K 1)) (m0 := m) (t0 := t) (T0 := T) (q0 := mv) true hC ⟨⟨hT, hO, fun z => absurd rfl z, sk_Ex_r C m t T⟩, Or.inl rfl⟩ (by omega) (fun v hv => ?_) (fun cl' mv' T' m' t' hF hm => ?_)
      · rw [sk_ev_2]
        exact (hVs v hv).2.2
      · obtain ⟨⟨f1, f2, f3, f4⟩, _⟩ := hF
        rw [show 2 * (sk_nt (a15 K) + 1) / 2 = sk_nt (a15 K) + 1 by omega] at hm
        refine hp cl' mv' T' m' t' _ ⟨by omega, f1, f2, f3, sk_LI_ex hC hLI2 hT f4, fun _ => ?_⟩ ?_
        · rw [show K + 1 - 1 = K by omega]
          exact hm
        · show M + 1 ≤ sk_N (upd a16 K 1) K + (if upd a16 K 1 K = 0 then 1 else 2 ^ (8 - K))
          rw [sk_N_upd K (Nat.le_refl K), pk_us, if_neg (by decide)]
          exact hM
    · obtain ⟨U, rfl⟩ : ∃ U, T = U + 1 := ⟨T - 1, by omega⟩
      obtain ⟨p, p1, p2, p3, p4⟩ := sk_TI_pop hT hC
      refine nm_r (nI_pred U) ⟨pk_in U 2560 (by omega), ?_⟩
      rw [nI_clamp (show U < 2 ^ 31 by omega), p3, nI_clamp (show p < 2 ^ 31 by omega)]
      exact ⟨pk_in p 2560 (by omega), nm_e (ih U _ _ p4 (sk_LI_pop hLI hT p3 (by omega)) (by omega))⟩
theorem sk_turn {post : Int32 → St2 → Prop} {L T : Nat} {m t : Nat → Int32} (hC : C < 2560) (h0 : ∀ v, V0 v → v 0 = false) (hS : sk_SI V0 C L cl T m t a11 a14 a15 a16) (hcl : ¬ cl = 0)
    (hp0 : (∀ v, ¬ V0 v) → ∀ lv', post 0 (ct, pt, pn, (nI C), cl, mv, (nI T), lv', fa, a1, a2, a3, a4, a5, a6, a7, a8, a9, a10, a11, m, t, a14, a15, a16, a17, a18))
    (hp1 : ∀ cl' mv' T' L' m' t' b16, sk_SI V0 C L' cl' T' m' t' a11 a14 a15 b16 → sk_N a16 L + 1 ≤ sk_N b16 L' → post 1 (ct, pt, pn, (nI C), cl', mv', (nI T'), (nI L'), fa, a1, a2, a3, a4, a5, a6, a7, a8, a9, a10, a11, m', t', a14, a15, b16, a17, a18)) :
    wpX_turn post (ct, pt, pn, (nI C), cl, mv, (nI T), (nI L), fa, a1, a2, a3, a4, a5, a6, a7, a8, a9, a10, a11, m, t, a14, a15, a16, a17, a18) := by
  obtain ⟨hL, hT, hO, hc, hLI, htop⟩ := hS
  have hw : 2 ≤ 2 ^ (9 - L) := by
    rw [sk_pw hL]
    have : 1 ≤ 2 ^ (8 - L) := Nat.one_le_two_pow
    omega
  have E : ∀ K, K ≤ L → (∀ v, ¬ sk_VL V0 K a15 a16 v) → sk_N a16 L + 2 ^ (9 - L) ≤ sk_N a16 K + 2 ^ (9 - K) → (K = 0 ∨ a16 (K - 1) = 0) → wX_turn_34 post ct pt pn (nI C) cl mv (nI T) (nI K) fa a1 a2 a3 a4 a5 a6 a7 a8 a9 a10 a11 m t a14 a15 a16 a17 a18 := by
    intro K hK hno hN hz
    unfold wX_turn_34
    refine pk_eq K 0 (fun z => ?_) (fun z => ?_)
    · refine hp0 (fun v hv => hno v ⟨hv, ?_⟩) _
      rw [z]
      exact fun j hj => absurd hj (by omega)
    · obtain ⟨J, rfl⟩ : ∃ J, K = J + 1 := ⟨K - 1, by omega⟩
      have h16 : a16 J = 0 := by
        rcases hz with y | y
        · exact absurd y z
        · exact y
      have hNe : sk_N a16 (J + 1) = sk_N a16 J + 1 := by
        show sk_N a16 J + (if a16 J = 0 then 1 else 2 ^ (8 - J)) = _
        rw [if_pos h16]
      rw [show 9 - (J + 1) = 8 - J by omega, hNe] at hN
      refine ⟨T + 1, sk_t43 (M := sk_N a16 L) hC h0 (by omega) h16 hno (by omega) (fun cl' mv' T' m' t' b16 g1 g2 => hp1 cl' mv' T' (J + 1) m' t' b16 g1 g2) (T + 1) T m t hT (sk_LI_le hLI hK) (by omega)⟩
  have K : ∀ k, k ≤ L → (∀ v, ¬ sk_VL V0 k a15 a16 v) → sk_N a16 L + 2 ^ (9 - L) ≤ sk_N a16 k + 2 ^ (9 - k) → wX_turn_0 post ct pt pn (nI C) cl mv (nI T) fa a1 a2 a3 a4 a5 a6 a7 a8 a9 a10 a11 m t a14 a15 a16 a17 a18 (k + 1) (nI k) := by
    intro k
    induction k with
    | zero =>
      intro hk hno hN
      exact br_t (by decide) (E 0 hk hno hN (Or.inl rfl))
    | succ k ih =>
      intro hk hno hN
      have eK : nI (k + 1) - 1 = nI k := nI_pred k
      refine br_f (nI_nle (by omega) (by omega)) ⟨by rw [eK]; exact pk_in k 9 (by omega), ?_⟩
      rw [eK, nI_clamp (show k < 2 ^ 31 by omega)]
      refine br_c (fun d => E (k + 1) hk hno hN (Or.inr d)) (fun d => nm_e (ih (by omega) (fun v hv => ?_) ?_))
      · have d1 : a16 k = 1 := by
          rcases (hLI.1 k (by omega)).2.2.2.2.2 with y | y
          · exact absurd y d
          · exact y
        refine hno v ⟨hv.1, fun j hj => ?_⟩
        by_cases e : j = k
        · rw [e, hLI.2.2.2.1 k (by omega) d1 v hv.1 hv.2, d1]
          rfl
        · exact hv.2 j (by omega)
      · have hNe : sk_N a16 (k + 1) = sk_N a16 k + 2 ^ (8 - k) := by
          show sk_N a16 k + (if a16 k = 0 then 1 else 2 ^ (8 - k)) = _
          rw [if_neg d]
        rw [hNe, show 9 - (k + 1) = 8 - k by omega] at hN
        rw [sk_pw (show k ≤ 8 by omega)]
        omega
  exact ⟨L + 1, K L (Nat.le_refl L) (hc hcl) (Nat.le_refl _)⟩
theorem sk_s20 {post : Int32 → St2 → Prop} (hC : C < 2560) (hCP : C < P) (hg : sk_GW X P a3 a4) (hV : ∀ v, V0 v → sk_co P a3 a4 v)
    (hp0 : (∀ v, ¬ V0 v) → ∀ (lc' cl' mv' ts' lv' fa' : Int32) (b11 b12 b13 b14 b15 b16 : Nat → Int32), post 0 (ct, pt, pn, lc', cl', mv', ts', lv', fa', a1, a2, a3, a4, a5, a6, a7, a8, a9, a10, b11, b12, b13, b14, b15, b16, a17, a18)) (hp1 : ∀ (lc' cl' mv' ts' lv' fa' : Int32) (b11 b12 b13 b14 b15 b16 : Nat → Int32), post 1 (ct, pt, pn, lc', cl', mv', ts', lv', fa', a1, a2, a3, a4, a5, a6, a7, a8, a9, a10, b11, b12, b13, b14, b15, b16, a17, a18)) :
    ∀ (n rd L : Nat) (cl mv : Int32) (T : Nat) (m t a14 a15 a16 : Nat → Int32), sk_SI V0 C L cl T m t a11 a14 a15 a16 → rd ≤ sk_N a16 L → 1024 ≤ rd + n →
      wX_search_20 post n (nI rd) ct pt pn (nI C) cl mv (nI T) (nI L) fa a1 a2 a3 a4 a5 a6 a7 a8 a9 a10 a11 m t a14 a15 a16 a17 a18 := by
  have h0 : ∀ v, V0 v → v 0 = false := fun v h => (hV v h).1
  intro n
  induction n with
  | zero =>
    intro rd L cl mv T m t a14 a15 a16 hS hr hn
    have := sk_N_512 (a16 := a16) hS.1
    omega
  | succ n ih =>
    intro rd L cl mv T m t a14 a15 a16 hS hr hn
    have hN := sk_N_512 (a16 := a16) hS.1
    refine pk_le 1024 rd (fun z => absurd z (by omega)) (fun _ => ?_)
    have K : ∀ (cl mv : Int32) (T : Nat) (m t : Nat → Int32), sk_SI V0 C L cl T m t a11 a14 a15 a16 → wX_search_38 post (wX_search_20 post n) (nI rd) ct pt pn (nI C) cl mv (nI T) (nI L) fa a1 a2 a3 a4 a5 a6 a7 a8 a9 a10 a11 m t a14 a15 a16 a17 a18 := by
      intro cl mv T m t hS
      unfold wX_search_38
      refine br_c (fun c => ?_) (fun c => ?_)
      · subst c
        refine sk_openInput hC ?_ ?_
        · exact br_f (by decide) (sk_take (fun fa' => hp1 _ _ _ _ _ _ _ _ _ _ _ _))
        · intro i hi hiC h11 ho hj
          refine br_t (nI_pos' (by omega)) ?_
          refine sk_decide hC hS hi hiC h11 ho hj (fun cl' mv' T' m' t' b14 b15 b16 g1 g2 => ?_)
          exact nm_r (nI_1 rd) (ih (rd + 1) (L + 1) cl' mv' T' m' t' b14 b15 b16 g1 (by omega) (by omega))
      · refine sk_turn hC h0 hS c (fun hno lv' => ?_) (fun cl' mv' T' L' m' t' b16 g1 g2 => ?_)
        · exact br_t rfl (hp0 hno _ _ _ _ _ _ _ _ _ _ _ _)
        · exact br_f (by decide) (nm_r (nI_1 rd) (ih (rd + 1) L' cl' mv' T' m' t' a14 a15 b16 g1 (by omega) (by omega)))
    refine br_c (fun c => ?_) (fun c => K _ _ T _ _ hS)
    obtain ⟨s1, s2, s3, s4, s5, s6⟩ := hS
    refine sk_followAll (V := sk_VL V0 L a15 a16) (m0 := m) (t0 := t) (T0 := T) hC hCP hg (fun v h => hV v h.1) ⟨s2, s3, s4, sk_Ex_r C m t T⟩ (fun cl' mv' T' m' t' hF => ?_)
    obtain ⟨f1, f2, f3, f4⟩ := hF
    refine K cl' mv' T' m' t' ⟨s1, f1, f2, f3, sk_LI_ex hC s5 s2 f4, fun hL => ?_⟩
    have hx := (s5.1 (L - 1) (by omega)).2.2.1
    rw [f4.2.2 _ hx (s6 hL)]
    exact s6 hL
theorem sk_search {post : Int32 → St2 → Prop} {e1 e2 : Nat} (hg : sk_GW X P a3 a4) (hP : P ≤ 2560) (h1 : e1 / 2 < P) (h2 : e2 / 2 < P)
    (hp0 : (∀ v, sk_co P a3 a4 v → ¬ (sk_ev v e1 = true ∧ sk_ev v e2 = true)) → ∀ (lc' cl' mv' ts' lv' fa' : Int32) (b11 b12 b13 b14 b15 b16 : Nat → Int32), post 0 (ct, pt, pn, lc', cl', mv', ts', lv', fa', a1, a2, a3, a4, a5, a6, a7, a8, a9, a10, b11, b12, b13, b14, b15, b16, a17, a18)) (hp1 : ∀ (lc' cl' mv' ts' lv' fa' : Int32) (b11 b12 b13 b14 b15 b16 : Nat → Int32), post 1 (ct, pt, pn, lc', cl', mv', ts', lv', fa', a1, a2, a3, a4, a5, a6, a7, a8, a9, a10, b11, b12, b13, b14, b15, b16, a17, a18)) :
    wpX_search post (ct, pt, pn, lc, cl, mv, ts, lv, fa, a1, a2, a3, a4, a5, a6, a7, a8, a9, a10, a11, a12, a13, a14, a15, a16, a17, a18) (nI e1) (nI e2) := by
  unfold wpX_search
  dsimp only
  refine sk_concern hg hP h1 h2 (fun C b11 b12 c1 c2 c3 _ _ _ _ z0 z1 => ?_)
  have hTI : sk_TI C b12 a13 0 := by
    refine ⟨z0, ?_, fun j hj => absurd hj (by omega), fun j k _ hk => absurd hk (by omega), fun p p1 p2 hn => absurd (z1 p p1 p2) hn⟩
    rw [sk_op_all C z1]
    omega
  have hC : C < 2560 := by omega
  dsimp only
  refine sk_demand (V := fun v => sk_co P a3 a4 v ∧ sk_ev v e1 = true ∧ sk_ev v e2 = true) (m0 := b12) (t0 := a13) (T0 := 0) (q0 := mv) true hC ⟨⟨hTI, fun v hv p hpC hn => ?_, fun z => absurd rfl z, sk_Ex_r C b12 a13 0⟩, Or.inl rfl⟩ c1 (fun v hv => hv.2.1) (fun cl' mv' T' m' t' hF _ => ?_)
  · rcases Nat.eq_zero_or_pos p with y | y
    · rw [y, z0, hv.1.1]
      rfl
    · exact absurd (z1 p y hpC) hn
  refine sk_demand true hC hF c2 (fun v hv => hv.2.2) (fun cl' mv' T' m' t' hF _ => ?_)
  obtain ⟨⟨f1, f2, f3, f4⟩, _⟩ := hF
  refine ⟨1024, sk_s20 (V0 := fun v => sk_co P a3 a4 v ∧ sk_ev v e1 = true ∧ sk_ev v e2 = true) hC c3 hg (fun v hv => hv.1) (fun hno => hp0 (fun v hv hw => hno v ⟨hv, hw⟩)) hp1 1024 0 0 cl' mv' T' m' t' a14 a15 a16 ?_ (Nat.zero_le _) (Nat.le_refl _)⟩
  refine ⟨by omega, f1, fun v hv => f2 v hv.1, fun z v hv => f3 z v hv.1, ?_, fun z => absurd z (by omega)⟩
  exact ⟨fun k hk => absurd hk (by omega), fun j k _ hk => absurd hk (by omega), fun k hk => absurd hk (by omega), fun k hk => absurd hk (by omega), fun k hk => absurd hk (by omega)⟩
end
end
section
theorem sk_q_wpX_enterLook_2 : @wpX_enterLook_2 = @wpX_enterLook := rfl
theorem sk_q_wX_lookAgain_2_97 : @wX_lookAgain_2_97 = @wX_lookAgain_97 := by
  funext post J24 x1 f0_count f0_parts f0_patternNext f0_lastConcerned f0_clash f0_moved f0_trailSize f0_level f0_foundAssignment a1 a2 a3 a4 a5 a6 a7 a8 a9 a10 a11 a12 a13 a14 a15 a16 a17 a18
  unfold wX_lookAgain_2_97 wX_lookAgain_97
  rw [sk_q_wpX_enterLook_2]
theorem sk_q_wX_lookAgain_2_24 : @wX_lookAgain_2_24 = @wX_lookAgain_24 := by
  funext post n
  induction n with
  | zero => rfl
  | succ n ih => rw [wX_lookAgain_2_24, wX_lookAgain_24, ih, sk_q_wX_lookAgain_2_97]
theorem sk_q_wX_lookAgain_2_2 : @wX_lookAgain_2_2 = @wX_lookAgain_2 := by
  funext post f0_count f0_parts f0_patternNext f0_lastConcerned f0_clash f0_moved f0_trailSize f0_level f0_foundAssignment n
  induction n with
  | zero => rfl
  | succ n ih => rw [wX_lookAgain_2_2, wX_lookAgain_2, ih, sk_q_wX_lookAgain_2_24]
theorem sk_q_wpX_lookAgain_2 : @wpX_lookAgain_2 = @wpX_lookAgain := by
  funext post u
  unfold wpX_lookAgain_2 wpX_lookAgain
  rw [sk_q_wX_lookAgain_2_2]
theorem sk_q_wX_concern_2_82 : @wX_concern_2_82 = @wX_concern_82 := by
  funext post f0_count f0_parts f0_patternNext f0_lastConcerned f0_clash f0_moved f0_trailSize f0_level f0_foundAssignment n
  induction n with
  | zero => rfl
  | succ n ih => rw [wX_concern_2_82, wX_concern_82, ih]
theorem sk_q_wX_concern_2_56 : @wX_concern_2_56 = @wX_concern_56 := rfl
theorem sk_q_wX_concern_2_51 : @wX_concern_2_51 = @wX_concern_51 := by
  funext post J24 x1 x2 x3 z0 f0_count f0_parts f0_patternNext f0_lastConcerned f0_clash f0_moved f0_trailSize f0_level f0_foundAssignment a1 a2 a3 a4 a5 a6 a7 a8 a9 a10 a11 a12 a13 a14 a15 a16 a17 a18
  unfold wX_concern_2_51 wX_concern_51
  rw [sk_q_wX_concern_2_56]
theorem sk_q_wX_concern_2_24 : @wX_concern_2_24 = @wX_concern_24 := by
  funext post x1 x2 f0_count f0_parts f0_patternNext f0_lastConcerned f0_clash f0_moved f0_trailSize f0_level f0_foundAssignment n
  induction n with
  | zero => rfl
  | succ n ih => rw [wX_concern_2_24, wX_concern_24, ih, sk_q_wX_concern_2_82, sk_q_wX_concern_2_51, sk_q_wX_concern_2_56]
theorem sk_q_wpX_concern_2 : @wpX_concern_2 = @wpX_concern := by
  funext post u p0 p1
  unfold wpX_concern_2 wpX_concern
  rw [sk_q_wX_concern_2_24]
theorem sk_q_wpX_enterLook_3 : @wpX_enterLook_3 = @wpX_enterLook := rfl
theorem sk_q_wpX_addPart_2 : @wpX_addPart_2 = @wpX_addPart := by
  funext post u p0 p1
  unfold wpX_addPart_2 wpX_addPart
  rw [sk_q_wpX_enterLook_3, sk_q_wpX_enterLook_2]
theorem sk_q_wX_lookAgain_3_97 : @wX_lookAgain_3_97 = @wX_lookAgain_97 := by
  funext post J24 x1 f0_count f0_parts f0_patternNext f0_lastConcerned f0_clash f0_moved f0_trailSize f0_level f0_foundAssignment a1 a2 a3 a4 a5 a6 a7 a8 a9 a10 a11 a12 a13 a14 a15 a16 a17 a18
  unfold wX_lookAgain_3_97 wX_lookAgain_97
  rw [sk_q_wpX_enterLook_3]
theorem sk_q_wX_lookAgain_3_24 : @wX_lookAgain_3_24 = @wX_lookAgain_24 := by
  funext post n
  induction n with
  | zero => rfl
  | succ n ih => rw [wX_lookAgain_3_24, wX_lookAgain_24, ih, sk_q_wX_lookAgain_3_97]
theorem sk_q_wX_lookAgain_3_2 : @wX_lookAgain_3_2 = @wX_lookAgain_2 := by
  funext post f0_count f0_parts f0_patternNext f0_lastConcerned f0_clash f0_moved f0_trailSize f0_level f0_foundAssignment n
  induction n with
  | zero => rfl
  | succ n ih => rw [wX_lookAgain_3_2, wX_lookAgain_2, ih, sk_q_wX_lookAgain_3_24]
theorem sk_q_wpX_lookAgain_3 : @wpX_lookAgain_3 = @wpX_lookAgain := by
  funext post u
  unfold wpX_lookAgain_3 wpX_lookAgain
  rw [sk_q_wX_lookAgain_3_2]
theorem sk_q_wpX_learn_2 : @wpX_learn_2 = @wpX_learn := by
  funext post u p0
  unfold wpX_learn_2 wpX_learn
  rw [sk_q_wpX_lookAgain_3, sk_q_wpX_lookAgain_2]
theorem sk_q_wX_concern_3_82 : @wX_concern_3_82 = @wX_concern_82 := by
  funext post f0_count f0_parts f0_patternNext f0_lastConcerned f0_clash f0_moved f0_trailSize f0_level f0_foundAssignment n
  induction n with
  | zero => rfl
  | succ n ih => rw [wX_concern_3_82, wX_concern_82, ih]
theorem sk_q_wX_concern_3_56 : @wX_concern_3_56 = @wX_concern_56 := rfl
theorem sk_q_wX_concern_3_51 : @wX_concern_3_51 = @wX_concern_51 := by
  funext post J24 x1 x2 x3 z0 f0_count f0_parts f0_patternNext f0_lastConcerned f0_clash f0_moved f0_trailSize f0_level f0_foundAssignment a1 a2 a3 a4 a5 a6 a7 a8 a9 a10 a11 a12 a13 a14 a15 a16 a17 a18
  unfold wX_concern_3_51 wX_concern_51
  rw [sk_q_wX_concern_3_56]
theorem sk_q_wX_concern_3_24 : @wX_concern_3_24 = @wX_concern_24 := by
  funext post x1 x2 f0_count f0_parts f0_patternNext f0_lastConcerned f0_clash f0_moved f0_trailSize f0_level f0_foundAssignment n
  induction n with
  | zero => rfl
  | succ n ih => rw [wX_concern_3_24, wX_concern_24, ih, sk_q_wX_concern_3_82, sk_q_wX_concern_3_51, sk_q_wX_concern_3_56]
theorem sk_q_wpX_concern_3 : @wpX_concern_3 = @wpX_concern := by
  funext post u p0 p1
  unfold wpX_concern_3 wpX_concern
  rw [sk_q_wX_concern_3_24]
theorem sk_q_wpX_demand_2 : @wpX_demand_2 = @wpX_demand := rfl
theorem sk_q_wpX_decide_2 : @wpX_decide_2 = @wpX_decide := by
  funext post u p0
  unfold wpX_decide_2 wpX_decide
  rw [sk_q_wpX_demand_2]
theorem sk_q_wX_takeAssignment_2_51 : @wX_takeAssignment_2_51 = @wX_takeAssignment_51 := rfl
theorem sk_q_wX_takeAssignment_2_50 : @wX_takeAssignment_2_50 = @wX_takeAssignment_50 := by
  funext post J7 x1 f0_count f0_parts f0_patternNext f0_lastConcerned f0_clash f0_moved f0_trailSize f0_level f0_foundAssignment a1 a2 a3 a4 a5 a6 a7 a8 a9 a10 a11 a12 a13 a14 a15 a16 a17 a18
  unfold wX_takeAssignment_2_50 wX_takeAssignment_50
  rw [sk_q_wX_takeAssignment_2_51]
theorem sk_q_wX_takeAssignment_2_7 : @wX_takeAssignment_2_7 = @wX_takeAssignment_7 := by
  funext post f0_count f0_parts f0_patternNext f0_lastConcerned f0_clash f0_moved f0_trailSize f0_level a1 a2 a3 a4 a5 a6 a7 a8 a9 a10 a11 a12 a13 a14 a15 a16 a17 a18 n
  induction n with
  | zero => rfl
  | succ n ih => rw [wX_takeAssignment_2_7, wX_takeAssignment_7, ih, sk_q_wX_takeAssignment_2_50, sk_q_wX_takeAssignment_2_51]
theorem sk_q_wpX_takeAssignment_2 : @wpX_takeAssignment_2 = @wpX_takeAssignment := by
  funext post u
  unfold wpX_takeAssignment_2 wpX_takeAssignment
  rw [sk_q_wX_takeAssignment_2_7]
theorem sk_q_wX_turn_2_43 : @wX_turn_2_43 = @wX_turn_43 := by
  funext post f0_count f0_parts f0_patternNext f0_lastConcerned f0_clash f0_moved f0_level f0_foundAssignment n
  induction n with
  | zero => rfl
  | succ n ih => rw [wX_turn_2_43, wX_turn_43, ih, sk_q_wpX_demand_2]
theorem sk_q_wX_turn_2_34 : @wX_turn_2_34 = @wX_turn_34 := by
  funext post f0_count f0_parts f0_patternNext f0_lastConcerned f0_clash f0_moved f0_trailSize f0_level f0_foundAssignment a1 a2 a3 a4 a5 a6 a7 a8 a9 a10 a11 a12 a13 a14 a15 a16 a17 a18
  unfold wX_turn_2_34 wX_turn_34
  rw [sk_q_wX_turn_2_43]
theorem sk_q_wX_turn_2_0 : @wX_turn_2_0 = @wX_turn_0 := by
  funext post f0_count f0_parts f0_patternNext f0_lastConcerned f0_clash f0_moved f0_trailSize f0_foundAssignment a1 a2 a3 a4 a5 a6 a7 a8 a9 a10 a11 a12 a13 a14 a15 a16 a17 a18 n
  induction n with
  | zero => rfl
  | succ n ih => rw [wX_turn_2_0, wX_turn_0, ih, sk_q_wX_turn_2_34]
theorem sk_q_wpX_turn_2 : @wpX_turn_2 = @wpX_turn := by
  funext post u
  unfold wpX_turn_2 wpX_turn
  rw [sk_q_wX_turn_2_0]
theorem sk_q_wX_follow_2_122 : @wX_follow_2_122 = @wX_follow_122 := by
  funext post x1 x3 x4 f0_count f0_parts f0_patternNext f0_lastConcerned f0_clash f0_moved f0_trailSize f0_level f0_foundAssignment am431 am432 am433 am434 am435 am436 am437 am438 am439 am4310 am4311 am4312 am4313 am4314 am4315 am4316 a17 am4318
  unfold wX_follow_2_122 wX_follow_122
  rw [sk_q_wpX_demand_2]
theorem sk_q_wX_follow_2_67 : @wX_follow_2_67 = @wX_follow_67 := by
  funext post x1 x2 x3 x4 f0_count f0_parts f0_patternNext f0_lastConcerned f0_clash f0_moved f0_trailSize f0_level f0_foundAssignment am431 am432 am433 am434 am435 am436 am437 am438 am439 am4310 am4311 am4312 am4313 am4314 am4315 am4316 a17 am4318
  unfold wX_follow_2_67 wX_follow_67
  rw [sk_q_wpX_demand_2, sk_q_wX_follow_2_122]
theorem sk_q_wX_follow_2_38 : @wX_follow_2_38 = @wX_follow_38 := by
  funext post x1 x2 x3 x4 f0_count f0_parts f0_patternNext f0_lastConcerned f0_clash f0_moved f0_trailSize f0_level f0_foundAssignment a1 a2 a3 a4 a5 a6 a7 a8 a9 a10 a11 a12 a13 a14 a15 a16 a17 a18
  unfold wX_follow_2_38 wX_follow_38
  rw [sk_q_wpX_demand_2, sk_q_wX_follow_2_67]
theorem sk_q_wpX_follow_2 : @wpX_follow_2 = @wpX_follow := by
  funext post u p0
  unfold wpX_follow_2 wpX_follow
  rw [sk_q_wX_follow_2_38, sk_q_wpX_demand_2, sk_q_wX_follow_2_67]
theorem sk_q_wX_followAll_2_65 : @wX_followAll_2_65 = @wX_followAll_65 := by
  funext post J5 n
  induction n with
  | zero => rfl
  | succ n ih => rw [wX_followAll_2_65, wX_followAll_65, ih, sk_q_wpX_follow_2]
theorem sk_q_wX_followAll_2_29 : @wX_followAll_2_29 = @wX_followAll_29 := by
  funext post J5 n
  induction n with
  | zero => rfl
  | succ n ih => rw [wX_followAll_2_29, wX_followAll_29, ih, sk_q_wX_followAll_2_65, sk_q_wpX_follow_2]
theorem sk_q_wX_followAll_2_5 : @wX_followAll_2_5 = @wX_followAll_5 := by
  funext post n
  induction n with
  | zero => rfl
  | succ n ih => rw [wX_followAll_2_5, wX_followAll_5, ih, sk_q_wX_followAll_2_29]
theorem sk_q_wpX_followAll_2 : @wpX_followAll_2 = @wpX_followAll := by
  funext post u
  unfold wpX_followAll_2 wpX_followAll
  rw [sk_q_wX_followAll_2_5]
theorem sk_q_wX_search_2_38 : @wX_search_2_38 = @wX_search_38 := by
  funext post J20 x3 f0_count f0_parts f0_patternNext f0_lastConcerned f0_clash f0_moved f0_trailSize f0_level f0_foundAssignment am151 am152 am153 am154 am155 am156 am157 am158 am159 am1510 am1511 am1512 am1513 am1514 am1515 am1516 a17 am1518
  unfold wX_search_2_38 wX_search_38
  rw [sk_q_wpX_decide_2, sk_q_wpX_takeAssignment_2, sk_q_wpX_turn_2]
theorem sk_q_wX_search_2_20 : @wX_search_2_20 = @wX_search_20 := by
  funext post n
  induction n with
  | zero => rfl
  | succ n ih => rw [wX_search_2_20, wX_search_20, ih, sk_q_wpX_followAll_2, sk_q_wX_search_2_38]
theorem sk_q_wpX_search_2 : @wpX_search_2 = @wpX_search := by
  funext post u p0 p1
  unfold wpX_search_2 wpX_search
  rw [sk_q_wpX_concern_3, sk_q_wpX_demand_2, sk_q_wX_search_2_20]
theorem sk_q_wX_sweep_2_114 : @wX_sweep_2_114 = @wX_sweep_114 := rfl
theorem sk_q_wX_sweep_2_80 : @wX_sweep_2_80 = @wX_sweep_80 := by
  funext post J28 x1 x2 x6 z0 z1 f0_count f0_parts f0_patternNext f0_lastConcerned f0_clash f0_moved f0_trailSize f0_level f0_foundAssignment a1 a2 a3 a4 a5 a6 a7 a8 a9 a10 a11 a12 a13 a14 a15 a16 a17 a18
  unfold wX_sweep_2_80 wX_sweep_80
  rw [sk_q_wpX_search_2, sk_q_wX_sweep_2_114]
theorem sk_q_wX_sweep_2_28 : @wX_sweep_2_28 = @wX_sweep_28 := by
  funext post x1 x2 n
  induction n with
  | zero => rfl
  | succ n ih => rw [wX_sweep_2_28, wX_sweep_28, ih, sk_q_wpX_learn_2, sk_q_wX_sweep_2_80]
theorem sk_q_wpX_sweep_2 : @wpX_sweep_2 = @wpX_sweep := by
  funext post u p0
  unfold wpX_sweep_2 wpX_sweep
  rw [sk_q_wX_sweep_2_28]
theorem sk_q_wX_backTo_2_0 : @wX_backTo_2_0 = @wX_backTo_0 := by
  funext post x1 f0_count f0_patternNext f0_lastConcerned f0_clash f0_moved f0_trailSize f0_level f0_foundAssignment n
  induction n with
  | zero => rfl
  | succ n ih => rw [wX_backTo_2_0, wX_backTo_0, ih]
theorem sk_q_wpX_backTo_2 : @wpX_backTo_2 = @wpX_backTo := by
  funext post u p0
  unfold wpX_backTo_2 wpX_backTo
  rw [sk_q_wX_backTo_2_0]
theorem sk_q_wX_and_2_47 : @wX_and_2_47 = @wX_and_47 := by
  funext post x3 x4 x5 f0_count f0_parts f0_patternNext f0_lastConcerned f0_clash f0_moved f0_trailSize f0_level f0_foundAssignment a1 a2 a3 a4 a5 a6 a7 a8 a9 a10 a11 a12 a13 a14 a15 a16 a17 a18
  unfold wX_and_2_47 wX_and_47
  rw [sk_q_wpX_addPart_2, sk_q_wpX_sweep_2, sk_q_wpX_backTo_2]
theorem sk_q_wX_and_2_21 : @wX_and_2_21 = @wX_and_21 := by
  funext post x3 z0 f0_count f0_parts f0_patternNext f0_lastConcerned f0_clash f0_moved f0_trailSize f0_level f0_foundAssignment a1 a2 a3 a4 a5 a6 a7 a8 a9 a10 a11 a12 a13 a14 a15 a16 a17 a18
  unfold wX_and_2_21 wX_and_21
  rw [sk_q_wX_and_2_47]
theorem sk_q_wX_and_2_10 : @wX_and_2_10 = @wX_and_10 := by
  funext post x1 x2 z0 f0_count f0_parts f0_patternNext f0_lastConcerned f0_clash f0_moved f0_trailSize f0_level f0_foundAssignment a1 a2 a3 a4 a5 a6 a7 a8 a9 a10 a11 a12 a13 a14 a15 a16 a17 a18
  unfold wX_and_2_10 wX_and_10
  rw [sk_q_wX_and_2_21]
theorem sk_q_wpX_and_2 : @wpX_and_2 = @wpX_and := by
  funext post u p0 p1
  unfold wpX_and_2 wpX_and
  rw [sk_q_wX_and_2_10]
theorem sk_q_wpX_demand_3 : @wpX_demand_3 = @wpX_demand := rfl
theorem sk_q_wpX_decide_3 : @wpX_decide_3 = @wpX_decide := by
  funext post u p0
  unfold wpX_decide_3 wpX_decide
  rw [sk_q_wpX_demand_3]
theorem sk_q_wX_takeAssignment_3_51 : @wX_takeAssignment_3_51 = @wX_takeAssignment_51 := rfl
theorem sk_q_wX_takeAssignment_3_50 : @wX_takeAssignment_3_50 = @wX_takeAssignment_50 := by
  funext post J7 x1 f0_count f0_parts f0_patternNext f0_lastConcerned f0_clash f0_moved f0_trailSize f0_level f0_foundAssignment a1 a2 a3 a4 a5 a6 a7 a8 a9 a10 a11 a12 a13 a14 a15 a16 a17 a18
  unfold wX_takeAssignment_3_50 wX_takeAssignment_50
  rw [sk_q_wX_takeAssignment_3_51]
theorem sk_q_wX_takeAssignment_3_7 : @wX_takeAssignment_3_7 = @wX_takeAssignment_7 := by
  funext post f0_count f0_parts f0_patternNext f0_lastConcerned f0_clash f0_moved f0_trailSize f0_level a1 a2 a3 a4 a5 a6 a7 a8 a9 a10 a11 a12 a13 a14 a15 a16 a17 a18 n
  induction n with
  | zero => rfl
  | succ n ih => rw [wX_takeAssignment_3_7, wX_takeAssignment_7, ih, sk_q_wX_takeAssignment_3_50, sk_q_wX_takeAssignment_3_51]
theorem sk_q_wpX_takeAssignment_3 : @wpX_takeAssignment_3 = @wpX_takeAssignment := by
  funext post u
  unfold wpX_takeAssignment_3 wpX_takeAssignment
  rw [sk_q_wX_takeAssignment_3_7]
theorem sk_q_wX_turn_3_43 : @wX_turn_3_43 = @wX_turn_43 := by
  funext post f0_count f0_parts f0_patternNext f0_lastConcerned f0_clash f0_moved f0_level f0_foundAssignment n
  induction n with
  | zero => rfl
  | succ n ih => rw [wX_turn_3_43, wX_turn_43, ih, sk_q_wpX_demand_3]
theorem sk_q_wX_turn_3_34 : @wX_turn_3_34 = @wX_turn_34 := by
  funext post f0_count f0_parts f0_patternNext f0_lastConcerned f0_clash f0_moved f0_trailSize f0_level f0_foundAssignment a1 a2 a3 a4 a5 a6 a7 a8 a9 a10 a11 a12 a13 a14 a15 a16 a17 a18
  unfold wX_turn_3_34 wX_turn_34
  rw [sk_q_wX_turn_3_43]
theorem sk_q_wX_turn_3_0 : @wX_turn_3_0 = @wX_turn_0 := by
  funext post f0_count f0_parts f0_patternNext f0_lastConcerned f0_clash f0_moved f0_trailSize f0_foundAssignment a1 a2 a3 a4 a5 a6 a7 a8 a9 a10 a11 a12 a13 a14 a15 a16 a17 a18 n
  induction n with
  | zero => rfl
  | succ n ih => rw [wX_turn_3_0, wX_turn_0, ih, sk_q_wX_turn_3_34]
theorem sk_q_wpX_turn_3 : @wpX_turn_3 = @wpX_turn := by
  funext post u
  unfold wpX_turn_3 wpX_turn
  rw [sk_q_wX_turn_3_0]
theorem sk_q_wX_follow_3_122 : @wX_follow_3_122 = @wX_follow_122 := by
  funext post x1 x3 x4 f0_count f0_parts f0_patternNext f0_lastConcerned f0_clash f0_moved f0_trailSize f0_level f0_foundAssignment am431 am432 am433 am434 am435 am436 am437 am438 am439 am4310 am4311 am4312 am4313 am4314 am4315 am4316 am4317 am4318
  unfold wX_follow_3_122 wX_follow_122
  rw [sk_q_wpX_demand_3]
theorem sk_q_wX_follow_3_67 : @wX_follow_3_67 = @wX_follow_67 := by
  funext post x1 x2 x3 x4 f0_count f0_parts f0_patternNext f0_lastConcerned f0_clash f0_moved f0_trailSize f0_level f0_foundAssignment am431 am432 am433 am434 am435 am436 am437 am438 am439 am4310 am4311 am4312 am4313 am4314 am4315 am4316 am4317 am4318
  unfold wX_follow_3_67 wX_follow_67
  rw [sk_q_wpX_demand_3, sk_q_wX_follow_3_122]
theorem sk_q_wX_follow_3_38 : @wX_follow_3_38 = @wX_follow_38 := by
  funext post x1 x2 x3 x4 f0_count f0_parts f0_patternNext f0_lastConcerned f0_clash f0_moved f0_trailSize f0_level f0_foundAssignment a1 a2 a3 a4 a5 a6 a7 a8 a9 a10 a11 a12 a13 a14 a15 a16 a17 a18
  unfold wX_follow_3_38 wX_follow_38
  rw [sk_q_wpX_demand_3, sk_q_wX_follow_3_67]
theorem sk_q_wpX_follow_3 : @wpX_follow_3 = @wpX_follow := by
  funext post u p0
  unfold wpX_follow_3 wpX_follow
  rw [sk_q_wX_follow_3_38, sk_q_wpX_demand_3, sk_q_wX_follow_3_67]
theorem sk_q_wX_followAll_3_65 : @wX_followAll_3_65 = @wX_followAll_65 := by
  funext post J5 n
  induction n with
  | zero => rfl
  | succ n ih => rw [wX_followAll_3_65, wX_followAll_65, ih, sk_q_wpX_follow_3]
theorem sk_q_wX_followAll_3_29 : @wX_followAll_3_29 = @wX_followAll_29 := by
  funext post J5 n
  induction n with
  | zero => rfl
  | succ n ih => rw [wX_followAll_3_29, wX_followAll_29, ih, sk_q_wX_followAll_3_65, sk_q_wpX_follow_3]
theorem sk_q_wX_followAll_3_5 : @wX_followAll_3_5 = @wX_followAll_5 := by
  funext post n
  induction n with
  | zero => rfl
  | succ n ih => rw [wX_followAll_3_5, wX_followAll_5, ih, sk_q_wX_followAll_3_29]
theorem sk_q_wpX_followAll_3 : @wpX_followAll_3 = @wpX_followAll := by
  funext post u
  unfold wpX_followAll_3 wpX_followAll
  rw [sk_q_wX_followAll_3_5]
theorem sk_q_wX_search_3_38 : @wX_search_3_38 = @wX_search_38 := by
  funext post J20 x3 f0_count f0_parts f0_patternNext f0_lastConcerned f0_clash f0_moved f0_trailSize f0_level f0_foundAssignment am151 am152 am153 am154 am155 am156 am157 am158 am159 am1510 am1511 am1512 am1513 am1514 am1515 am1516 am1517 am1518
  unfold wX_search_3_38 wX_search_38
  rw [sk_q_wpX_decide_3, sk_q_wpX_takeAssignment_3, sk_q_wpX_turn_3]
theorem sk_q_wX_search_3_20 : @wX_search_3_20 = @wX_search_20 := by
  funext post n
  induction n with
  | zero => rfl
  | succ n ih => rw [wX_search_3_20, wX_search_20, ih, sk_q_wpX_followAll_3, sk_q_wX_search_3_38]
theorem sk_q_wpX_search_3 : @wpX_search_3 = @wpX_search := by
  funext post u p0 p1
  unfold wpX_search_3 wpX_search
  rw [sk_q_wpX_concern_2, sk_q_wpX_demand_3, sk_q_wX_search_3_20]
theorem sk_q_wX_backTo_3_0 : @wX_backTo_3_0 = @wX_backTo_0 := by
  funext post x1 f0_count f0_patternNext f0_lastConcerned f0_clash f0_moved f0_trailSize f0_level f0_foundAssignment n
  induction n with
  | zero => rfl
  | succ n ih => rw [wX_backTo_3_0, wX_backTo_0, ih]
theorem sk_q_wpX_backTo_3 : @wpX_backTo_3 = @wpX_backTo := by
  funext post u p0
  unfold wpX_backTo_3 wpX_backTo
  rw [sk_q_wX_backTo_3_0]
end
section
def sk_nL (x : Int64) : Int64 := if (x &&& 1) = 0 then x else x ^^^ (-1)
theorem sk_neutral {post : Int64 → Prop} {u : St0} {x : Int64} (hp : post (sk_nL x)) : wpX_neutral post u x := by
  unfold wpX_neutral
  unfold sk_nL at hp
  refine br_c (fun c => ?_) (fun c => ?_)
  · rw [if_pos c] at hp
    exact hp
  · rw [if_neg c] at hp
    exact hp
theorem sk_m10 (y : Int64) : ∃ k, k < 1024 ∧ (y &&& 1023).toInt32 = nI k := by
  refine ⟨y.toBitVec.toNat % 1024, Nat.mod_lt _ (by decide), ?_⟩
  have e : y &&& 1023 = lN (y.toBitVec.toNat % 1024) := by
    apply Int64.toBitVec_inj.mp
    apply BitVec.eq_of_toNat_eq
    rw [Int64.toBitVec_and, BitVec.toNat_and, show (1023 : Int64).toBitVec.toNat = 2 ^ 10 - 1 from by decide, Nat.and_two_pow_sub_one_eq_mod]
    show _ = (BitVec.ofNat 64 _).toNat
    rw [BitVec.toNat_ofNat]
    omega
  rw [e, lN_i]
theorem sk_mark (x : Int64) : ∃ k, k < 1024 ∧ ∀ (post : Int32 → Prop) (u : St0), post (nI k) → wpX_markOfLook post u x := by
  obtain ⟨k, hk, e⟩ := sk_m10 ((sk_nL x ^^^ ((sk_nL x).toUInt64 >>> ((17 : Int32).toInt64.toUInt64 &&& Int64.toUInt64 63)).toInt64) ^^^ ((sk_nL x).toUInt64 >>> ((41 : Int32).toInt64.toUInt64 &&& Int64.toUInt64 63)).toInt64)
  refine ⟨k, hk, fun post u hp => ?_⟩
  unfold wpX_markOfLook
  refine sk_neutral (nm_e ?_)
  rw [e]
  exact hp
/-- the mark of a look -/
noncomputable def sk_mL (x : Int64) : Nat := Classical.choose (sk_mark x)
theorem sk_mL_lt (x : Int64) : sk_mL x < 1024 := (Classical.choose_spec (sk_mark x)).1
theorem sk_mL_wp {x : Int64} {post : Int32 → Prop} {u : St0} (h : post (nI (sk_mL x))) : wpX_markOfLook post u x := (Classical.choose_spec (sk_mark x)).2 post u h
/-- the chains of parts that look alike go down -/
def sk_LK (P : Nat) (a8 : Nat → Int64) (a9 a10 : Nat → Int32) : Prop :=
  (∀ k, k < 1024 → a9 k = -1 ∨ ∃ q, q < P ∧ a9 k = nI q ∧ sk_mL (a8 q) = k) ∧
  (∀ q, q < P → a10 q = -1 ∨ ∃ q', q' < q ∧ a10 q = nI q' ∧ sk_mL (a8 q') = sk_mL (a8 q))
theorem sk_nar {x : Int32} {N : Nat} {Q : Nat → Prop} (hN : N ≤ 2560) (h : x = -1 ∨ ∃ q, q < N ∧ x = nI q ∧ Q q) : vp_nar .short x = x := by
  rcases h with e | ⟨q, q1, q2, _⟩
  · rw [e]; exact sk_vsm
  · rw [q2]; exact sk_vs (by omega)
theorem sk_LK_add {p : Nat} {a8 : Nat → Int64} {a9 a10 : Nat → Int32} (h : sk_LK p a8 a9 a10) : sk_LK (p + 1) a8 (upd a9 (sk_mL (a8 p)) (nI p)) (upd a10 p (a9 (sk_mL (a8 p)))) := by
  obtain ⟨h1, h2⟩ := h
  refine ⟨fun k hk => ?_, fun q hq => ?_⟩
  · by_cases e : k = sk_mL (a8 p)
    · exact Or.inr ⟨p, by omega, by rw [e, pk_us], e.symm⟩
    · rw [pk_un e]
      rcases h1 k hk with z | ⟨q, q1, q2, q3⟩
      · exact Or.inl z
      · exact Or.inr ⟨q, by omega, q2, q3⟩
  · by_cases e : q = p
    · rw [e, pk_us]
      rcases h1 _ (sk_mL_lt (a8 p)) with z | ⟨q', q1, q2, q3⟩
      · exact Or.inl z
      · exact Or.inr ⟨q', q1, q2, q3⟩
    · rw [pk_un e]
      exact h2 q (by omega)
theorem sk_LK_upd {p : Nat} {a8 : Nat → Int64} {a9 a10 : Nat → Int32} {x : Int64} (h : sk_LK p a8 a9 a10) : sk_LK p (vp_updL a8 p x) a9 a10 := by
  obtain ⟨h1, h2⟩ := h
  refine ⟨fun k hk => ?_, fun q hq => ?_⟩
  · rcases h1 k hk with z | ⟨q, q1, q2, q3⟩
    · exact Or.inl z
    · exact Or.inr ⟨q, q1, q2, by rw [pk_uLn (by omega)]; exact q3⟩
  · rcases h2 q hq with z | ⟨q', q1, q2, q3⟩
    · exact Or.inl z
    · exact Or.inr ⟨q', q1, q2, by rw [pk_uLn (by omega), pk_uLn (by omega)]; exact q3⟩
section
variable {ct pt pn lc cl mv ts lv fa : Int32} {a1 a2 a3 a4 a5 a6 a7 : Nat → Int32} {a8 : Nat → Int64} {a9 a10 a11 a12 a13 a14 a15 a16 a17 a18 : Nat → Int32}
variable {post : St2 → Prop} {X : Nat → Prop} {P : Nat}
theorem sk_enterLook {p : Nat} (hp9 : p < 2560) (h : sk_LK p a8 a9 a10) (hp : ∀ b9 b10, sk_LK (p + 1) a8 b9 b10 → post (ct, pt, pn, lc, cl, mv, ts, lv, fa, a1, a2, a3, a4, a5, a6, a7, a8, b9, b10, a11, a12, a13, a14, a15, a16, a17, a18)) : wpX_enterLook post (ct, pt, pn, lc, cl, mv, ts, lv, fa, a1, a2, a3, a4, a5, a6, a7, a8, a9, a10, a11, a12, a13, a14, a15, a16, a17, a18) (nI p) := by
  unfold wpX_enterLook
  dsimp only
  rw [nI_clamp (show p < 2 ^ 31 by omega), sk_s16 (show p < 32768 by omega)]
  have hm := sk_mL_lt (a8 p)
  refine ⟨pk_in p 2560 hp9, sk_mL_wp ?_⟩
  rw [nI_clamp (show sk_mL (a8 p) < 2 ^ 31 by omega), sk_nar (by omega) (h.1 _ hm)]
  exact ⟨pk_in _ 1024 hm, pk_in p 2560 hp9, nm_e ⟨pk_in _ 1024 hm, nm_e (hp _ _ (sk_LK_add h))⟩⟩
theorem sk_lookOfEnd {post : Int64 → Prop} {e : Nat} (he : e / 2 < 2560) (hp : ∀ x, post x) : wpX_lookOfEnd post (ct, pt, pn, lc, cl, mv, ts, lv, fa, a1, a2, a3, a4, a5, a6, a7, a8, a9, a10, a11, a12, a13, a14, a15, a16, a17, a18) (nI e) := by
  unfold wpX_lookOfEnd
  dsimp only
  exact ⟨pk_in (e / 2) 2560 he (sk_sh (by omega)), nm_e (br_c (fun _ => hp _) (fun _ => hp _))⟩
theorem sk_lookOfInput {post : Int64 → Prop} {x : Int32} (hp : ∀ x, post x) : wpX_lookOfInput post (ct, pt, pn, lc, cl, mv, ts, lv, fa, a1, a2, a3, a4, a5, a6, a7, a8, a9, a10, a11, a12, a13, a14, a15, a16, a17, a18) x := by
  have K : ∀ (k i : Nat) (y : Int64), 64 ≤ i + k → i ≤ 64 → wX_lookOfInput_5 post x ct pt pn lc cl mv ts lv fa a1 a2 a3 a4 a5 a6 a7 a8 a9 a10 a11 a12 a13 a14 a15 a16 a17 a18 (k + 1) y (nI i) := by
    intro k
    induction k with
    | zero =>
      intro i y hk hi
      exact pk_le 64 i (fun _ => hp _) (fun z => absurd z (by omega))
    | succ k ih =>
      intro i y hk hi
      refine pk_le 64 i (fun _ => hp _) (fun z => ⟨pk_in i 64 z, ?_⟩)
      exact br_c (fun _ => nm_e (nm_r (nI_1 i) (ih (i + 1) _ (by omega) (by omega)))) (fun _ => nm_e (nm_r (nI_1 i) (ih (i + 1) _ (by omega) (by omega))))
  exact ⟨65, K 64 0 0 (by omega) (by omega)⟩
theorem sk_la24 (hg : sk_GW X P a3 a4) (hP : P ≤ 2560) (hp : ∀ b8 b9 b10, sk_LK P b8 b9 b10 → post (ct, (nI P), pn, lc, cl, mv, ts, lv, fa, a1, a2, a3, a4, a5, a6, a7, b8, b9, b10, a11, a12, a13, a14, a15, a16, a17, a18)) :
    ∀ (k i : Nat) (b8 : Nat → Int64) (b9 b10 : Nat → Int32), P ≤ i + k → i ≤ P → sk_LK i b8 b9 b10 → wX_lookAgain_24 post (k + 1) (nI i) ct (nI P) pn lc cl mv ts lv fa a1 a2 a3 a4 a5 a6 a7 b8 b9 b10 a11 a12 a13 a14 a15 a16 a17 a18 := by
  intro k
  induction k with
  | zero =>
    intro i b8 b9 b10 hk hi h
    have hiP : i = P := by omega
    subst hiP
    exact pk_le i i (fun _ => hp _ _ _ h) (fun z => absurd z (by omega))
  | succ k ih =>
    intro i b8 b9 b10 hk hi h
    by_cases hiP : i = P
    · subst hiP
      exact pk_le i i (fun _ => hp _ _ _ h) (fun z => absurd z (by omega))
    · refine pk_le P i (fun z => absurd z (by omega)) (fun z => ?_)
      have Z : ∀ x : Int64, wX_lookAgain_97 post (wX_lookAgain_24 post (k + 1)) (nI i) ct (nI P) pn lc cl mv ts lv fa a1 a2 a3 a4 a5 a6 a7 (vp_updL b8 i x) b9 b10 a11 a12 a13 a14 a15 a16 a17 a18 := by
        intro x
        unfold wX_lookAgain_97
        refine sk_enterLook (by omega) (sk_LK_upd h) (fun c9 c10 hc => nm_r (nI_1 i) ?_)
        exact ih (i + 1) _ c9 c10 (by omega) (by omega) hc
      rw [nI_clamp (show i < 2 ^ 31 by omega)]
      refine pk_eq i 0 (fun z0 => ⟨pk_in i 2560 (by omega), nm_e (Z 0)⟩) (fun z0 => ?_)
      refine pk_le 9 i (fun h9 => ⟨pk_in i 2560 (by omega), ?_⟩) (fun h9 => sk_lookOfInput (fun x => ⟨pk_in i 2560 (by omega), nm_e (Z x)⟩))
      obtain ⟨⟨l1, l2, _⟩, ⟨r1, r2, _⟩⟩ := hg i h9 (by omega)
      rw [l1, r1]
      exact sk_lookOfEnd (by omega) (fun x => ⟨pk_in i 2560 (by omega), sk_lookOfEnd (by omega) (fun y => ⟨pk_in i 2560 (by omega), nm_e (Z _)⟩)⟩)
theorem sk_lookAgain (hg : sk_GW X P a3 a4) (hP : P ≤ 2560) (hp : ∀ b8 b9 b10, sk_LK P b8 b9 b10 → post (ct, (nI P), pn, lc, cl, mv, ts, lv, fa, a1, a2, a3, a4, a5, a6, a7, b8, b9, b10, a11, a12, a13, a14, a15, a16, a17, a18)) : wpX_lookAgain post (ct, (nI P), pn, lc, cl, mv, ts, lv, fa, a1, a2, a3, a4, a5, a6, a7, a8, a9, a10, a11, a12, a13, a14, a15, a16, a17, a18) := by
  have K : ∀ (k i : Nat) (b9 : Nat → Int32), 1024 ≤ i + k → i ≤ 1024 → (∀ j, j < i → b9 j = -1) → wX_lookAgain_2 post ct (nI P) pn lc cl mv ts lv fa (k + 1) (nI i) a1 a2 a3 a4 a5 a6 a7 a8 b9 a10 a11 a12 a13 a14 a15 a16 a17 a18 := by
    intro k
    induction k with
    | zero =>
      intro i b9 hk hi h
      exact pk_le 1024 i (fun _ => ⟨P + 1, sk_la24 hg hP hp P 0 _ _ _ (by omega) (by omega) ⟨fun k hk => Or.inl (h k (by omega)), fun q hq => absurd hq (by omega)⟩⟩) (fun z => absurd z (by omega))
    | succ k ih =>
      intro i b9 hk hi h
      refine pk_le 1024 i (fun z => ⟨P + 1, sk_la24 hg hP hp P 0 _ _ _ (by omega) (by omega) ⟨fun k hk => Or.inl (h k (by omega)), fun q hq => absurd hq (by omega)⟩⟩) (fun z => ⟨pk_in i 1024 z, nm_e (nm_r (nI_1 i) (ih (i + 1) _ (by omega) (by omega) (fun j hj => ?_)))⟩)
      rw [nI_clamp (show i < 2 ^ 31 by omega)]
      by_cases e : j = i
      · rw [e, pk_us]
      · rw [pk_un e]
        exact h j (by omega)
  exact ⟨1025, K 1024 0 _ (by omega) (by omega) (fun j hj => absurd hj (by omega))⟩
theorem sk_learn {k : Nat} {x : Int32} (hk : k < 64) (hg : sk_GW X P a3 a4) (hP : P ≤ 2560) (hp : ∀ k' b7 b8 b9 b10, k' < 64 → sk_LK P b8 b9 b10 → post (ct, (nI P), (nI k'), lc, cl, mv, ts, lv, fa, a1, a2, a3, a4, a5, a6, b7, b8, b9, b10, a11, a12, a13, a14, a15, a16, a17, a18)) : wpX_learn post (ct, (nI P), (nI k), lc, cl, mv, ts, lv, fa, a1, a2, a3, a4, a5, a6, a7, a8, a9, a10, a11, a12, a13, a14, a15, a16, a17, a18) x := by
  unfold wpX_learn
  dsimp only
  rw [sk_q_wpX_lookAgain_2]
  have e : (nI k + 1) - (nI k + 1) / 64 * 64 = nI ((k + 1) % 64) := by rw [nI_1]; exact pk_rem (d := 64) (by omega) (by omega) (by omega)
  refine ⟨pk_in k 64 hk, nm_e ⟨by decide, nm_r e ?_⟩⟩
  exact sk_lookAgain hg hP (fun b8 b9 b10 h => hp _ _ b8 b9 b10 (by omega) h)
end
end
section
/-- the mark of a pair -/
def sk_mP (a b : Nat) : Nat := (a * 37 + b * 101) % 1024
theorem sk_mP_lt (a b : Nat) : sk_mP a b < 1024 := Nat.mod_lt _ (by decide)
theorem sk_mP_wp {post : Int32 → Prop} {u : St0} {a b : Nat} (ha : a < 5120) (hb : b < 5120) (h : post (nI (sk_mP a b))) : wpX_markOfPair post u (nI a) (nI b) := by
  unfold wpX_markOfPair
  have e : ((nI a * 37) + (nI b * 101)) &&& 1023 = nI (sk_mP a b) := by
    rw [show nI a * 37 = nI (a * 37) from pk_mul a 37, show nI b * 101 = nI (b * 101) from pk_mul b 101, nI_add]
    exact pk_andN (by omega) 10 (by decide)
  rw [e]
  exact h
/-- the chains of pairs go down -/
def sk_PK (P : Nat) (a3 a4 a5 a6 : Nat → Int32) : Prop :=
  (∀ k, k < 1024 → a5 k = -1 ∨ ∃ q, q < P ∧ a5 k = nI q ∧ 9 ≤ q ∧ sk_mP (sk_nt (a3 q)) (sk_nt (a4 q)) = k) ∧
  (∀ q, 9 ≤ q → q < P → a6 q = -1 ∨ ∃ q', q' < q ∧ a6 q = nI q' ∧ 9 ≤ q' ∧ sk_mP (sk_nt (a3 q')) (sk_nt (a4 q')) = sk_mP (sk_nt (a3 q)) (sk_nt (a4 q)))
/-- the graph's invariant -/
def sk_GI (X : Nat → Prop) (P : Nat) (pn : Int32) (a3 a4 a5 a6 : Nat → Int32) (a8 : Nat → Int64) (a9 a10 : Nat → Int32) : Prop :=
  (∀ i, X i → 1 ≤ i ∧ i ≤ 8) ∧ 9 ≤ P ∧ P ≤ 2560 ∧ (∃ k, k < 64 ∧ pn = nI k) ∧ sk_GW X P a3 a4 ∧ sk_PK P a3 a4 a5 a6 ∧ sk_LK P a8 a9 a10
/-- what an answer that is an end, or -1, is -/
def sk_R (X : Nat → Prop) (P : Nat) (a3 a4 : Nat → Int32) (x y : Nat) (r : Int32) : Prop :=
  r = -1 ∨ ∃ e, r = nI e ∧ e < 2 * P ∧ ¬ X (e / 2) ∧ ∀ v, sk_co P a3 a4 v → sk_ev v e = (sk_ev v x && sk_ev v y)
theorem sk_R_c {X : Nat → Prop} {P : Nat} {a3 a4 : Nat → Int32} {x y : Nat} {r : Int32} (h : sk_R X P a3 a4 x y r) : sk_R X P a3 a4 y x r := by
  rcases h with e | ⟨e, e1, e2, e3, e4⟩
  · exact Or.inl e
  · exact Or.inr ⟨e, e1, e2, e3, fun v hv => by rw [e4 v hv, Bool.and_comm]⟩
section
variable {ct pt pn lc cl mv ts lv fa : Int32} {a1 a2 a3 a4 a5 a6 a7 : Nat → Int32} {a8 : Nat → Int64} {a9 a10 a11 a12 a13 a14 a15 a16 a17 a18 : Nat → Int32}
variable {X : Nat → Prop} {P : Nat}
theorem sk_fd40 {post : Int32 → Prop} {x y : Nat} (hP : P ≤ 2560) (hg : sk_GW X P a3 a4) (hk : sk_PK P a3 a4 a5 a6) (hX : ∀ i, X i → 1 ≤ i ∧ i ≤ 8) (hx : x < 2 * P) (hy : y < 2 * P) (hp : ∀ r, sk_R X P a3 a4 x y r → post r) :
    ∀ (n q : Nat), 9 ≤ q → q < P → q < n → wX_found_40 post (nI x) (nI y) ct pt pn lc cl mv ts lv fa a1 a2 a3 a4 a5 a6 a7 a8 a9 a10 a11 a12 a13 a14 a15 a16 a17 a18 (n + 1) (nI q) := by
  have N : ∀ n, wX_found_40 post (nI x) (nI y) ct pt pn lc cl mv ts lv fa a1 a2 a3 a4 a5 a6 a7 a8 a9 a10 a11 a12 a13 a14 a15 a16 a17 a18 (n + 1) (-1) := fun n => br_t (by decide) (hp _ (Or.inl rfl))
  intro n
  induction n with
  | zero => intro q _ _ h; omega
  | succ n ih =>
    intro q h9 hq hn
    refine br_f (nI_pos (by omega)) ⟨pk_in q 2560 (by omega), ?_⟩
    rw [nI_clamp (show q < 2 ^ 31 by omega)]
    have hc := hk.2 q h9 hq
    have R : ∀ z, z = a6 q → wX_found_40 post (nI x) (nI y) ct pt pn lc cl mv ts lv fa a1 a2 a3 a4 a5 a6 a7 a8 a9 a10 a11 a12 a13 a14 a15 a16 a17 a18 (n + 1) z := by
      intro z hz
      rcases hc with e | ⟨q', q1, q2, q3, _⟩
      · rw [hz, e]
        exact N n
      · rw [hz, q2]
        exact ih q' q3 (by omega) (by omega)
    refine br_c (fun c1 => ⟨pk_in q 2560 (by omega), br_c (fun c2 => ?_) (fun _ => ⟨pk_in q 2560 (by omega), R⟩)⟩) (fun _ => ⟨pk_in q 2560 (by omega), R⟩)
    rw [show (2 : Int32) * nI q = nI (2 * q) from pk_mul 2 q]
    refine hp _ (Or.inr ⟨2 * q, rfl, by omega, fun z => ?_, fun v hv => ?_⟩)
    · have := hX _ z
      omega
    · rw [sk_ev_2, hv.2 q h9 hq, c1, c2, sk_nt_nI (by omega), sk_nt_nI (by omega)]
theorem sk_fd21 {post : Int32 → Prop} {x y : Nat} (hP : P ≤ 2560) (hg : sk_GW X P a3 a4) (hk : sk_PK P a3 a4 a5 a6) (hX : ∀ i, X i → 1 ≤ i ∧ i ≤ 8) (hx : x < 2 * P) (hy : y < 2 * P) (hp : ∀ r, sk_R X P a3 a4 x y r → post r) :
    wX_found_21 post (nI x) (nI y) ct pt pn lc cl mv ts lv fa a1 a2 a3 a4 a5 a6 a7 a8 a9 a10 a11 a12 a13 a14 a15 a16 a17 a18 := by
  unfold wX_found_21
  have hm := sk_mP_lt x y
  refine sk_mP_wp (by omega) (by omega) ⟨pk_in _ 1024 hm, ?_⟩
  rw [nI_clamp (show sk_mP x y < 2 ^ 31 by omega)]
  rcases hk.1 _ hm with e | ⟨q, q1, q2, q3, _⟩
  · exact nm_r e ⟨1, br_t (by decide) (hp _ (Or.inl rfl))⟩
  · exact nm_r q2 ⟨q + 2, sk_fd40 hP hg hk hX hx hy hp (q + 1) q q3 q1 (by omega)⟩
theorem sk_found {post : Int32 → Prop} {x y : Nat} (hP : P ≤ 2560) (hg : sk_GW X P a3 a4) (hk : sk_PK P a3 a4 a5 a6) (hX : ∀ i, X i → 1 ≤ i ∧ i ≤ 8) (hx : x < 2 * P) (hy : y < 2 * P) (hp : ∀ r, sk_R X P a3 a4 x y r → post r) :
    wpX_found post (ct, pt, pn, lc, cl, mv, ts, lv, fa, a1, a2, a3, a4, a5, a6, a7, a8, a9, a10, a11, a12, a13, a14, a15, a16, a17, a18) (nI x) (nI y) := by
  unfold wpX_found
  dsimp only
  unfold wX_found_10
  have A : wX_found_21 post (nI x) (nI y) ct pt pn lc cl mv ts lv fa a1 a2 a3 a4 a5 a6 a7 a8 a9 a10 a11 a12 a13 a14 a15 a16 a17 a18 := sk_fd21 hP hg hk hX hx hy hp
  have B : wX_found_21 post (nI y) (nI x) ct pt pn lc cl mv ts lv fa a1 a2 a3 a4 a5 a6 a7 a8 a9 a10 a11 a12 a13 a14 a15 a16 a17 a18 := sk_fd21 hP hg hk hX hy hx (fun r h => hp r (sk_R_c h))
  refine pk_le y x (fun z => pk_le y x (fun _ => B) (fun w => absurd w (by omega))) (fun z => pk_le y x (fun w => absurd w (by omega)) (fun _ => A))
theorem sk_isAnd {post : Int32 → Prop} {x : Nat} (hx : x < 2 ^ 31) (h0 : x / 2 < 9 → post 0) (h1 : 9 ≤ x / 2 → post 1) : wpX_isAnd post (ct, pt, pn, lc, cl, mv, ts, lv, fa, a1, a2, a3, a4, a5, a6, a7, a8, a9, a10, a11, a12, a13, a14, a15, a16, a17, a18) (nI x) := by
  unfold wpX_isAnd
  dsimp only
  rw [sk_sh hx]
  exact pk_lt (x / 2) 9 h0 h1
theorem sk_has {post : Int32 → Prop} {x y : Nat} (hP : P ≤ 2560) (hg : sk_GW X P a3 a4) (hx : x < 2 * P) (h9 : 9 ≤ x / 2) (hy : y < 2 ^ 31) (h0 : post 0) (h1 : sk_nt (a3 (x / 2)) = y ∨ sk_nt (a4 (x / 2)) = y → post 1) : wpX_has post (ct, pt, pn, lc, cl, mv, ts, lv, fa, a1, a2, a3, a4, a5, a6, a7, a8, a9, a10, a11, a12, a13, a14, a15, a16, a17, a18) (nI x) (nI y) := by
  unfold wpX_has
  dsimp only
  rw [sk_sh (show x < 2 ^ 31 by omega), nI_clamp (show x / 2 < 2 ^ 31 by omega)]
  refine ⟨pk_in (x / 2) 2560 (by omega), br_c (fun c => h1 (Or.inl ?_)) (fun c => ⟨pk_in (x / 2) 2560 (by omega), br_c (fun d => h1 (Or.inr ?_)) (fun d => h0)⟩)⟩
  · rw [c, sk_nt_nI hy]
  · rw [d, sk_nt_nI hy]
theorem sk_otherThan {post : Int32 → Prop} {x y : Nat} (hP : P ≤ 2560) (hg : sk_GW X P a3 a4) (hx : x < 2 * P) (h9 : 9 ≤ x / 2) (hy : y < 2 ^ 31)
    (h1 : sk_nt (a3 (x / 2)) = y → post (nI (sk_nt (a4 (x / 2))))) (h2 : sk_nt (a3 (x / 2)) ≠ y → post (nI (sk_nt (a3 (x / 2))))) : wpX_otherThan post (ct, pt, pn, lc, cl, mv, ts, lv, fa, a1, a2, a3, a4, a5, a6, a7, a8, a9, a10, a11, a12, a13, a14, a15, a16, a17, a18) (nI x) (nI y) := by
  unfold wpX_otherThan
  dsimp only
  rw [sk_sh (show x < 2 ^ 31 by omega), nI_clamp (show x / 2 < 2 ^ 31 by omega)]
  obtain ⟨⟨l1, l2, _⟩, ⟨r1, r2, _⟩⟩ := hg (x / 2) h9 (by omega)
  refine ⟨pk_in (x / 2) 2560 (by omega), br_c (fun c => ⟨pk_in (x / 2) 2560 (by omega), ?_⟩) (fun c => ⟨pk_in (x / 2) 2560 (by omega), ?_⟩)⟩
  · rw [r1]
    exact h1 (by rw [c, sk_nt_nI hy])
  · rw [l1]
    exact h2 (fun z => c (by rw [l1, z]))
/-- all the facts of an AND at an end -/
theorem sk_evA {x : Nat} {v : Nat → Bool} (h9 : 9 ≤ x / 2) (hx : x < 2 * P) (hv : sk_co P a3 a4 v) : sk_ev v x = Bool.xor (sk_ev v (sk_nt (a3 (x / 2))) && sk_ev v (sk_nt (a4 (x / 2)))) (decide (x % 2 = 1)) := by
  rw [← hv.2 (x / 2) h9 (by omega)]
  rfl
theorem sk_absorbed {post : Int32 → Prop} {x y : Nat} (hP : P ≤ 2560) (hg : sk_GW X P a3 a4) (hk : sk_PK P a3 a4 a5 a6) (hX : ∀ i, X i → 1 ≤ i ∧ i ≤ 8) (hx : x < 2 * P) (hy : y < 2 * P) (xX : ¬ X (x / 2)) (yX : ¬ X (y / 2)) (hp : ∀ r, sk_R X P a3 a4 x y r → post r) :
    wpX_absorbed post (ct, pt, pn, lc, cl, mv, ts, lv, fa, a1, a2, a3, a4, a5, a6, a7, a8, a9, a10, a11, a12, a13, a14, a15, a16, a17, a18) (nI x) (nI y) := by
  have hX0 : ¬ X 0 := fun z => by have := hX 0 z; omega
  have hm1 : post (-1) := hp _ (Or.inl rfl)
  unfold wpX_absorbed
  dsimp only
  refine sk_isAnd (by omega) (fun _ => br_t rfl hm1) (fun h9 => br_f (by decide) ?_)
  obtain ⟨⟨l1, l2, l3⟩, ⟨r1, r2, r3⟩⟩ := hg (x / 2) h9 (by omega)
  have ngy : sk_ng y < 2 * P := sk_ng_lt hy
  have F0 : (∀ v, sk_co P a3 a4 v → (sk_ev v x && sk_ev v y) = false) → post 0 := fun h =>
    hp _ (Or.inr ⟨0, rfl, by omega, by simpa using hX0, fun v hv => by rw [sk_ev_0 hv.1, h v hv]⟩)
  -- one of the ends is y's opposite
  have N : sk_nt (a3 (x / 2)) = sk_ng y ∨ sk_nt (a4 (x / 2)) = sk_ng y → ∀ v, sk_co P a3 a4 v → sk_ev v y = true → sk_ev v x = decide (x % 2 = 1) := by
    intro h v hv hyv
    have e : sk_ev v (sk_ng y) = false := by rw [sk_ev_ng, hyv]; rfl
    rw [sk_evA h9 hx hv]
    rcases h with z | z <;> rw [z, e] <;> simp
  rw [sk_a1 (by omega)]
  have M : ∀ z0 : Int32, (z0 = 1 ∧ x % 2 = 0 ∨ z0 = 0 ∧ x % 2 = 1) → wX_absorbed_21 post (nI x) (nI y) z0 ct pt pn lc cl mv ts lv fa a1 a2 a3 a4 a5 a6 a7 a8 a9 a10 a11 a12 a13 a14 a15 a16 a17 a18 := by
    intro z0 hz0
    unfold wX_absorbed_21
    rw [sk_xor1, sk_sh (show x < 2 ^ 31 by omega), nI_clamp (show x / 2 < 2 ^ 31 by omega), sk_a1 (show y < 2 ^ 31 by omega)]
    refine sk_has hP hg hx h9 (by omega) (br_t rfl ?_) (fun hh => br_f (by decide) ?_)
    · refine sk_has hP hg hx h9 (by omega) (br_t rfl ?_) (fun hh => br_f (by decide) ?_)
      · rcases hz0 with ⟨z1, xm⟩ | ⟨z1, xm⟩
        · subst z1
          refine br_f (by decide) ?_
          refine sk_isAnd (by omega) (fun _ => br_t rfl hm1) (fun y9 => br_f (by decide) ?_)
          refine pk_eq (y % 2) 0 (fun ym => ?_) (fun _ => hm1)
          have CL : (sk_nt (a3 (y / 2)) = sk_ng (sk_nt (a3 (x / 2))) ∨ sk_nt (a4 (y / 2)) = sk_ng (sk_nt (a3 (x / 2)))) ∨ (sk_nt (a3 (y / 2)) = sk_ng (sk_nt (a4 (x / 2))) ∨ sk_nt (a4 (y / 2)) = sk_ng (sk_nt (a4 (x / 2)))) → post 0 := by
            intro h
            refine F0 (fun v hv => ?_)
            rw [sk_evA h9 hx hv, sk_evA y9 hy hv, xm, ym]
            rcases h with (h | h) | (h | h) <;> rw [h, sk_ev_ng] <;> cases sk_ev v (sk_nt (a3 (x / 2))) <;> cases sk_ev v (sk_nt (a4 (x / 2))) <;> simp
          rw [l1, r1, sk_xor1, sk_xor1]
          have nl := sk_ng_lt l2
          have nr := sk_ng_lt r2
          refine ⟨pk_in (x / 2) 2560 (by omega), sk_has hP hg hy y9 (by omega) (br_t rfl ⟨pk_in (x / 2) 2560 (by omega), sk_has hP hg hy y9 (by omega) (br_t rfl (br_t rfl hm1)) (fun h => br_f (by decide) (br_f (by decide) (CL (Or.inr h))))⟩) (fun h => br_f (by decide) (br_f (by decide) (CL (Or.inl h))))⟩
        · subst z1
          exact br_t rfl hm1
      · rcases hz0 with ⟨z1, xm⟩ | ⟨z1, xm⟩
        · subst z1
          refine br_f (by decide) (hp _ (Or.inr ⟨x, rfl, hx, xX, fun v hv => ?_⟩))
          rw [sk_evA h9 hx hv, xm]
          rcases hh with z | z <;> rw [z] <;> cases sk_ev v y <;> simp
        · subst z1
          refine br_t rfl ?_
          have G : ∀ z, z < 2 * (x / 2) → (∀ v, sk_co P a3 a4 v → sk_ev v x = !(sk_ev v y && sk_ev v z)) → wpX_found (fun r_22 => (post r_22)) (ct, pt, pn, lc, cl, mv, ts, lv, fa, a1, a2, a3, a4, a5, a6, a7, a8, a9, a10, a11, a12, a13, a14, a15, a16, a17, a18) (nI y) (nI (sk_ng z)) := by
            intro z hz hzv
            have := sk_ng_lt hz
            refine sk_found hP hg hk hX hy (by omega) (fun r hr => hp r ?_)
            rcases hr with e | ⟨e, e1, e2, e3, e4⟩
            · exact Or.inl e
            · refine Or.inr ⟨e, e1, e2, e3, fun v hv => ?_⟩
              rw [e4 v hv, sk_ev_ng, hzv v hv]
              cases sk_ev v y <;> simp
          refine sk_otherThan hP hg hx h9 (by omega) (fun h => nm_r (sk_xor1 _) (G _ r2 (fun v hv => ?_))) (fun h => nm_r (sk_xor1 _) (G _ l2 (fun v hv => ?_)))
          · rw [sk_evA h9 hx hv, xm, h]
            cases sk_ev v y <;> simp
          · rw [sk_evA h9 hx hv, xm, hh.resolve_left h]
            cases sk_ev v y <;> simp
    · rcases hz0 with ⟨z1, xm⟩ | ⟨z1, xm⟩
      · subst z1
        refine br_f (by decide) (F0 (fun v hv => ?_))
        cases hb : sk_ev v y with
        | false => simp
        | true => rw [N hh v hv hb, xm]; rfl
      · subst z1
        refine br_t rfl (hp _ (Or.inr ⟨y, rfl, hy, yX, fun v hv => ?_⟩))
        cases hb : sk_ev v y with
        | false => simp
        | true => rw [N hh v hv hb, xm]; rfl
  exact pk_eq (x % 2) 0 (fun xm => M 1 (Or.inl ⟨rfl, xm⟩)) (fun xm => M 0 (Or.inr ⟨rfl, by omega⟩))
theorem sk_byLaws {post : Int32 → Prop} {x y : Nat} (hP : P ≤ 2560) (hP0 : 0 < P) (hg : sk_GW X P a3 a4) (hk : sk_PK P a3 a4 a5 a6) (hX : ∀ i, X i → 1 ≤ i ∧ i ≤ 8) (hx : x < 2 * P) (hy : y < 2 * P) (xX : ¬ X (x / 2)) (yX : ¬ X (y / 2)) (hp : ∀ r, sk_R X P a3 a4 x y r → post r) :
    wpX_byLaws post (ct, pt, pn, lc, cl, mv, ts, lv, fa, a1, a2, a3, a4, a5, a6, a7, a8, a9, a10, a11, a12, a13, a14, a15, a16, a17, a18) (nI x) (nI y) := by
  have hX0 : ¬ X 0 := fun z => by have := hX 0 z; omega
  have F0 : (∀ v, sk_co P a3 a4 v → (sk_ev v x && sk_ev v y) = false) → post 0 := fun h =>
    hp _ (Or.inr ⟨0, rfl, by omega, by simpa using hX0, fun v hv => by rw [sk_ev_0 hv.1, h v hv]⟩)
  unfold wpX_byLaws
  dsimp only
  rw [sk_xor1]
  have ngy := sk_ng_lt hy
  refine pk_eq x 0 (fun z => F0 (fun v hv => by rw [z, sk_ev_0 hv.1]; rfl)) (fun _ => ?_)
  refine pk_eq y 0 (fun z => F0 (fun v hv => by rw [z, sk_ev_0 hv.1]; exact Bool.and_false _)) (fun _ => ?_)
  refine pk_eq x (sk_ng y) (fun z => F0 (fun v hv => by rw [z, sk_ev_ng]; cases sk_ev v y <;> rfl)) (fun _ => ?_)
  refine pk_eq x 1 (fun z => hp _ (Or.inr ⟨y, rfl, hy, yX, fun v hv => by rw [z, sk_ev_1 hv.1]; rfl⟩)) (fun _ => ?_)
  refine pk_eq x y (fun z => hp _ (Or.inr ⟨y, rfl, hy, yX, fun v hv => by rw [z, Bool.and_self]⟩)) (fun _ => ?_)
  refine pk_eq y 1 (fun z => hp _ (Or.inr ⟨x, rfl, hx, xX, fun v hv => by rw [z, sk_ev_1 hv.1, Bool.and_true]⟩)) (fun _ => ?_)
  refine sk_absorbed hP hg hk hX hx hy xX yX (fun r hr => br_c (fun _ => ?_) (fun _ => hp r hr))
  exact sk_absorbed hP hg hk hX hy hx yX xX (fun r hr => hp r (sk_R_c hr))
end
end
section
section
variable {ct pt pn lc cl mv ts lv fa : Int32} {a1 a2 a3 a4 a5 a6 a7 : Nat → Int32} {a8 : Nat → Int64} {a9 a10 a11 a12 a13 a14 a15 a16 a17 a18 : Nat → Int32}
variable {X : Nat → Prop} {P : Nat}
theorem sk_PK_add {x y : Nat} (hx : x < 2 * P) (hy : y < 2 * P) (h9 : 9 ≤ P) (hP : P < 2560) (h : sk_PK P a3 a4 a5 a6) :
    sk_PK (P + 1) (upd a3 P (nI x)) (upd a4 P (nI y)) (upd a5 (sk_mP x y) (nI P)) (upd a6 P (a5 (sk_mP x y))) := by
  obtain ⟨h1, h2⟩ := h
  have nx : sk_nt (nI x) = x := sk_nt_nI (by omega)
  have ny : sk_nt (nI y) = y := sk_nt_nI (by omega)
  refine ⟨fun k hk => ?_, fun q q9 hq => ?_⟩
  · by_cases e : k = sk_mP x y
    · refine Or.inr ⟨P, by omega, by rw [e, pk_us], h9, ?_⟩
      rw [pk_us, pk_us, nx, ny, e]
    · rw [pk_un e]
      rcases h1 k hk with z | ⟨q, q1, q2, q3, q4⟩
      · exact Or.inl z
      · exact Or.inr ⟨q, by omega, q2, q3, by rw [pk_un (by omega), pk_un (by omega)]; exact q4⟩
  · by_cases e : q = P
    · rw [e, pk_us, pk_us, pk_us, nx, ny]
      rcases h1 _ (sk_mP_lt x y) with z | ⟨q, q1, q2, q3, q4⟩
      · exact Or.inl z
      · exact Or.inr ⟨q, q1, q2, q3, by rw [pk_un (by omega), pk_un (by omega)]; exact q4⟩
    · rw [pk_un e, pk_un e, pk_un e]
      rcases h2 q q9 (by omega) with z | ⟨q', q1, q2, q3, q4⟩
      · exact Or.inl z
      · exact Or.inr ⟨q', q1, q2, q3, by rw [pk_un (by omega), pk_un (by omega)]; exact q4⟩
theorem sk_GW_add {x y : Nat} (hx : x < 2 * P) (hy : y < 2 * P) (xX : ¬ X (x / 2)) (yX : ¬ X (y / 2)) (hP : P < 2560) (h : sk_GW X P a3 a4) : sk_GW X (P + 1) (upd a3 P (nI x)) (upd a4 P (nI y)) := by
  intro p p9 hp
  by_cases e : p = P
  · subst e
    rw [pk_us, pk_us, sk_nt_nI (by omega), sk_nt_nI (by omega)]
    exact ⟨⟨rfl, hx, xX⟩, ⟨rfl, hy, yX⟩⟩
  · rw [pk_un e, pk_un e]
    exact h p p9 (by omega)
theorem sk_addPart {post : Int32 → St2 → Prop} {x y : Nat} (h : sk_GI X P pn a3 a4 a5 a6 a8 a9 a10) (hP : P < 2560) (hx : x < 2 * P) (hy : y < 2 * P) (xX : ¬ X (x / 2)) (yX : ¬ X (y / 2))
    (hp : ∀ b3 b4 b5 b6 b8 b9 b10, sk_GI X (P + 1) pn b3 b4 b5 b6 b8 b9 b10 → (∀ p, p < P → b3 p = a3 p ∧ b4 p = a4 p) → b3 P = nI x → b4 P = nI y → post (nI P) (ct, (nI (P+1)), pn, lc, cl, mv, ts, lv, fa, a1, a2, b3, b4, b5, b6, a7, b8, b9, b10, a11, a12, a13, a14, a15, a16, a17, a18)) :
    wpX_addPart post (ct, (nI P), pn, lc, cl, mv, ts, lv, fa, a1, a2, a3, a4, a5, a6, a7, a8, a9, a10, a11, a12, a13, a14, a15, a16, a17, a18) (nI x) (nI y) := by
  obtain ⟨g1, g2, g3, g4, g5, g6, g7⟩ := h
  have hm := sk_mP_lt x y
  unfold wpX_addPart
  dsimp only
  rw [sk_q_wpX_enterLook_2]
  rw [nI_clamp (show P < 2 ^ 31 by omega), sk_s16 (show x < 32768 by omega), sk_s16 (show y < 32768 by omega), sk_s16 (show P < 32768 by omega)]
  refine nm_r (nI_1 P) ⟨pk_in P 2560 hP, nm_e ⟨pk_in P 2560 hP, nm_e (sk_mP_wp (by omega) (by omega) ⟨pk_in _ 1024 hm, pk_in P 2560 hP, nm_e ⟨pk_in _ 1024 hm, nm_e ?_⟩⟩)⟩⟩
  refine sk_lookOfEnd (by omega) (fun w1 => sk_lookOfEnd (by omega) (fun w2 => ⟨pk_in P 2560 hP, nm_e ?_⟩))
  rw [nI_clamp (show sk_mP x y < 2 ^ 31 by omega), sk_nar (by omega) (g6.1 _ hm)]
  refine sk_enterLook hP (sk_LK_upd g7) (fun b9 b10 hL => ?_)
  exact hp _ _ _ _ _ b9 b10 ⟨g1, by omega, by omega, g4, sk_GW_add hx hy xX yX hP g5, sk_PK_add hx hy g2 hP g6, hL⟩ (fun p hpP => ⟨pk_un (by omega), pk_un (by omega)⟩) pk_us pk_us
theorem sk_GI_pop (h : sk_GI X (P + 1) pn a3 a4 a5 a6 a8 a9 a10) (h9 : 9 ≤ P) : sk_GI X P pn a3 a4 (upd a5 (sk_mP (sk_nt (a3 P)) (sk_nt (a4 P))) (a6 P)) a6 a8 (upd a9 (sk_mL (a8 P)) (a10 P)) a10 := by
  obtain ⟨g1, g2, g3, g4, g5, ⟨p1, p2⟩, ⟨k1, k2⟩⟩ := h
  refine ⟨g1, h9, by omega, g4, fun p p9 hp => g5 p p9 (by omega), ⟨fun k hk => ?_, fun q q9 hq => p2 q q9 (by omega)⟩, ⟨fun k hk => ?_, fun q hq => k2 q (by omega)⟩⟩
  · by_cases e : k = sk_mP (sk_nt (a3 P)) (sk_nt (a4 P))
    · rw [e, pk_us]
      exact p2 P h9 (by omega)
    · rw [pk_un e]
      rcases p1 k hk with z | ⟨q, q1, q2, q3, q4⟩
      · exact Or.inl z
      · refine Or.inr ⟨q, ?_, q2, q3, q4⟩
        rcases Nat.lt_or_ge q P with y | y
        · exact y
        · have : q = P := by omega
          rw [this] at q4
          exact absurd q4.symm e
  · by_cases e : k = sk_mL (a8 P)
    · rw [e, pk_us]
      exact k2 P (by omega)
    · rw [pk_un e]
      rcases k1 k hk with z | ⟨q, q1, q2, q3⟩
      · exact Or.inl z
      · refine Or.inr ⟨q, ?_, q2, q3⟩
        rcases Nat.lt_or_ge q P with y | y
        · exact y
        · have : q = P := by omega
          rw [this] at q3
          exact absurd q3.symm e
theorem sk_backTo {post : St2 → Prop} {Q : Nat} (hQ : 9 ≤ Q) (hQP : Q ≤ P) (h : sk_GI X P pn a3 a4 a5 a6 a8 a9 a10) (hp : ∀ b5 b9, sk_GI X Q pn a3 a4 b5 a6 a8 b9 a10 → post (ct, (nI Q), pn, lc, cl, mv, ts, lv, fa, a1, a2, a3, a4, b5, a6, a7, a8, b9, a10, a11, a12, a13, a14, a15, a16, a17, a18)) : wpX_backTo post (ct, (nI P), pn, lc, cl, mv, ts, lv, fa, a1, a2, a3, a4, a5, a6, a7, a8, a9, a10, a11, a12, a13, a14, a15, a16, a17, a18) (nI Q) := by
  have K : ∀ (k P : Nat) (b5 b9 : Nat → Int32), P ≤ Q + k → Q ≤ P → sk_GI X P pn a3 a4 b5 a6 a8 b9 a10 → wX_backTo_0 post (nI Q) ct pn lc cl mv ts lv fa (k + 1) (nI P) a1 a2 a3 a4 b5 a6 a7 a8 b9 a10 a11 a12 a13 a14 a15 a16 a17 a18 := by
    intro k
    induction k with
    | zero =>
      intro P b5 b9 hk hQP h
      have e : P = Q := by omega
      subst e
      have := h.2.2.1
      exact pk_le P P (fun _ => hp _ _ h) (fun z => absurd z (by omega))
    | succ k ih =>
      intro P b5 b9 hk hQP h
      have hP := h.2.2.1
      by_cases e : P = Q
      · subst e
        exact pk_le P P (fun _ => hp _ _ h) (fun z => absurd z (by omega))
      · obtain ⟨R, rfl⟩ : ∃ R, P = R + 1 := ⟨P - 1, by omega⟩
        refine pk_le (R + 1) Q (fun z => absurd z (by omega)) (fun z => nm_r (nI_pred R) ⟨pk_in R 2560 (by omega), pk_in R 2560 (by omega), ?_⟩)
        have hpop := sk_GI_pop h (by omega)
        obtain ⟨g1, g2, g3, g4, g5, ⟨p1, p2⟩, ⟨k1, k2⟩⟩ := h
        obtain ⟨⟨l1, l2, l3⟩, ⟨r1, r2, r3⟩⟩ := g5 R (by omega) (by omega)
        have n6 : vp_nar .short (a6 R) = a6 R := sk_nar (N := R) (by omega) (p2 R (by omega) (by omega))
        have n10 : vp_nar .short (a10 R) = a10 R := sk_nar (N := R) (by omega) (k2 R (by omega))
        have m1 := sk_mP_lt (sk_nt (a3 R)) (sk_nt (a4 R))
        have m2 := sk_mL_lt (a8 R)
        rw [nI_clamp (show R < 2 ^ 31 by omega), l1, r1, n6, n10]
        refine sk_mP_wp (by omega) (by omega) ⟨pk_in R 2560 (by omega), pk_in _ 1024 m1, ?_⟩
        rw [nI_clamp (show sk_mP (sk_nt (a3 R)) (sk_nt (a4 R)) < 2 ^ 31 by omega)]
        refine nm_e ⟨pk_in R 2560 (by omega), sk_mL_wp ⟨pk_in R 2560 (by omega), pk_in _ 1024 m2, ?_⟩⟩
        rw [nI_clamp (show sk_mL (a8 R) < 2 ^ 31 by omega)]
        exact nm_e (ih R _ _ (by omega) (by omega) hpop)
  exact ⟨P + 1, K P P _ _ (by omega) hQP h⟩
theorem sk_sw28 {post : Int32 → St2 → Prop} {p : Nat} {w : Int64} (h : sk_GI X (p + 1) pn a3 a4 a5 a6 a8 a9 a10) (h9 : 9 ≤ p)
    (hm : ∀ pn' b7 b8 b9 b10 (lc' cl' mv' ts' lv' fa' : Int32) (b11 b12 b13 b14 b15 b16 : Nat → Int32), sk_GI X (p + 1) pn' a3 a4 a5 a6 b8 b9 b10 → post (-1) (ct, (nI (p+1)), pn', lc', cl', mv', ts', lv', fa', a1, a2, a3, a4, a5, a6, b7, b8, b9, b10, b11, b12, b13, b14, b15, b16, a17, a18))
    (hc : ∀ e (lc' cl' mv' ts' lv' fa' : Int32) (b11 b12 b13 b14 b15 b16 : Nat → Int32), e < 2 * p → (∀ v, sk_co (p + 1) a3 a4 v → sk_ev v e = v p) → post (nI e) (ct, (nI (p+1)), pn, lc', cl', mv', ts', lv', fa', a1, a2, a3, a4, a5, a6, a7, a8, a9, a10, b11, b12, b13, b14, b15, b16, a17, a18)) :
    ∀ (n : Nat) (x5 x6 : Int32) (lc' cl' mv' ts' lv' fa' : Int32) (b11 b12 b13 b14 b15 b16 : Nat → Int32), (x6 = -1 ∧ 1 ≤ n ∨ ∃ q, x6 = nI q ∧ q < p + 1 ∧ q + 2 ≤ n) → wX_sweep_28 post (nI p) w n x5 x6 ct (nI (p+1)) pn lc' cl' mv' ts' lv' fa' a1 a2 a3 a4 a5 a6 a7 a8 a9 a10 b11 b12 b13 b14 b15 b16 a17 a18 := by
  obtain ⟨g1, g2, g3, ⟨k, hk, g4⟩, g5, g6, g7⟩ := h
  intro n
  induction n with
  | zero =>
    intro x5 x6 lc' cl' mv' ts' lv' fa' b11 b12 b13 b14 b15 b16 hx
    rcases hx with ⟨_, z⟩ | ⟨q, _, _, z⟩ <;> omega
  | succ n ih =>
    intro x5 x6 lc' cl' mv' ts' lv' fa' b11 b12 b13 b14 b15 b16 hx
    rcases hx with ⟨e, _⟩ | ⟨q, e, hq, hn⟩
    · subst e
      refine br_t (by decide) (br_c (fun _ => hm _ _ _ _ _ _ _ _ _ _ _ _ _ _ _ _ _ ⟨g1, g2, g3, ⟨k, hk, g4⟩, g5, g6, g7⟩) (fun _ => ?_))
      subst g4
      exact sk_learn hk g5 g3 (fun k' b7 b8 b9 b10 hk' hL => hm _ _ _ _ _ _ _ _ _ _ _ _ _ _ _ _ _ ⟨g1, g2, g3, ⟨k', hk', rfl⟩, g5, g6, hL⟩)
    · subst e
      have R : ∀ (x5 : Int32) (lc' cl' mv' ts' lv' fa' : Int32) (b11 b12 b13 b14 b15 b16 : Nat → Int32), ∀ z, z = a10 q → wX_sweep_28 post (nI p) w n x5 z ct (nI (p+1)) pn lc' cl' mv' ts' lv' fa' a1 a2 a3 a4 a5 a6 a7 a8 a9 a10 b11 b12 b13 b14 b15 b16 a17 a18 := by
        intro x5 lc' cl' mv' ts' lv' fa' b11 b12 b13 b14 b15 b16 z hz
        refine ih x5 z _ _ _ _ _ _ _ _ _ _ _ _ ?_
        rcases g7.2 q hq with y | ⟨q', q1, q2, _⟩
        · exact Or.inl ⟨by rw [hz, y], by omega⟩
        · exact Or.inr ⟨q', by rw [hz, q2], by omega, by omega⟩
      refine br_f (nI_pos (by omega)) ?_
      rw [nI_clamp (show q < 2 ^ 31 by omega)]
      refine pk_le p q (fun _ => ⟨pk_in q 2560 (by omega), R _ _ _ _ _ _ _ _ _ _ _ _ _⟩) (fun hqp => ⟨pk_in q 2560 (by omega), sk_neutral (br_c (fun _ => ⟨pk_in q 2560 (by omega), pk_in p 2560 (by omega), ?_⟩) (fun _ => ⟨pk_in q 2560 (by omega), R _ _ _ _ _ _ _ _ _ _ _ _ _⟩))⟩)
      have S : ∀ z : Nat, z < 2 → wX_sweep_80 post (wX_sweep_28 post (nI p) w n) (nI p) w (nI q) (nI z) (2 * nI q) ct (nI (p+1)) pn lc' cl' mv' ts' lv' fa' a1 a2 a3 a4 a5 a6 a7 a8 a9 a10 b11 b12 b13 b14 b15 b16 a17 a18 := by
        intro z hz
        unfold wX_sweep_80
        have e1 : (2 : Int32) * nI q + nI z = nI (2 * q + z) := by rw [show (2 : Int32) * nI q = nI (2 * q) from pk_mul 2 q, nI_add]
        refine nm_r e1 ?_
        rw [sk_xor1, show (2 : Int32) * nI p = nI (2 * p) from pk_mul 2 p, nI_1 (2 * p)]
        have R2 : ∀ (lc' cl' mv' ts' lv' fa' : Int32) (b11 b12 b13 b14 b15 b16 : Nat → Int32), wX_sweep_114 post (wX_sweep_28 post (nI p) w n) (nI p) w (nI q) ct (nI (p+1)) pn lc' cl' mv' ts' lv' fa' a1 a2 a3 a4 a5 a6 a7 a8 a9 a10 b11 b12 b13 b14 b15 b16 a17 a18 := by
          intro lc' cl' mv' ts' lv' fa' b11 b12 b13 b14 b15 b16
          unfold wX_sweep_114
          rw [nI_clamp (show q < 2 ^ 31 by omega)]
          exact ⟨pk_in q 2560 (by omega), R _ _ _ _ _ _ _ _ _ _ _ _ _⟩
        refine sk_search g5 g3 (by omega) (by rw [sk_ng_div]; omega) (fun u1 lc' cl' mv' ts' lv' fa' b11 b12 b13 b14 b15 b16 => br_t rfl ?_) (fun lc' cl' mv' ts' lv' fa' b11 b12 b13 b14 b15 b16 => br_f (by decide) (R2 _ _ _ _ _ _ _ _ _ _ _ _))
        refine sk_search g5 g3 (by omega) (by omega) (fun u2 lc' cl' mv' ts' lv' fa' b11 b12 b13 b14 b15 b16 => br_t rfl ?_) (fun lc' cl' mv' ts' lv' fa' b11 b12 b13 b14 b15 b16 => br_f (by decide) (R2 _ _ _ _ _ _ _ _ _ _ _ _))
        refine hc (2 * q + z) _ _ _ _ _ _ _ _ _ _ _ _ (by omega) (fun v hv => ?_)
        have w1 := u1 v hv
        have w2 := u2 v hv
        rw [sk_ev_2, sk_ev_ng] at w1
        rw [sk_ev_21] at w2
        revert w1 w2
        cases sk_ev v (2 * q + z) <;> cases v p <;> simp
      rw [nI_clamp (show p < 2 ^ 31 by omega)]
      exact br_c (fun _ => S 0 (by omega)) (fun _ => S 1 (by omega))
theorem sk_sweep {post : Int32 → St2 → Prop} {p : Nat} (h : sk_GI X (p + 1) pn a3 a4 a5 a6 a8 a9 a10) (h9 : 9 ≤ p)
    (hm : ∀ pn' b7 b8 b9 b10 (lc' cl' mv' ts' lv' fa' : Int32) (b11 b12 b13 b14 b15 b16 : Nat → Int32), sk_GI X (p + 1) pn' a3 a4 a5 a6 b8 b9 b10 → post (-1) (ct, (nI (p+1)), pn', lc', cl', mv', ts', lv', fa', a1, a2, a3, a4, a5, a6, b7, b8, b9, b10, b11, b12, b13, b14, b15, b16, a17, a18))
    (hc : ∀ e (lc' cl' mv' ts' lv' fa' : Int32) (b11 b12 b13 b14 b15 b16 : Nat → Int32), e < 2 * p → (∀ v, sk_co (p + 1) a3 a4 v → sk_ev v e = v p) → post (nI e) (ct, (nI (p+1)), pn, lc', cl', mv', ts', lv', fa', a1, a2, a3, a4, a5, a6, a7, a8, a9, a10, b11, b12, b13, b14, b15, b16, a17, a18)) :
    wpX_sweep post (ct, (nI (p+1)), pn, lc, cl, mv, ts, lv, fa, a1, a2, a3, a4, a5, a6, a7, a8, a9, a10, a11, a12, a13, a14, a15, a16, a17, a18) (nI p) := by
  have hP := h.2.2.1
  have hL := h.2.2.2.2.2.2
  unfold wpX_sweep
  dsimp only
  rw [nI_clamp (show p < 2 ^ 31 by omega)]
  have hml := sk_mL_lt (sk_nL (a8 p))
  refine ⟨pk_in p 2560 (by omega), sk_neutral (sk_mL_wp ⟨pk_in _ 1024 hml, ?_⟩)⟩
  rw [nI_clamp (show sk_mL (sk_nL (a8 p)) < 2 ^ 31 by omega)]
  refine nm_e ⟨p + 3, sk_sw28 h h9 hm hc (p + 3) _ _ _ _ _ _ _ _ _ _ _ _ _ _ ?_⟩
  rcases hL.1 _ hml with z | ⟨q, q1, q2, _⟩
  · exact Or.inl ⟨z, by omega⟩
  · exact Or.inr ⟨q, q2, q1, by omega⟩
/-- an end that is always an end of the graph can't be an input that no part has -/
theorem sk_noX {l r : Nat → Int32} {e : Nat} (hX : ∀ i, X i → 1 ≤ i ∧ i ≤ 8) (h9 : 9 ≤ P) (hg : sk_GW X (P + 1) l r) (h : ∀ v, sk_co (P + 1) l r v → sk_ev v e = v P) : ¬ X (e / 2) := by
  intro hx
  have hi := hX _ hx
  obtain ⟨v, hv, _⟩ := sk_co_ex (fun _ => true) (P + 1) hg
  have hw : sk_co (P + 1) l r (fun q => if q = e / 2 then !v q else v q) := by
    refine ⟨?_, fun p p9 hp => ?_⟩
    · show (if 0 = e / 2 then !v 0 else v 0) = false
      rw [if_neg (by omega)]
      exact hv.1
    · obtain ⟨⟨_, _, l3⟩, ⟨_, _, r3⟩⟩ := hg p p9 hp
      have el : ∀ c, ¬ X (c / 2) → sk_ev (fun q => if q = e / 2 then !v q else v q) c = sk_ev v c := by
        intro c hc
        apply sk_ev_c
        show (if c / 2 = e / 2 then !v (c / 2) else v (c / 2)) = v (c / 2)
        rw [if_neg (fun z => hc (by rw [z]; exact hx))]
      rw [el _ l3, el _ r3]
      show (if p = e / 2 then !v p else v p) = _
      rw [if_neg (by omega)]
      exact hv.2 p p9 hp
  have e1 := h v hv
  have e2 := h _ hw
  have e3 : sk_ev (fun q => if q = e / 2 then !v q else v q) e = !sk_ev v e := by
    unfold sk_ev
    show Bool.xor (if e / 2 = e / 2 then !v (e / 2) else v (e / 2)) _ = _
    rw [if_pos rfl]
    cases v (e / 2) <;> cases decide (e % 2 = 1) <;> rfl
  rw [e3, e1] at e2
  have e4 : (if P = e / 2 then !v P else v P) = v P := if_neg (by omega)
  have e5 : (!v P) = (if P = e / 2 then !v P else v P) := e2
  rw [e4] at e5
  cases hb : v P <;> rw [hb] at e5 <;> exact absurd e5 (by decide)
/-- the graph has grown by at most n parts -/
def sk_GS (X : Nat → Prop) (n P : Nat) (a3 a4 : Nat → Int32) (P' : Nat) (pn' : Int32) (b3 b4 b5 b6 : Nat → Int32) (b8 : Nat → Int64) (b9 b10 : Nat → Int32) : Prop :=
  sk_GI X P' pn' b3 b4 b5 b6 b8 b9 b10 ∧ P ≤ P' ∧ P' ≤ P + n ∧ (∀ p, p < P → b3 p = a3 p ∧ b4 p = a4 p)
/-- an end and what it is -/
def sk_RE (X : Nat → Prop) (P : Nat) (a3 a4 : Nat → Int32) (e : Nat) (f : (Nat → Bool) → Bool) : Prop := e < 2 * P ∧ ¬ X (e / 2) ∧ ∀ v, sk_co P a3 a4 v → sk_ev v e = f v
theorem sk_RE_up {n P' : Nat} {pn' : Int32} {b3 b4 b5 b6 : Nat → Int32} {b8 : Nat → Int64} {b9 b10 : Nat → Int32} {e : Nat} {f : (Nat → Bool) → Bool} (h : sk_GS X n P a3 a4 P' pn' b3 b4 b5 b6 b8 b9 b10) (he : sk_RE X P a3 a4 e f) : sk_RE X P' b3 b4 e f := by
  obtain ⟨_, h2, _, h4⟩ := h
  obtain ⟨e1, e2, e3⟩ := he
  exact ⟨by omega, e2, fun v hv => e3 v (sk_co_le hv h2 h4)⟩
theorem sk_RE_ng {e : Nat} {f : (Nat → Bool) → Bool} (he : sk_RE X P a3 a4 e f) : sk_RE X P a3 a4 (sk_ng e) (fun v => !f v) := by
  obtain ⟨e1, e2, e3⟩ := he
  exact ⟨sk_ng_lt e1, by rw [sk_ng_div]; exact e2, fun v hv => by rw [sk_ev_ng, e3 v hv]⟩
theorem sk_RE_f {e : Nat} {f g : (Nat → Bool) → Bool} (he : sk_RE X P a3 a4 e f) (h : ∀ v, f v = g v) : sk_RE X P a3 a4 e g := ⟨he.1, he.2.1, fun v hv => by rw [he.2.2 v hv, h v]⟩
theorem sk_and21 {post : Int32 → St2 → Prop} {x y : Nat} (h : sk_GI X P pn a3 a4 a5 a6 a8 a9 a10) (hP : P < 2560) (hx : x < 2 * P) (hy : y < 2 * P) (xX : ¬ X (x / 2)) (yX : ¬ X (y / 2))
    (hp : ∀ e (P' : Nat) (pn' : Int32) (b3 b4 b5 b6 b7 : Nat → Int32) (b8 : Nat → Int64) (b9 b10 : Nat → Int32) (lc' cl' mv' ts' lv' fa' : Int32) (b11 b12 b13 b14 b15 b16 : Nat → Int32), sk_GS X 1 P a3 a4 P' pn' b3 b4 b5 b6 b8 b9 b10 → sk_RE X P' b3 b4 e (fun v => sk_ev v x && sk_ev v y) → post (nI e) (ct, (nI P'), pn', lc', cl', mv', ts', lv', fa', a1, a2, b3, b4, b5, b6, b7, b8, b9, b10, b11, b12, b13, b14, b15, b16, a17, a18)) :
    wX_and_21 post (nI x) (nI y) ct (nI P) pn lc cl mv ts lv fa a1 a2 a3 a4 a5 a6 a7 a8 a9 a10 a11 a12 a13 a14 a15 a16 a17 a18 := by
  have hGI := h
  obtain ⟨g1, g2, g3, g4, g5, g6, g7⟩ := h
  have A : ∀ r : Int32, sk_R X P a3 a4 x y r → wX_and_47 post (nI x) (nI y) r ct (nI P) pn lc cl mv ts lv fa a1 a2 a3 a4 a5 a6 a7 a8 a9 a10 a11 a12 a13 a14 a15 a16 a17 a18 := by
    intro r hr
    unfold wX_and_47
    refine br_c (fun _ => ?_) (fun hn => ?_)
    · refine sk_addPart hGI hP hx hy xX yX (fun b3 b4 b5 b6 b8 b9 b10 hG hs h3 h4 => ?_)
      have hg' := hG.2.2.2.2.1
      have n3 : sk_nt (b3 P) = x := by rw [h3, sk_nt_nI (by omega)]
      have n4 : sk_nt (b4 P) = y := by rw [h4, sk_nt_nI (by omega)]
      refine sk_sweep hG g2 (fun pn' c7 c8 c9 c10 lc' cl' mv' ts' lv' fa' b11 b12 b13 b14 b15 b16 hG2 => br_t rfl ?_) (fun e lc' cl' mv' ts' lv' fa' b11 b12 b13 b14 b15 b16 he hv => br_f (sk_nm1 (by omega)) ?_)
      · rw [show (2 : Int32) * nI P = nI (2 * P) from pk_mul 2 P]
        refine hp (2 * P) (P + 1) pn' b3 b4 b5 b6 c7 c8 c9 c10 _ _ _ _ _ _ _ _ _ _ _ _ ⟨hG2, by omega, by omega, hs⟩ ⟨by omega, fun z => ?_, fun v hv => ?_⟩
        · have := g1 _ z
          omega
        · rw [sk_ev_2, hv.2 P g2 (by omega), n3, n4]
      · refine sk_backTo g2 (by omega) hG (fun c5 c9 hG2 => ?_)
        refine hp e P pn b3 b4 c5 b6 _ b8 c9 b10 _ _ _ _ _ _ _ _ _ _ _ _ ⟨hG2, by omega, by omega, hs⟩ ⟨he, sk_noX g1 g2 hg' hv, fun v hvc => ?_⟩
        obtain ⟨w, w1, w2, w3⟩ := sk_co_up hg' g2 hvc
        have e1 := hv w w1
        rw [w3, n3, n4] at e1
        show sk_ev v e = (sk_ev v x && sk_ev v y)
        rw [← e1]
        exact sk_ev_c (w2 _ (by omega)).symm
    · rcases hr with z | ⟨e, e1, e2, e3, e4⟩
      · exact absurd z hn
      · rw [e1]
        exact hp e P pn a3 a4 a5 a6 _ a8 a9 a10 _ _ _ _ _ _ _ _ _ _ _ _ ⟨hGI, by omega, by omega, fun p _ => ⟨rfl, rfl⟩⟩ ⟨e2, e3, e4⟩
  unfold wX_and_21
  refine sk_byLaws g3 (by omega) g5 g6 g1 hx hy xX yX (fun r hr => br_c (fun _ => ?_) (fun _ => A r hr))
  exact sk_found g3 g5 g6 g1 hx hy (fun r hr => A r hr)
theorem sk_and {post : Int32 → St2 → Prop} {x y : Nat} {fx fy : (Nat → Bool) → Bool} (h : sk_GI X P pn a3 a4 a5 a6 a8 a9 a10) (hP : P < 2560) (hx : sk_RE X P a3 a4 x fx) (hy : sk_RE X P a3 a4 y fy)
    (hp : ∀ e (P' : Nat) (pn' : Int32) (b3 b4 b5 b6 b7 : Nat → Int32) (b8 : Nat → Int64) (b9 b10 : Nat → Int32) (lc' cl' mv' ts' lv' fa' : Int32) (b11 b12 b13 b14 b15 b16 : Nat → Int32), sk_GS X 1 P a3 a4 P' pn' b3 b4 b5 b6 b8 b9 b10 → sk_RE X P' b3 b4 e (fun v => fx v && fy v) → post (nI e) (ct, (nI P'), pn', lc', cl', mv', ts', lv', fa', a1, a2, b3, b4, b5, b6, b7, b8, b9, b10, b11, b12, b13, b14, b15, b16, a17, a18)) :
    wpX_and post (ct, (nI P), pn, lc, cl, mv, ts, lv, fa, a1, a2, a3, a4, a5, a6, a7, a8, a9, a10, a11, a12, a13, a14, a15, a16, a17, a18) (nI x) (nI y) := by
  obtain ⟨x1, x2, x3⟩ := hx
  obtain ⟨y1, y2, y3⟩ := hy
  have A : wX_and_21 post (nI x) (nI y) ct (nI P) pn lc cl mv ts lv fa a1 a2 a3 a4 a5 a6 a7 a8 a9 a10 a11 a12 a13 a14 a15 a16 a17 a18 := by
    refine sk_and21 h hP x1 y1 x2 y2 (fun e P' pn' b3 b4 b5 b6 b7 b8 b9 b10 lc' cl' mv' ts' lv' fa' b11 b12 b13 b14 b15 b16 hG hR => hp e _ _ _ _ _ _ _ _ _ _ _ _ _ _ _ _ _ _ _ _ _ _ hG ⟨hR.1, hR.2.1, fun v hv => ?_⟩)
    have hv2 := sk_co_le hv hG.2.1 hG.2.2.2
    rw [hR.2.2 v hv]
    show (sk_ev v x && sk_ev v y) = (fx v && fy v)
    rw [x3 v hv2, y3 v hv2]
  have B : wX_and_21 post (nI y) (nI x) ct (nI P) pn lc cl mv ts lv fa a1 a2 a3 a4 a5 a6 a7 a8 a9 a10 a11 a12 a13 a14 a15 a16 a17 a18 := by
    refine sk_and21 h hP y1 x1 y2 x2 (fun e P' pn' b3 b4 b5 b6 b7 b8 b9 b10 lc' cl' mv' ts' lv' fa' b11 b12 b13 b14 b15 b16 hG hR => hp e _ _ _ _ _ _ _ _ _ _ _ _ _ _ _ _ _ _ _ _ _ _ hG ⟨hR.1, hR.2.1, fun v hv => ?_⟩)
    have hv2 := sk_co_le hv hG.2.1 hG.2.2.2
    rw [hR.2.2 v hv]
    show (sk_ev v y && sk_ev v x) = (fx v && fy v)
    rw [x3 v hv2, y3 v hv2, Bool.and_comm]
  unfold wpX_and
  dsimp only
  unfold wX_and_10
  exact pk_le y x (fun z => pk_le y x (fun _ => B) (fun w => absurd w (by omega))) (fun z => pk_le y x (fun w => absurd w (by omega)) (fun _ => A))
end
end
section
section
variable {ct pt pn lc cl mv ts lv fa : Int32} {a1 a2 a3 a4 a5 a6 a7 : Nat → Int32} {a8 : Nat → Int64} {a9 a10 a11 a12 a13 a14 a15 a16 a17 a18 : Nat → Int32}
variable {X : Nat → Prop} {P : Nat}
theorem sk_GS_t {n k P' P'' : Nat} {pn' pn'' : Int32} {b3 b4 b5 b6 c3 c4 c5 c6 : Nat → Int32} {b8 c8 : Nat → Int64} {b9 b10 c9 c10 : Nat → Int32} (h : sk_GS X n P a3 a4 P' pn' b3 b4 b5 b6 b8 b9 b10) (g : sk_GS X k P' b3 b4 P'' pn'' c3 c4 c5 c6 c8 c9 c10) :
    sk_GS X (n + k) P a3 a4 P'' pn'' c3 c4 c5 c6 c8 c9 c10 := by
  obtain ⟨_, h2, h3, h4⟩ := h
  obtain ⟨g1, g2, g3, g4⟩ := g
  exact ⟨g1, by omega, by omega, fun p hp => ⟨by rw [(g4 p (by omega)).1, (h4 p hp).1], by rw [(g4 p (by omega)).2, (h4 p hp).2]⟩⟩
theorem sk_GS_n {n k P' : Nat} {pn' : Int32} {b3 b4 b5 b6 : Nat → Int32} {b8 : Nat → Int64} {b9 b10 : Nat → Int32} (h : sk_GS X n P a3 a4 P' pn' b3 b4 b5 b6 b8 b9 b10) (hk : n ≤ k) : sk_GS X k P a3 a4 P' pn' b3 b4 b5 b6 b8 b9 b10 :=
  ⟨h.1, h.2.1, by have := h.2.2.1; omega, h.2.2.2⟩
theorem sk_GS_r (h : sk_GI X P pn a3 a4 a5 a6 a8 a9 a10) (n : Nat) : sk_GS X n P a3 a4 P pn a3 a4 a5 a6 a8 a9 a10 := ⟨h, by omega, by omega, fun _ _ => ⟨rfl, rfl⟩⟩
theorem sk_or {post : Int32 → St2 → Prop} {x y : Nat} {fx fy : (Nat → Bool) → Bool} (h : sk_GI X P pn a3 a4 a5 a6 a8 a9 a10) (hP : P < 2560) (hx : sk_RE X P a3 a4 x fx) (hy : sk_RE X P a3 a4 y fy)
    (hp : ∀ e (P' : Nat) (pn' : Int32) (b3 b4 b5 b6 b7 : Nat → Int32) (b8 : Nat → Int64) (b9 b10 : Nat → Int32) (lc' cl' mv' ts' lv' fa' : Int32) (b11 b12 b13 b14 b15 b16 : Nat → Int32), sk_GS X 1 P a3 a4 P' pn' b3 b4 b5 b6 b8 b9 b10 → sk_RE X P' b3 b4 e (fun v => fx v || fy v) → post (nI e) (ct, (nI P'), pn', lc', cl', mv', ts', lv', fa', a1, a2, b3, b4, b5, b6, b7, b8, b9, b10, b11, b12, b13, b14, b15, b16, a17, a18)) :
    wpX_or post (ct, (nI P), pn, lc, cl, mv, ts, lv, fa, a1, a2, a3, a4, a5, a6, a7, a8, a9, a10, a11, a12, a13, a14, a15, a16, a17, a18) (nI x) (nI y) := by
  unfold wpX_or
  dsimp only
  rw [sk_xor1, sk_xor1]
  refine sk_and h hP (sk_RE_ng hx) (sk_RE_ng hy) (fun e P' pn' b3 b4 b5 b6 b7 b8 b9 b10 lc' cl' mv' ts' lv' fa' b11 b12 b13 b14 b15 b16 hG hR => ?_)
  dsimp only
  rw [sk_xor1]
  exact hp _ _ _ _ _ _ _ _ _ _ _ _ _ _ _ _ _ _ _ _ _ _ _ hG (sk_RE_f (sk_RE_ng hR) (fun v => by cases fx v <;> cases fy v <;> rfl))
theorem sk_xorG {post : Int32 → St2 → Prop} {x y : Nat} {fx fy : (Nat → Bool) → Bool} (h : sk_GI X P pn a3 a4 a5 a6 a8 a9 a10) (hP : P + 3 ≤ 2560) (hx : sk_RE X P a3 a4 x fx) (hy : sk_RE X P a3 a4 y fy)
    (hp : ∀ e (P' : Nat) (pn' : Int32) (b3 b4 b5 b6 b7 : Nat → Int32) (b8 : Nat → Int64) (b9 b10 : Nat → Int32) (lc' cl' mv' ts' lv' fa' : Int32) (b11 b12 b13 b14 b15 b16 : Nat → Int32), sk_GS X 3 P a3 a4 P' pn' b3 b4 b5 b6 b8 b9 b10 → sk_RE X P' b3 b4 e (fun v => Bool.xor (fx v) (fy v)) → post (nI e) (ct, (nI P'), pn', lc', cl', mv', ts', lv', fa', a1, a2, b3, b4, b5, b6, b7, b8, b9, b10, b11, b12, b13, b14, b15, b16, a17, a18)) :
    wpX_xor post (ct, (nI P), pn, lc, cl, mv, ts, lv, fa, a1, a2, a3, a4, a5, a6, a7, a8, a9, a10, a11, a12, a13, a14, a15, a16, a17, a18) (nI x) (nI y) := by
  unfold wpX_xor
  dsimp only
  rw [sk_xor1, sk_xor1]
  refine sk_and h (by omega) hx (sk_RE_ng hy) (fun e1 P' pn' b3 b4 b5 b6 b7 b8 b9 b10 lc' cl' mv' ts' lv' fa' b11 b12 b13 b14 b15 b16 hG1 hR1 => ?_)
  have u1 := hG1.2.2.1
  refine sk_and hG1.1 (by omega) (sk_RE_up hG1 (sk_RE_ng hx)) (sk_RE_up hG1 hy) (fun e2 P' pn' b3 b4 b5 b6 b7 b8 b9 b10 lc' cl' mv' ts' lv' fa' b11 b12 b13 b14 b15 b16 hG2 hR2 => ?_)
  have u2 := hG2.2.2.1
  refine sk_or hG2.1 (by omega) (sk_RE_up hG2 hR1) hR2 (fun e3 P' pn' b3 b4 b5 b6 b7 b8 b9 b10 lc' cl' mv' ts' lv' fa' b11 b12 b13 b14 b15 b16 hG3 hR3 => ?_)
  exact hp _ _ _ _ _ _ _ _ _ _ _ _ _ _ _ _ _ _ _ _ _ _ _ (sk_GS_t (sk_GS_t hG1 hG2) hG3) (sk_RE_f hR3 (fun v => by cases fx v <;> cases fy v <;> rfl))
theorem sk_choose {post : Int32 → St2 → Prop} {x y z : Nat} {fx fy fz : (Nat → Bool) → Bool} (h : sk_GI X P pn a3 a4 a5 a6 a8 a9 a10) (hP : P + 3 ≤ 2560) (hx : sk_RE X P a3 a4 x fx) (hy : sk_RE X P a3 a4 y fy) (hz : sk_RE X P a3 a4 z fz)
    (hp : ∀ e (P' : Nat) (pn' : Int32) (b3 b4 b5 b6 b7 : Nat → Int32) (b8 : Nat → Int64) (b9 b10 : Nat → Int32) (lc' cl' mv' ts' lv' fa' : Int32) (b11 b12 b13 b14 b15 b16 : Nat → Int32), sk_GS X 3 P a3 a4 P' pn' b3 b4 b5 b6 b8 b9 b10 → sk_RE X P' b3 b4 e (fun v => (fx v && fy v) || (!fx v && fz v)) → post (nI e) (ct, (nI P'), pn', lc', cl', mv', ts', lv', fa', a1, a2, b3, b4, b5, b6, b7, b8, b9, b10, b11, b12, b13, b14, b15, b16, a17, a18)) :
    wpX_choose post (ct, (nI P), pn, lc, cl, mv, ts, lv, fa, a1, a2, a3, a4, a5, a6, a7, a8, a9, a10, a11, a12, a13, a14, a15, a16, a17, a18) (nI x) (nI y) (nI z) := by
  unfold wpX_choose
  dsimp only
  rw [sk_xor1]
  refine sk_and h (by omega) hx hy (fun e1 P' pn' b3 b4 b5 b6 b7 b8 b9 b10 lc' cl' mv' ts' lv' fa' b11 b12 b13 b14 b15 b16 hG1 hR1 => ?_)
  have u1 := hG1.2.2.1
  refine sk_and hG1.1 (by omega) (sk_RE_up hG1 (sk_RE_ng hx)) (sk_RE_up hG1 hz) (fun e2 P' pn' b3 b4 b5 b6 b7 b8 b9 b10 lc' cl' mv' ts' lv' fa' b11 b12 b13 b14 b15 b16 hG2 hR2 => ?_)
  have u2 := hG2.2.2.1
  refine sk_or hG2.1 (by omega) (sk_RE_up hG2 hR1) hR2 (fun e3 P' pn' b3 b4 b5 b6 b7 b8 b9 b10 lc' cl' mv' ts' lv' fa' b11 b12 b13 b14 b15 b16 hG3 hR3 => ?_)
  exact hp _ _ _ _ _ _ _ _ _ _ _ _ _ _ _ _ _ _ _ _ _ _ _ (sk_GS_t (sk_GS_t hG1 hG2) hG3) hR3
theorem sk_majority {post : Int32 → St2 → Prop} {x y z : Nat} {fx fy fz : (Nat → Bool) → Bool} (h : sk_GI X P pn a3 a4 a5 a6 a8 a9 a10) (hP : P + 4 ≤ 2560) (hx : sk_RE X P a3 a4 x fx) (hy : sk_RE X P a3 a4 y fy) (hz : sk_RE X P a3 a4 z fz)
    (hp : ∀ e (P' : Nat) (pn' : Int32) (b3 b4 b5 b6 b7 : Nat → Int32) (b8 : Nat → Int64) (b9 b10 : Nat → Int32) (lc' cl' mv' ts' lv' fa' : Int32) (b11 b12 b13 b14 b15 b16 : Nat → Int32), sk_GS X 4 P a3 a4 P' pn' b3 b4 b5 b6 b8 b9 b10 → sk_RE X P' b3 b4 e (fun v => (fx v && fy v) || ((fx v || fy v) && fz v)) → post (nI e) (ct, (nI P'), pn', lc', cl', mv', ts', lv', fa', a1, a2, b3, b4, b5, b6, b7, b8, b9, b10, b11, b12, b13, b14, b15, b16, a17, a18)) :
    wpX_majority post (ct, (nI P), pn, lc, cl, mv, ts, lv, fa, a1, a2, a3, a4, a5, a6, a7, a8, a9, a10, a11, a12, a13, a14, a15, a16, a17, a18) (nI x) (nI y) (nI z) := by
  unfold wpX_majority
  dsimp only
  refine sk_and h (by omega) hx hy (fun e1 P' pn' b3 b4 b5 b6 b7 b8 b9 b10 lc' cl' mv' ts' lv' fa' b11 b12 b13 b14 b15 b16 hG1 hR1 => ?_)
  have u1 := hG1.2.2.1
  refine sk_or hG1.1 (by omega) (sk_RE_up hG1 hx) (sk_RE_up hG1 hy) (fun e2 P' pn' b3 b4 b5 b6 b7 b8 b9 b10 lc' cl' mv' ts' lv' fa' b11 b12 b13 b14 b15 b16 hG2 hR2 => ?_)
  have u2 := hG2.2.2.1
  refine sk_and hG2.1 (by omega) hR2 (sk_RE_up hG2 (sk_RE_up hG1 hz)) (fun e3 P' pn' b3 b4 b5 b6 b7 b8 b9 b10 lc' cl' mv' ts' lv' fa' b11 b12 b13 b14 b15 b16 hG3 hR3 => ?_)
  have u3 := hG3.2.2.1
  refine sk_or hG3.1 (by omega) (sk_RE_up hG3 (sk_RE_up hG2 hR1)) hR3 (fun e4 P' pn' b3 b4 b5 b6 b7 b8 b9 b10 lc' cl' mv' ts' lv' fa' b11 b12 b13 b14 b15 b16 hG4 hR4 => ?_)
  exact hp _ _ _ _ _ _ _ _ _ _ _ _ _ _ _ _ _ _ _ _ _ _ _ (sk_GS_t (sk_GS_t (sk_GS_t hG1 hG2) hG3) hG4) hR4
/-- what a gate is -/
def sk_gf (k : Nat) (x y z : Bool) : Bool :=
  match k with
  | 0 => x && y
  | 1 => x || y
  | 2 => Bool.xor x y
  | 3 => !(x && y)
  | 4 => !(x || y)
  | 5 => !(Bool.xor x y)
  | 6 => !(x && !y)
  | 7 => (x && y) || (!x && z)
  | 8 => (x && y) || ((x || y) && z)
  | _ => Bool.xor (Bool.xor x y) z
theorem sk_and_same {post : Int32 → St2 → Prop} {x : Nat} (h2 : 2 ≤ x) (hx : x < 2 ^ 31) (hp : post (nI x) (ct, pt, pn, lc, cl, mv, ts, lv, fa, a1, a2, a3, a4, a5, a6, a7, a8, a9, a10, a11, a12, a13, a14, a15, a16, a17, a18)) : wpX_and post (ct, pt, pn, lc, cl, mv, ts, lv, fa, a1, a2, a3, a4, a5, a6, a7, a8, a9, a10, a11, a12, a13, a14, a15, a16, a17, a18) (nI x) (nI x) := by
  have hn : sk_ng x < 2 ^ 31 := by unfold sk_ng; split <;> omega
  have A : wX_and_21 post (nI x) (nI x) ct pt pn lc cl mv ts lv fa a1 a2 a3 a4 a5 a6 a7 a8 a9 a10 a11 a12 a13 a14 a15 a16 a17 a18 := by
    unfold wX_and_21
    unfold wpX_byLaws
    dsimp only
    rw [sk_xor1]
    refine pk_eq x 0 (fun z => absurd z (by omega)) (fun _ => pk_eq x 0 (fun z => absurd z (by omega)) (fun _ => pk_eq x (sk_ng x) (fun z => ?_) (fun _ => pk_eq x 1 (fun z => absurd z (by omega)) (fun _ => br_t rfl (br_f (sk_nm1 hx) ?_)))))
    · have := sk_ng_mod x
      rw [← z] at this
      omega
    · unfold wX_and_47
      exact br_f (sk_nm1 hx) hp
  unfold wpX_and
  dsimp only
  unfold wX_and_10
  exact pk_le x x (fun z => pk_le x x (fun _ => A) (fun w => absurd w (by omega))) (fun z => absurd z (by omega))
theorem sk_endFor {post : Int32 → St2 → Prop} {k x y z : Nat} {fx fy fz : (Nat → Bool) → Bool} (h : sk_GI X P pn a3 a4 a5 a6 a8 a9 a10) (hP : P + 6 ≤ 2560) (hk : k ≤ 9) (hx2 : 2 ≤ x) (hx : sk_RE X P a3 a4 x fx) (hy : sk_RE X P a3 a4 y fy) (hz : sk_RE X P a3 a4 z fz)
    (hp : ∀ e (P' : Nat) (pn' : Int32) (b3 b4 b5 b6 b7 : Nat → Int32) (b8 : Nat → Int64) (b9 b10 : Nat → Int32) (lc' cl' mv' ts' lv' fa' : Int32) (b11 b12 b13 b14 b15 b16 : Nat → Int32), sk_GS X 6 P a3 a4 P' pn' b3 b4 b5 b6 b8 b9 b10 → sk_RE X P' b3 b4 e (fun v => sk_gf k (fx v) (fy v) (fz v)) → (k ≤ 1 → x = y → e = x) → post (nI e) (ct, (nI P'), pn', lc', cl', mv', ts', lv', fa', a1, a2, b3, b4, b5, b6, b7, b8, b9, b10, b11, b12, b13, b14, b15, b16, a17, a18)) :
    wpX_endFor post (ct, (nI P), pn, lc, cl, mv, ts, lv, fa, a1, a2, a3, a4, a5, a6, a7, a8, a9, a10, a11, a12, a13, a14, a15, a16, a17, a18) (nI k) (nI x) (nI y) (nI z) := by
  have hxy : x = y → ∀ v, sk_co P a3 a4 v → fx v = fy v := fun e v hv => by rw [← hx.2.2 v hv, ← hy.2.2 v hv, e]
  have hx1 := hx.1
  unfold wpX_endFor
  dsimp only
  rw [sk_xor1]
  rcases (show k = 0 ∨ k = 1 ∨ k = 2 ∨ k = 3 ∨ k = 4 ∨ k = 5 ∨ k = 6 ∨ k = 7 ∨ k = 8 ∨ k = 9 by omega) with e | e | e | e | e | e | e | e | e | e <;> subst e
  · refine br_f (by decide) (br_f (by decide) (br_t rfl ?_))
    by_cases e : x = y
    · subst e
      refine sk_and_same hx2 (by omega) (hp x P pn a3 a4 a5 a6 a7 a8 a9 a10 _ _ _ _ _ _ _ _ _ _ _ _ (sk_GS_r h 6) ⟨hx.1, hx.2.1, fun v hv => ?_⟩ (fun _ _ => rfl))
      show _ = (fx v && fy v)
      rw [← hxy rfl v hv, Bool.and_self]
      exact hx.2.2 v hv
    · exact sk_and h (by omega) hx hy (fun e1 P' pn' b3 b4 b5 b6 b7 b8 b9 b10 lc' cl' mv' ts' lv' fa' b11 b12 b13 b14 b15 b16 hG hR => hp _ _ _ _ _ _ _ _ _ _ _ _ _ _ _ _ _ _ _ _ _ _ _ (sk_GS_n hG (by omega)) hR (fun _ z => absurd z e))
  · refine br_f (by decide) (br_f (by decide) (br_f (by decide) (br_t rfl ?_)))
    by_cases e : x = y
    · subst e
      unfold wpX_or
      dsimp only
      rw [sk_xor1]
      refine sk_and_same (by unfold sk_ng; split <;> omega) (by unfold sk_ng; split <;> omega) ?_
      dsimp only
      rw [sk_xor1, sk_ng_ng]
      refine hp x P pn a3 a4 a5 a6 a7 a8 a9 a10 _ _ _ _ _ _ _ _ _ _ _ _ (sk_GS_r h 6) ⟨hx.1, hx.2.1, fun v hv => ?_⟩ (fun _ _ => rfl)
      show _ = (fx v || fy v)
      rw [← hxy rfl v hv, Bool.or_self]
      exact hx.2.2 v hv
    · exact sk_or h (by omega) hx hy (fun e1 P' pn' b3 b4 b5 b6 b7 b8 b9 b10 lc' cl' mv' ts' lv' fa' b11 b12 b13 b14 b15 b16 hG hR => hp _ _ _ _ _ _ _ _ _ _ _ _ _ _ _ _ _ _ _ _ _ _ _ (sk_GS_n hG (by omega)) hR (fun _ z => absurd z e))
  · refine br_f (by decide) (br_f (by decide) (br_f (by decide) (br_f (by decide) (br_t rfl ?_))))
    exact sk_xorG h (by omega) hx hy (fun e1 P' pn' b3 b4 b5 b6 b7 b8 b9 b10 lc' cl' mv' ts' lv' fa' b11 b12 b13 b14 b15 b16 hG hR => hp _ _ _ _ _ _ _ _ _ _ _ _ _ _ _ _ _ _ _ _ _ _ _ (sk_GS_n hG (by omega)) hR (fun z => absurd z (by omega)))
  · refine br_f (by decide) (br_f (by decide) (br_f (by decide) (br_f (by decide) (br_f (by decide) (br_t rfl ?_)))))
    refine sk_and h (by omega) hx hy (fun e1 P' pn' b3 b4 b5 b6 b7 b8 b9 b10 lc' cl' mv' ts' lv' fa' b11 b12 b13 b14 b15 b16 hG hR => ?_)
    dsimp only
    rw [sk_xor1]
    exact hp _ _ _ _ _ _ _ _ _ _ _ _ _ _ _ _ _ _ _ _ _ _ _ (sk_GS_n hG (by omega)) (sk_RE_ng hR) (fun z => absurd z (by omega))
  · refine br_f (by decide) (br_f (by decide) (br_f (by decide) (br_f (by decide) (br_f (by decide) (br_f (by decide) (br_t rfl ?_))))))
    refine sk_or h (by omega) hx hy (fun e1 P' pn' b3 b4 b5 b6 b7 b8 b9 b10 lc' cl' mv' ts' lv' fa' b11 b12 b13 b14 b15 b16 hG hR => ?_)
    dsimp only
    rw [sk_xor1]
    exact hp _ _ _ _ _ _ _ _ _ _ _ _ _ _ _ _ _ _ _ _ _ _ _ (sk_GS_n hG (by omega)) (sk_RE_ng hR) (fun z => absurd z (by omega))
  · refine br_f (by decide) (br_f (by decide) (br_f (by decide) (br_f (by decide) (br_f (by decide) (br_f (by decide) (br_f (by decide) (br_t rfl ?_)))))))
    refine sk_xorG h (by omega) hx hy (fun e1 P' pn' b3 b4 b5 b6 b7 b8 b9 b10 lc' cl' mv' ts' lv' fa' b11 b12 b13 b14 b15 b16 hG hR => ?_)
    dsimp only
    rw [sk_xor1]
    exact hp _ _ _ _ _ _ _ _ _ _ _ _ _ _ _ _ _ _ _ _ _ _ _ (sk_GS_n hG (by omega)) (sk_RE_ng hR) (fun z => absurd z (by omega))
  · refine br_f (by decide) (br_f (by decide) (br_f (by decide) (br_f (by decide) (br_f (by decide) (br_f (by decide) (br_f (by decide) (br_f (by decide) (br_t rfl ?_))))))))
    refine sk_and h (by omega) hx (sk_RE_ng hy) (fun e1 P' pn' b3 b4 b5 b6 b7 b8 b9 b10 lc' cl' mv' ts' lv' fa' b11 b12 b13 b14 b15 b16 hG hR => ?_)
    dsimp only
    rw [sk_xor1]
    exact hp _ _ _ _ _ _ _ _ _ _ _ _ _ _ _ _ _ _ _ _ _ _ _ (sk_GS_n hG (by omega)) (sk_RE_ng hR) (fun z => absurd z (by omega))
  · refine br_f (by decide) (br_f (by decide) (br_f (by decide) (br_f (by decide) (br_f (by decide) (br_f (by decide) (br_f (by decide) (br_f (by decide) (br_f (by decide) (br_t rfl ?_)))))))))
    exact sk_choose h (by omega) hx hy hz (fun e1 P' pn' b3 b4 b5 b6 b7 b8 b9 b10 lc' cl' mv' ts' lv' fa' b11 b12 b13 b14 b15 b16 hG hR => hp _ _ _ _ _ _ _ _ _ _ _ _ _ _ _ _ _ _ _ _ _ _ _ (sk_GS_n hG (by omega)) hR (fun z => absurd z (by omega)))
  · refine br_f (by decide) (br_f (by decide) (br_f (by decide) (br_f (by decide) (br_f (by decide) (br_f (by decide) (br_f (by decide) (br_f (by decide) (br_f (by decide) (br_f (by decide) (br_t rfl ?_))))))))))
    exact sk_majority h (by omega) hx hy hz (fun e1 P' pn' b3 b4 b5 b6 b7 b8 b9 b10 lc' cl' mv' ts' lv' fa' b11 b12 b13 b14 b15 b16 hG hR => hp _ _ _ _ _ _ _ _ _ _ _ _ _ _ _ _ _ _ _ _ _ _ _ (sk_GS_n hG (by omega)) hR (fun z => absurd z (by omega)))
  · refine br_f (by decide) (br_t (by decide) ?_)
    refine sk_xorG h (by omega) hx hy (fun e1 P' pn' b3 b4 b5 b6 b7 b8 b9 b10 lc' cl' mv' ts' lv' fa' b11 b12 b13 b14 b15 b16 hG hR => ?_)
    have u1 := hG.2.2.1
    refine sk_xorG hG.1 (by omega) hR (sk_RE_up hG hz) (fun e2 P' pn' b3 b4 b5 b6 b7 b8 b9 b10 lc' cl' mv' ts' lv' fa' b11 b12 b13 b14 b15 b16 hG2 hR2 => ?_)
    exact hp _ _ _ _ _ _ _ _ _ _ _ _ _ _ _ _ _ _ _ _ _ _ _ (sk_GS_n (sk_GS_t hG hG2) (by omega)) hR2 (fun z => absurd z (by omega))
/-- a gate that is one -/
theorem sk_gate {post : Int32 → St2 → Prop} {k A B : Nat} {p3 : Int32} {fz : (Nat → Bool) → Bool} (h : sk_GI X P pn a3 a4 a5 a6 a8 a9 a10) (hP : P + 6 ≤ 2560) (hk : k ≤ 9) (hA : A < 8) (hB : B < 8) (h1 : ∀ w, w < 8 → a1 w = nI (2 * (w + 1)))
    (hXA : ¬ X (A + 1)) (hXB : ¬ X (B + 1)) (hz : (k < 7 ∧ fz = fun _ => false) ∨ (7 ≤ k ∧ ∃ D, D < 8 ∧ p3 = nI D ∧ ¬ X (D + 1) ∧ fz = fun v => v (D + 1)))
    (hp : ∀ e (P' : Nat) (pn' : Int32) (b3 b4 b5 b6 b7 : Nat → Int32) (b8 : Nat → Int64) (b9 b10 : Nat → Int32) (lc' cl' mv' ts' lv' fa' : Int32) (b11 b12 b13 b14 b15 b16 : Nat → Int32) b1 b2, sk_GS X 6 P a3 a4 P' pn' b3 b4 b5 b6 b8 b9 b10 → sk_RE X P' b3 b4 e (fun v => sk_gf k (v (A + 1)) (v (B + 1)) (fz v)) → (k ≤ 1 → A = B → e = 2 * (A + 1)) → b1 8 = nI e → (∀ w, w < 8 → b1 w = nI (2 * (w + 1))) → post 8 (9, (nI P'), pn', lc', cl', mv', ts', lv', fa', b1, b2, b3, b4, b5, b6, b7, b8, b9, b10, b11, b12, b13, b14, b15, b16, a17, a18)) :
    wpX_gate post (8, (nI P), pn, lc, cl, mv, ts, lv, fa, a1, a2, a3, a4, a5, a6, a7, a8, a9, a10, a11, a12, a13, a14, a15, a16, a17, a18) (nI k) (nI A) (nI B) p3 := by
  have hX := h.1
  have h9 := h.2.1
  have W : ∀ (post : Int32 → Prop) (w : Nat), w < 8 → post 1 → wpX_isWire post (8, (nI P), pn, lc, cl, mv, ts, lv, fa, a1, a2, a3, a4, a5, a6, a7, a8, a9, a10, a11, a12, a13, a14, a15, a16, a17, a18) (nI w) := by
    intro post w hw hpo
    unfold wpX_isWire
    dsimp only
    exact br_f (nI_pos (by omega)) (pk_le 8 w (fun z => absurd z (by omega)) (fun _ => hpo))
  have RI : ∀ w, w < 8 → ¬ X (w + 1) → sk_RE X P a3 a4 (2 * (w + 1)) (fun v => v (w + 1)) := fun w hw hXw => ⟨by omega, by rw [show 2 * (w + 1) / 2 = w + 1 by omega]; exact hXw, fun v _ => sk_ev_2 v (w + 1)⟩
  have G : ∀ z, sk_RE X P a3 a4 z fz → wX_gate_72 post (nI k) (nI A) (nI B) (nI z) 8 (nI P) pn lc cl mv ts lv fa a1 a2 a3 a4 a5 a6 a7 a8 a9 a10 a11 a12 a13 a14 a15 a16 a17 a18 := by
    intro z hzz
    unfold wX_gate_72
    rw [show (8 : Int32).toNatClampNeg = 8 from by decide, nI_clamp (show A < 2 ^ 31 by omega), nI_clamp (show B < 2 ^ 31 by omega), h1 A hA, h1 B hB]
    refine ⟨pk_in 8 40 (by omega), nm_e ⟨pk_in A 40 (by omega), pk_in B 40 (by omega), ?_⟩⟩
    refine sk_endFor h hP hk (by omega) (RI A hA hXA) (RI B hB hXB) hzz (fun e P' pn' b3 b4 b5 b6 b7 b8 b9 b10 lc' cl' mv' ts' lv' fa' b11 b12 b13 b14 b15 b16 hG hR hs => ?_)
    have he := hR.1
    have hP' := hG.1.2.2.1
    refine ⟨pk_in 8 40 (by omega), ?_⟩
    rw [sk_s16 (show e < 32768 by omega)]
    refine nm_e (nm_r (show (8 : Int32) + 1 = 9 from by decide) ?_)
    rw [show (9 : Int32) - 1 = 8 from by decide]
    refine hp e _ _ _ _ _ _ _ _ _ _ _ _ _ _ _ _ _ _ _ _ _ _ _ _ hG hR (fun k1 e1 => hs k1 (by rw [e1])) pk_us (fun w hw => ?_)
    rw [pk_un (by omega)]
    exact h1 w hw
  have G43 : wX_gate_43 post (nI k) (nI A) (nI B) p3 8 (nI P) pn lc cl mv ts lv fa a1 a2 a3 a4 a5 a6 a7 a8 a9 a10 a11 a12 a13 a14 a15 a16 a17 a18 := by
    unfold wX_gate_43
    refine br_t (by decide) ?_
    rcases hz with ⟨k7, ez⟩ | ⟨k7, D, hD, e3, hXD, ez⟩
    · refine pk_lt k 7 (fun _ => G 0 ⟨by omega, ?_, fun v hv => ?_⟩) (fun z => absurd z (by omega))
      · intro z
        have := hX _ z
        omega
      · rw [ez, sk_ev_0 hv.1]
    · subst e3
      refine pk_lt k 7 (fun z => absurd z (by omega)) (fun _ => ⟨pk_in D 40 (by omega), ?_⟩)
      rw [nI_clamp (show D < 2 ^ 31 by omega), h1 D hD]
      refine G _ ?_
      rw [ez]
      exact RI D hD hXD
  unfold wpX_gate
  dsimp only
  refine br_f (nI_pos (by omega)) (pk_lt 9 k (fun z => absurd z (by omega)) (fun _ => W _ A hA (br_f (by decide) (W _ B hB (br_f (by decide) ?_)))))
  refine pk_lt k 7 (fun _ => G43) (fun k7 => ?_)
  rcases hz with ⟨z, _⟩ | ⟨_, D, hD, e3, hXD, ez⟩
  · exact absurd z (by omega)
  · rw [e3]
    rw [e3] at G43
    exact W _ D hD (br_f (by decide) G43)
def sk_good (p0 p1 p2 p3 : Int32) : Prop := (∃ k, k ≤ 9 ∧ p0 = nI k) ∧ (∃ A, A < 8 ∧ p1 = nI A) ∧ (∃ B, B < 8 ∧ p2 = nI B) ∧ (p0 < 7 ∨ ∃ D, D < 8 ∧ p3 = nI D)
theorem sk_gate_bad {post : Int32 → St2 → Prop} {p0 p1 p2 p3 : Int32} (hb : ¬ sk_good p0 p1 p2 p3) (hp : post (-1) (8, pt, pn, lc, cl, mv, ts, lv, fa, a1, a2, a3, a4, a5, a6, a7, a8, a9, a10, a11, a12, a13, a14, a15, a16, a17, a18)) : wpX_gate post (8, pt, pn, lc, cl, mv, ts, lv, fa, a1, a2, a3, a4, a5, a6, a7, a8, a9, a10, a11, a12, a13, a14, a15, a16, a17, a18) p0 p1 p2 p3 := by
  have W : ∀ (post : Int32 → Prop) (x : Int32), post 0 → ((∃ w, w < 8 ∧ x = nI w) → post 1) → wpX_isWire post (8, pt, pn, lc, cl, mv, ts, lv, fa, a1, a2, a3, a4, a5, a6, a7, a8, a9, a10, a11, a12, a13, a14, a15, a16, a17, a18) x := by
    intro post x h0 h1
    unfold wpX_isWire
    dsimp only
    refine br_c (fun _ => h0) (fun c => br_c (fun _ => h0) (fun d => h1 ?_))
    rcases pk_ix x (n := 8) (by omega) with z | z | z
    · exact absurd z c
    · exact absurd z d
    · exact z
  unfold wpX_gate
  dsimp only
  refine br_c (fun _ => hp) (fun c0 => br_c (fun _ => hp) (fun c9 => W _ p1 (br_t rfl hp) (fun hA => br_f (by decide) (W _ p2 (br_t rfl hp) (fun hB => br_f (by decide) ?_)))))
  have hk : ∃ k, k ≤ 9 ∧ p0 = nI k := by
    rcases pk_ix p0 (n := 10) (by omega) with z | z | ⟨j, j1, j2⟩
    · exact absurd z c0
    · obtain ⟨j, hj, e⟩ := nI_of c0
      subst e
      rw [nI_leI (by omega) hj] at z
      exact absurd (nI_lt (a := 9) (b := j) (by omega) hj) c9
    · exact ⟨j, by omega, j2⟩
  refine br_c (fun c7 => absurd ⟨hk, hA, hB, Or.inl c7⟩ hb) (fun c7 => W _ p3 (br_t rfl hp) (fun hD => absurd ⟨hk, hA, hB, Or.inr hD⟩ hb))
end
end
section
theorem sk_sl : ∀ n, n < 32 → ((nI n &&& 31).toBitVec.smod 32).toNat = n := by decide +kernel
theorem sk_bit {y i : Nat} (hy : y < 2 ^ 31) (hi : i < 32) : (nI y >>> (nI i &&& 31)) &&& 1 = sk_bI (y.testBit i) := by
  rw [pk_shrN hy _ i (sk_sl i hi), sk_a1 (Nat.lt_of_le_of_lt (Nat.div_le_self _ _) hy), Nat.testBit_eq_decide_div_mod_eq]
  rcases Nat.mod_two_eq_zero_or_one (y / 2 ^ i) with h | h <;> rw [h] <;> decide
/-- the inputs from fr on are as y says -/
def sk_ag (y fr : Nat) (v : Nat → Bool) : Prop := ∀ i, fr ≤ i → i < 8 → v (i + 1) = y.testBit i
def sk_D (C : Nat) (m : Nat → Int32) : Prop := ∀ q, q ≤ C → m q = -1 ∨ ∃ b, m q = sk_bI b
theorem sk_me_d {C e : Nat} {m : Nat → Int32} (h : sk_D C m) (he : e / 2 ≤ C) : (sk_me m e = -1 ∧ m (e / 2) = -1) ∨ ∃ b, sk_me m e = sk_bI b := by
  rcases h (e / 2) he with z | ⟨b, z⟩
  · exact Or.inl ⟨sk_me_o z, z⟩
  · refine Or.inr ⟨Bool.xor b (decide (e % 2 = 1)), ?_⟩
    unfold sk_me
    rw [if_neg (by rw [z]; exact sk_bI_n b), z, sk_xo]
theorem sk_D_upd {C p : Nat} {m : Nat → Int32} {x : Int32} (h : sk_D C m) (hx : x = -1 ∨ ∃ b, x = sk_bI b) : sk_D C (upd m p x) := by
  intro q hq
  by_cases e : q = p
  · rw [e, pk_us]; exact hx
  · rw [pk_un e]; exact h q hq
theorem sk_Ok_upd {V : (Nat → Bool) → Prop} {C p : Nat} {m : Nat → Int32} {x : Int32} (h : sk_Ok V C m) (hx : x ≠ -1 → ∀ v, V v → x = sk_bI (v p)) : sk_Ok V C (upd m p x) := by
  intro v hv q hq hn
  by_cases e : q = p
  · rw [e, pk_us] at hn ⊢
    exact hx hn v hv
  · rw [pk_un e] at hn ⊢
    exact h v hv q hq hn
section
variable {ct pt pn lc cl mv ts lv fa : Int32} {a1 a2 a3 a4 a5 a6 a7 : Nat → Int32} {a8 : Nat → Int64} {a9 a10 a11 a12 a13 a14 a15 a16 a17 a18 : Nat → Int32}
variable {X : Nat → Prop} {P : Nat} {V : (Nat → Bool) → Prop} {C : Nat} {post : Int32 → St2 → Prop}
theorem sk_w53 {e fr : Nat} (hC : C < 2560) (hCP : C < P) (hg : sk_GW X P a3 a4) (hV : ∀ v, V v → sk_co P a3 a4 v) (he : e / 2 = C) (hcc : sk_Cc 0 C a3 a4 a11) (hce : a11 C ≠ 0)
    (hm : fr ≠ 0 → ∀ m, post (-1) (ct, pt, pn, (nI C), cl, mv, ts, lv, fa, a1, a2, a3, a4, a5, a6, a7, a8, a9, a10, a11, m, a13, a14, a15, a16, a17, a18)) (hb : ∀ b m, (∀ v, V v → sk_ev v e = b) → post (sk_bI b) (ct, pt, pn, (nI C), cl, mv, ts, lv, fa, a1, a2, a3, a4, a5, a6, a7, a8, a9, a10, a11, m, a13, a14, a15, a16, a17, a18)) :
    ∀ (k i : Nat) (m : Nat → Int32), C + 1 ≤ i + k → 9 ≤ i → i < 2 ^ 31 → sk_Ok V C m → sk_D C m → (fr = 0 → ∀ q, q < i → q ≤ C → a11 q ≠ 0 → m q ≠ -1) →
      wX_workOut_53 post (nI e) ct pt pn (nI C) cl mv ts lv fa (k + 1) (nI i) a1 a2 a3 a4 a5 a6 a7 a8 a9 a10 a11 m a13 a14 a15 a16 a17 a18 := by
  have Z : ∀ (i : Nat) (m : Nat → Int32), C < i → sk_Ok V C m → sk_D C m → (fr = 0 → ∀ q, q < i → q ≤ C → a11 q ≠ 0 → m q ≠ -1) → wpX_mustEnd (fun r_67 => (post r_67 (ct, pt, pn, (nI C), cl, mv, ts, lv, fa, a1, a2, a3, a4, a5, a6, a7, a8, a9, a10, a11, m, a13, a14, a15, a16, a17, a18))) (ct, pt, pn, (nI C), cl, mv, ts, lv, fa, a1, a2, a3, a4, a5, a6, a7, a8, a9, a10, a11, m, a13, a14, a15, a16, a17, a18) (nI e) := by
    intro i m hi hO hD hcm
    refine sk_mustEnd (by omega) ?_
    rcases sk_me_d hD (Nat.le_of_eq he) with ⟨z1, z2⟩ | ⟨b, z⟩
    · rw [z1]
      refine hm (fun f0 => ?_) m
      rw [he] at z2
      exact hcm f0 C hi (Nat.le_refl C) hce z2
    · rw [z]
      refine hb b m (fun v hv => ?_)
      have := sk_me_v (e := e) (fun c => hO v hv _ (by omega) c) (by rw [z]; exact sk_bI_n b)
      rw [z] at this
      exact (sk_bI_inj this).symm
  intro k
  induction k with
  | zero =>
    intro i m hk h9 hi hO hD hcm
    exact pk_lt C i (fun z => Z i m z hO hD hcm) (fun z => absurd z (by omega))
  | succ k ih =>
    intro i m hk h9 hi hO hD hcm
    refine pk_lt C i (fun z => Z i m z hO hD hcm) (fun z => ⟨pk_in i 2560 (by omega), ?_⟩)
    obtain ⟨⟨l1, l2, _⟩, ⟨r1, r2, _⟩⟩ := hg i h9 (by omega)
    have hV1 : ∀ v, V v → v i = (sk_ev v (sk_nt (a3 i)) && sk_ev v (sk_nt (a4 i))) := fun v h => (hV v h).2 i h9 (by omega)
    have hcc1 := hcc i (by omega) h9 z
    rw [nI_clamp (show i < 2 ^ 31 by omega)]
    generalize sk_nt (a3 i) = el at l1 l2 hV1 hcc1
    generalize sk_nt (a4 i) = er at r1 r2 hV1 hcc1
    have NX : ∀ x : Int32, (x = -1 ∨ ∃ b, x = sk_bI b) → (x ≠ -1 → ∀ v, V v → x = sk_bI (v i)) → (fr = 0 → a11 i ≠ 0 → x ≠ -1) → wX_workOut_53 post (nI e) ct pt pn (nI C) cl mv ts lv fa (k + 1) (nI (i + 1)) a1 a2 a3 a4 a5 a6 a7 a8 a9 a10 a11 (upd m i x) a13 a14 a15 a16 a17 a18 := by
      intro x x1 x2 x3
      refine ih (i + 1) _ (by omega) (by omega) (by omega) (sk_Ok_upd hO x2) (sk_D_upd hD x1) (fun f0 q q1 q2 q3 => ?_)
      by_cases eq : q = i
      · rw [eq, pk_us]
        rw [eq] at q3
        exact x3 f0 q3
      · rw [pk_un eq]
        exact hcm f0 q (by omega) q2 q3
    refine br_c (fun d => nm_r (nI_1 i) (ih (i + 1) m (by omega) (by omega) (by omega) hO hD (fun f0 q q1 q2 q3 => ?_))) (fun d => ⟨pk_in i 2560 (by omega), ?_⟩)
    · by_cases eq : q = i
      · rw [eq] at q3
        exact absurd d q3
      · exact hcm f0 q (by omega) q2 q3
    · rw [l1, r1]
      refine sk_mustEnd (by omega) ⟨pk_in i 2560 (by omega), sk_mustEnd (by omega) ?_⟩
      have hA : sk_me m el ≠ -1 → ∀ v, V v → sk_me m el = sk_bI (sk_ev v el) := fun hn v h => sk_me_v (fun c => hO v h _ (by omega) c) hn
      have hB : sk_me m er ≠ -1 → ∀ v, V v → sk_me m er = sk_bI (sk_ev v er) := fun hn v h => sk_me_v (fun c => hO v h _ (by omega) c) hn
      have K1 : (∀ v, V v → v i = false) → wX_workOut_113 post (wX_workOut_53 post (nI e) ct pt pn (nI C) cl mv ts lv fa (k + 1)) (nI e) (nI i) (sk_me m el) (sk_me m er) 1 ct pt pn (nI C) cl mv ts lv fa a1 a2 a3 a4 a5 a6 a7 a8 a9 a10 a11 m a13 a14 a15 a16 a17 a18 := by
        intro hf
        unfold wX_workOut_113
        rw [nI_clamp (show i < 2 ^ 31 by omega), show (0 : Int32).toInt8.toInt32 = 0 from by decide]
        exact br_f (by decide) ⟨pk_in i 2560 (by omega), nm_e (nm_r (nI_1 i) (NX 0 (Or.inr ⟨false, rfl⟩) (fun _ v hv => by rw [hf v hv]; rfl) (fun _ _ => by decide)))⟩
      refine br_c (fun c => K1 (fun v hv => ?_)) (fun c => br_c (fun c2 => K1 (fun v hv => ?_)) (fun c2 => ?_))
      · rw [hV1 v hv, sk_bI_0 (b := sk_ev v el) (by rw [← hA (by rw [c]; decide) v hv, c])]
        rfl
      · rw [hV1 v hv, sk_bI_0 (b := sk_ev v er) (by rw [← hB (by rw [c2]; decide) v hv, c2])]
        exact Bool.and_false _
      · unfold wX_workOut_113
        rw [nI_clamp (show i < 2 ^ 31 by omega), show (1 : Int32).toInt8.toInt32 = 1 from by decide, show (-1 : Int32).toInt8.toInt32 = -1 from by decide]
        have one : ∀ {q : Nat}, q / 2 < i → sk_me m q ≠ 0 → sk_me m q ≠ 1 → a11 (q / 2) ≠ 0 → fr = 0 → False := by
          intro q q1 q2 q3 q4 f0
          rcases sk_me_d hD (show q / 2 ≤ C by omega) with ⟨_, y⟩ | ⟨b, y⟩
          · exact hcm f0 (q / 2) q1 (by omega) q4 y
          · rcases sk_bI_01 b with w | w
            · exact q2 (by rw [y, w])
            · exact q3 (by rw [y, w])
        refine br_t rfl (br_c (fun u1 => br_c (fun u2 => ⟨pk_in i 2560 (by omega), nm_e (nm_r (nI_1 i) (NX 1 (Or.inr ⟨true, rfl⟩) (fun _ v hv => ?_) (fun _ _ => by decide)))⟩) (fun u2 => ⟨pk_in i 2560 (by omega), nm_e (nm_r (nI_1 i) (NX (-1) (Or.inl rfl) (fun z => absurd rfl z) (fun f0 d2 => ?_)))⟩)) (fun u1 => ⟨pk_in i 2560 (by omega), nm_e (nm_r (nI_1 i) (NX (-1) (Or.inl rfl) (fun z => absurd rfl z) (fun f0 d2 => ?_)))⟩))
        · rw [hV1 v hv, sk_bI_1 (b := sk_ev v el) (by rw [← hA (by rw [u1]; decide) v hv, u1]), sk_bI_1 (b := sk_ev v er) (by rw [← hB (by rw [u2]; decide) v hv, u2])]
          rfl
        · exact absurd f0 (fun f0 => one (q := er) (by omega) c2 u2 (hcc1 d2).2 f0)
        · exact absurd f0 (fun f0 => one (q := el) (by omega) c u1 (hcc1 d2).1 f0)
theorem sk_workOut {e y fr : Nat} (hg : sk_GW X P a3 a4) (hP : P ≤ 2560) (he : e < 2 * P) (hy : y < 2 ^ 31) (hfr : fr ≤ 8)
    (hm : fr ≠ 0 → ∀ (lc' cl' mv' ts' lv' fa' : Int32) (b11 b12 b13 b14 b15 b16 : Nat → Int32), post (-1) (ct, pt, pn, lc', cl', mv', ts', lv', fa', a1, a2, a3, a4, a5, a6, a7, a8, a9, a10, b11, b12, b13, b14, b15, b16, a17, a18)) (hb : ∀ b (lc' cl' mv' ts' lv' fa' : Int32) (b11 b12 b13 b14 b15 b16 : Nat → Int32), (∀ v, sk_co P a3 a4 v → sk_ag y fr v → sk_ev v e = b) → post (sk_bI b) (ct, pt, pn, lc', cl', mv', ts', lv', fa', a1, a2, a3, a4, a5, a6, a7, a8, a9, a10, b11, b12, b13, b14, b15, b16, a17, a18)) :
    wpX_workOut post (ct, pt, pn, lc, cl, mv, ts, lv, fa, a1, a2, a3, a4, a5, a6, a7, a8, a9, a10, a11, a12, a13, a14, a15, a16, a17, a18) (nI e) (nI y) (nI fr) := by
  unfold wpX_workOut
  dsimp only
  rw [sk_q_wpX_concern_2]
  refine sk_concern hg hP (by omega) (by omega) (fun C b11 b12 c1 _ c3 c4 c5 _ c7 z0 z1 => ?_)
  have hCe : e / 2 = C := by omega
  have h53 : ∀ m, sk_Ok (fun v => sk_co P a3 a4 v ∧ sk_ag y fr v) C m → sk_D C m → m 0 = 0 → (∀ j, fr ≤ j → j < 8 → j + 1 ≤ C → m (j + 1) ≠ -1) → ∃ fu53, wX_workOut_53 post (nI e) ct pt pn (nI C) 0 mv 0 0 fa fu53 9 a1 a2 a3 a4 a5 a6 a7 a8 a9 a10 b11 m a13 a14 a15 a16 a17 a18 := by
    intro m hO hD m0 hs
    refine ⟨C + 1, sk_w53 (fr := fr) (V := fun v => sk_co P a3 a4 v ∧ sk_ag y fr v) (by omega) c3 hg (fun v h => h.1) hCe c7 (by rw [← hCe]; exact c5) (fun f0 m => hm f0 _ _ _ _ _ _ _ _ _ _ _ _) (fun b m hv => hb b _ _ _ _ _ _ _ _ _ _ _ _ (fun v h1 h2 => hv v ⟨h1, h2⟩)) C 9 m (by omega) (by omega) (by omega) hO hD (fun f0 q q1 q2 q3 => ?_)⟩
    rcases Nat.eq_zero_or_pos q with w | w
    · rw [w, m0]; decide
    · obtain ⟨j, rfl⟩ : ∃ j, q = j + 1 := ⟨q - 1, by omega⟩
      exact hs j (by omega) (by omega) q2
  have K : ∀ (k i : Nat) (m : Nat → Int32), 8 ≤ i + k → fr ≤ i → i ≤ 8 → sk_Ok (fun v => sk_co P a3 a4 v ∧ sk_ag y fr v) C m → sk_D C m → m 0 = 0 → (∀ j, fr ≤ j → j < i → j + 1 ≤ C → m (j + 1) ≠ -1) → wX_workOut_9 post (nI e) (nI y) ct pt pn (nI C) 0 mv 0 0 fa (k + 1) (nI i) a1 a2 a3 a4 a5 a6 a7 a8 a9 a10 b11 m a13 a14 a15 a16 a17 a18 := by
    intro k
    induction k with
    | zero =>
      intro i m hk hfi hi hO hD m0 hs
      exact pk_le 8 i (fun z => h53 m hO hD m0 (fun j j1 j2 j3 => hs j j1 (by omega) j3)) (fun z => absurd z (by omega))
    | succ k ih =>
      intro i m hk hfi hi hO hD m0 hs
      refine pk_le 8 i (fun z => h53 m hO hD m0 (fun j j1 j2 j3 => hs j j1 (by omega) j3)) (fun z => ?_)
      rw [nI_1 i]
      refine pk_lt C (i + 1) (fun w => h53 m hO hD m0 (fun j j1 j2 j3 => hs j j1 (by omega) j3)) (fun w => ⟨pk_in (i + 1) 2560 (by omega), ?_⟩)
      rw [nI_clamp (show i + 1 < 2 ^ 31 by omega), sk_bit hy (by omega), sk_bI_8]
      refine nm_e (nm_e (ih (i + 1) _ (by omega) (by omega) (by omega) (sk_Ok_upd hO (fun _ v hv => ?_)) (sk_D_upd hD (Or.inr ⟨_, rfl⟩)) (by rw [pk_un (by omega)]; exact m0) (fun j j1 j2 j3 => ?_)))
      · rw [hv.2 i hfi (by omega)]
      · by_cases eq : j = i
        · rw [eq, pk_us]; exact sk_bI_n _
        · rw [pk_un (by omega)]
          exact hs j j1 (by omega) j3
  refine ⟨9, K 8 fr b12 (by omega) (Nat.le_refl _) hfr (fun v hv q hq hn => ?_) (fun q hq => ?_) z0 (fun j j1 j2 => absurd j1 (by omega))⟩
  · rcases Nat.eq_zero_or_pos q with w | w
    · rw [w, z0, hv.1.1]; rfl
    · exact absurd (z1 q w hq) hn
  · rcases Nat.eq_zero_or_pos q with w | w
    · rw [w, z0]; exact Or.inr ⟨false, rfl⟩
    · exact Or.inl (z1 q w hq)
end
/-- how many of the first n assignments F holds for -/
def sk_cnt (F : Nat → Bool) : Nat → Nat
  | 0 => 0
  | n + 1 => sk_cnt F n + (if F n = true then 1 else 0)
theorem sk_cnt_le (F : Nat → Bool) : ∀ n, sk_cnt F n ≤ n := by
  intro n
  induction n with
  | zero => exact Nat.le_refl 0
  | succ n ih =>
    show sk_cnt F n + (if F n = true then 1 else 0) ≤ n + 1
    split <;> omega
theorem sk_cnt_blk {F : Nat → Bool} {x : Nat} {b : Bool} : ∀ w, (∀ y, x ≤ y → y < x + w → F y = b) → sk_cnt F (x + w) = sk_cnt F x + (if b = true then 1 else 0) * w := by
  intro w
  induction w with
  | zero => intro _; simp
  | succ w ih =>
    intro h
    show sk_cnt F (x + w) + (if F (x + w) = true then 1 else 0) = _
    rw [ih (fun y y1 y2 => h y y1 (by omega)), h (x + w) (by omega) (by omega), Nat.mul_succ]
    omega
def sk_Ph (x : Nat) : Nat := x + x / 2 + x / 4 + x / 8 + x / 16 + x / 32 + x / 64 + x / 128 + x / 256
theorem sk_Ph_step : ∀ x, x < 256 → ∀ a, a < 9 → ∀ b, b < 9 → (x % 2 ^ a = 0 ∧ a ≤ b ∧ (x + 2 ^ a) % 2 ^ b = 0) → sk_Ph x + (8 - a) + 1 ≤ sk_Ph (x + 2 ^ a) + (8 - b) := by decide +kernel
theorem sk_al : ∀ x, x < 256 → ∀ a, a < 9 → x % 2 ^ a = 0 → x ≠ 0 → x + 2 ^ a ≤ 256 := by decide +kernel
theorem sk_pw8 : ∀ a, a < 9 → 1 ≤ 2 ^ a ∧ 2 ^ a ≤ 256 := by decide +kernel
/-- a block: the bits from a on are those of its first -/
theorem sk_blk {x a y i : Nat} (hx : x % 2 ^ a = 0) (h1 : x ≤ y) (h2 : y < x + 2 ^ a) (hi : a ≤ i) : y.testBit i = x.testBit i := by
  rw [Nat.testBit_eq_decide_div_mod_eq, Nat.testBit_eq_decide_div_mod_eq]
  have e : y / 2 ^ a = x / 2 ^ a := by
    obtain ⟨t, rfl⟩ : ∃ t, x = 2 ^ a * t := ⟨x / 2 ^ a, by have := Nat.div_add_mod x (2 ^ a); omega⟩
    have h0 : 0 < 2 ^ a := Nat.two_pow_pos a
    rw [Nat.mul_div_cancel_left t h0]
    exact Nat.div_eq_of_lt_le (by rw [Nat.mul_comm]; exact h1) (by rw [Nat.mul_comm, Nat.mul_add, Nat.mul_one]; exact h2)
  have p : 2 ^ i = 2 ^ a * 2 ^ (i - a) := by rw [← Nat.pow_add]; congr 1; omega
  rw [p, ← Nat.div_div_eq_div_mul, ← Nat.div_div_eq_div_mul, e]
section
variable {ct pt pn lc cl mv ts lv fa : Int32} {a1 a2 a3 a4 a5 a6 a7 : Nat → Int32} {a8 : Nat → Int64} {a9 a10 a11 a12 a13 a14 a15 a16 a17 a18 : Nat → Int32}
variable {X : Nat → Prop} {P : Nat} {post : Int32 → St2 → Prop}
theorem sk_value {e y : Nat} {F : Nat → Bool} (hg : sk_GW X P a3 a4) (hP : P ≤ 2560) (he : e < 2 * P) (hy : y < 256) (h8 : a1 8 = nI e) (hF : ∀ y v, sk_co P a3 a4 v → sk_ag y 0 v → sk_ev v e = F y)
    (hp : ∀ (lc' cl' mv' ts' lv' fa' : Int32) (b11 b12 b13 b14 b15 b16 : Nat → Int32), post (sk_bI (F y)) (9, pt, pn, lc', cl', mv', ts', lv', fa', a1, a2, a3, a4, a5, a6, a7, a8, a9, a10, b11, b12, b13, b14, b15, b16, a17, a18)) : wpX_value post (9, pt, pn, lc, cl, mv, ts, lv, fa, a1, a2, a3, a4, a5, a6, a7, a8, a9, a10, a11, a12, a13, a14, a15, a16, a17, a18) 8 (nI y) := by
  unfold wpX_value wpX_isWire
  dsimp only
  rw [show (8 : Int32).toNatClampNeg = 8 from by decide, h8]
  refine br_f (by decide) (br_f (by decide) (br_f (by decide) (br_f (nI_pos (by omega)) (pk_lt 255 y (fun z => absurd z (by omega)) (fun _ => ⟨pk_in 8 40 (by omega), ?_⟩)))))
  refine sk_workOut (fr := 0) hg hP he (by omega) (by omega) (fun z => absurd rfl z) (fun b lc' cl' mv' ts' lv' fa' b11 b12 b13 b14 b15 b16 hv => ?_)
  obtain ⟨v, v1, v2⟩ := sk_co_ex (fun i => y.testBit (i - 1)) P hg
  have ha : sk_ag y 0 v := fun i _ i8 => v2 (i + 1) (by omega) (by omega)
  have e1 := hv v v1 ha
  rw [hF y v v1 ha] at e1
  rw [← e1]
  exact hp _ _ _ _ _ _ _ _ _ _ _ _
theorem sk_c78 {J : Int32 → Int32 → Int32 → Int32 → Int32 → Int32 → Int32 → Int32 → Int32 → Int32 → Int32 → Int32 → Int32 → (Nat → Int32) → (Nat → Int32) → (Nat → Int32) → (Nat → Int32) → (Nat → Int32) → (Nat → Int32) → (Nat → Int32) → (Nat → Int64) → (Nat → Int32) → (Nat → Int32) → (Nat → Int32) → (Nat → Int32) → (Nat → Int32) → (Nat → Int32) → (Nat → Int32) → (Nat → Int32) → (Nat → Int32) → (Nat → Int32) → Prop} {s : Int32} {x rd : Nat} (hx : x ≤ 256) :
    ∀ (k a : Nat), 8 ≤ a + k → a ≤ 8 → x % 2 ^ a = 0 → (∀ b, a ≤ b → b ≤ 8 → x % 2 ^ b = 0 → J s (nI x) (nI b) (nI (rd + 1)) ct pt pn lc cl mv ts lv fa a1 a2 a3 a4 a5 a6 a7 a8 a9 a10 a11 a12 a13 a14 a15 a16 a17 a18) → wX_count_78 post J 8 s (nI x) (nI rd) ct pt pn lc cl mv ts lv fa a1 a2 a3 a4 a5 a6 a7 a8 a9 a10 a11 a12 a13 a14 a15 a16 a17 a18 (k + 1) (nI a) := by
  intro k
  induction k with
  | zero =>
    intro a hk ha hxa hJ
    exact pk_le 8 a (fun z => nm_r (nI_1 rd) (hJ a (Nat.le_refl a) ha hxa)) (fun z => absurd z (by omega))
  | succ k ih =>
    intro a hk ha hxa hJ
    refine pk_le 8 a (fun z => nm_r (nI_1 rd) (hJ a (Nat.le_refl a) ha hxa)) (fun z => ?_)
    rw [sk_bit (by omega) (by omega)]
    refine br_c (fun c => nm_r (nI_1 a) (ih (a + 1) (by omega) (by omega) ?_ (fun b b1 b2 b3 => hJ b (by omega) b2 b3))) (fun c => nm_r (nI_1 rd) (hJ a (Nat.le_refl a) ha hxa))
    have c1 := sk_bI_0 c
    rw [Nat.testBit_eq_decide_div_mod_eq, decide_eq_false_iff_not] at c1
    rw [Nat.mod_pow_succ, hxa]
    have : x / 2 ^ a % 2 = 0 := by omega
    rw [this, Nat.mul_zero]
theorem sk_c21 {e : Nat} {F : Nat → Bool} (hg : sk_GW X P a3 a4) (hP : P ≤ 2560) (he : e < 2 * P) (h8 : a1 8 = nI e) (hF : ∀ y v, sk_co P a3 a4 v → sk_ag y 0 v → sk_ev v e = F y)
    (hp : ∀ (lc' cl' mv' ts' lv' fa' : Int32) (b11 b12 b13 b14 b15 b16 : Nat → Int32), post (nI (sk_cnt F 256)) (ct, pt, pn, lc', cl', mv', ts', lv', fa', a1, a2, a3, a4, a5, a6, a7, a8, a9, a10, b11, b12, b13, b14, b15, b16, a17, a18)) :
    ∀ (n x a rd : Nat) (lc' cl' mv' ts' lv' fa' : Int32) (b11 b12 b13 b14 b15 b16 : Nat → Int32), x ≤ 256 → a ≤ 8 → x % 2 ^ a = 0 → x + 2 ^ a ≤ 256 ∨ x = 256 → rd ≤ sk_Ph x + (8 - a) → 1024 ≤ rd + n → rd ≤ 1024 → 1 ≤ n →
      wX_count_21 post 8 n (nI (sk_cnt F x)) (nI x) (nI a) (nI rd) ct pt pn lc' cl' mv' ts' lv' fa' a1 a2 a3 a4 a5 a6 a7 a8 a9 a10 b11 b12 b13 b14 b15 b16 a17 a18 := by
  intro n
  induction n with
  | zero => intro x a rd lc' cl' mv' ts' lv' fa' b11 b12 b13 b14 b15 b16 _ _ _ _ _ _ _ h; omega
  | succ n ih =>
    intro x a rd lc' cl' mv' ts' lv' fa' b11 b12 b13 b14 b15 b16 hx ha hxa hxw hrd hn hr4 _
    have hPh : x < 256 → sk_Ph x ≤ 510 := by intro _; unfold sk_Ph; omega
    refine pk_le 1024 rd (fun z => ?_) (fun z => pk_lt 255 x (fun w => ?_) (fun w => ⟨pk_in 8 40 (by omega), ?_⟩))
    · rcases Nat.lt_or_ge x 256 with w | w
      · have := hPh w
        omega
      · have : x = 256 := by omega
        subst this
        exact hp _ _ _ _ _ _ _ _ _ _ _ _
    · have : x = 256 := by omega
      subst this
      exact hp _ _ _ _ _ _ _ _ _ _ _ _
    · have hPh2 := hPh (by omega)
      have hw2 : x + 2 ^ a ≤ 256 := by omega
      have h8c : (8 : Int32).toNatClampNeg = 8 := by decide
      rw [h8c, h8]
      refine sk_workOut hg hP he (by omega) ha (fun a0 lc' cl' mv' ts' lv' fa' b11 b12 b13 b14 b15 b16 => br_t rfl ?_) (fun b lc' cl' mv' ts' lv' fa' b11 b12 b13 b14 b15 b16 hv => br_f (sk_bI_n b) ?_)
      · obtain ⟨c, rfl⟩ : ∃ c, a = c + 1 := ⟨a - 1, by omega⟩
        refine nm_r (pk_m1 c) (nm_r (nI_1 rd) (ih x c (rd + 1) _ _ _ _ _ _ _ _ _ _ _ _ hx (by omega) ?_ (Or.inl ?_) (by omega) (by omega) (by omega) (by omega)))
        · rw [Nat.mod_pow_succ] at hxa
          omega
        · rw [Nat.pow_succ] at hw2
          omega
      · have pa := sk_pw8 a (by omega)
        have hb : ∀ y, x ≤ y → y < x + 2 ^ a → F y = b := by
          intro y y1 y2
          obtain ⟨v, v1, v2⟩ := sk_co_ex (fun i => y.testBit (i - 1)) P hg
          have hag : sk_ag y 0 v := fun i _ i8 => v2 (i + 1) (by omega) (by omega)
          rw [← hF y v v1 hag]
          refine hv v v1 (fun i i1 i8 => ?_)
          rw [hag i (by omega) i8]
          exact sk_blk hxa y1 y2 i1
        have ec := sk_cnt_blk (F := F) (x := x) (b := b) (2 ^ a) hb
        have lc1 := sk_cnt_le F (x + 2 ^ a)
        have e1 : nI (sk_cnt F x) + (sk_bI b <<< (nI a &&& 31)) = nI (sk_cnt F (x + 2 ^ a)) := by
          rw [ec]
          cases b
          · rw [show sk_bI false = nI 0 from rfl, pk_shlN _ a (sk_sl a (by omega)) (by omega), nI_add]
            rfl
          · rw [show sk_bI true = nI 1 from rfl, pk_shlN _ a (sk_sl a (by omega)) (by omega), nI_add]
            rfl
        have e2 : nI x + ((1 : Int32) <<< (nI a &&& 31)) = nI (x + 2 ^ a) := by
          rw [show (1 : Int32) = nI 1 from rfl, pk_shlN _ a (sk_sl a (by omega)) (by omega), nI_add, Nat.one_mul]
        refine nm_r e1 (nm_r e2 ⟨9, sk_c78 (rd := rd) hw2 8 a (by omega) ha ?_ (fun b b1 b2 b3 => ?_)⟩)
        · rw [Nat.add_mod_right]
          exact hxa
        · have st := sk_Ph_step x (by omega) a (by omega) b (by omega) ⟨hxa, b1, b3⟩
          have al : x + 2 ^ a + 2 ^ b ≤ 256 ∨ x + 2 ^ a = 256 := by
            rcases Nat.lt_or_ge (x + 2 ^ a) 256 with w2 | w2
            · exact Or.inl (sk_al _ w2 b (by omega) b3 (by omega))
            · exact Or.inr (by omega)
          exact ih (x + 2 ^ a) b (rd + 1) _ _ _ _ _ _ _ _ _ _ _ _ hw2 b2 b3 al (by omega) (by omega) (by omega) (by omega)
theorem sk_count {e : Nat} {F : Nat → Bool} (hg : sk_GW X P a3 a4) (hP : P ≤ 2560) (he : e < 2 * P) (h8 : a1 8 = nI e) (hF : ∀ y v, sk_co P a3 a4 v → sk_ag y 0 v → sk_ev v e = F y)
    (hp : ∀ (lc' cl' mv' ts' lv' fa' : Int32) (b11 b12 b13 b14 b15 b16 : Nat → Int32), post (nI (sk_cnt F 256)) (9, pt, pn, lc', cl', mv', ts', lv', fa', a1, a2, a3, a4, a5, a6, a7, a8, a9, a10, b11, b12, b13, b14, b15, b16, a17, a18)) : wpX_count post (9, pt, pn, lc, cl, mv, ts, lv, fa, a1, a2, a3, a4, a5, a6, a7, a8, a9, a10, a11, a12, a13, a14, a15, a16, a17, a18) 8 := by
  unfold wpX_count wpX_isWire
  dsimp only
  refine br_f (by decide) (br_f (by decide) (br_f (by decide) ?_))
  exact ⟨1024, sk_c21 hg hP he h8 hF hp 1024 0 8 0 _ _ _ _ _ _ _ _ _ _ _ _ (by omega) (by omega) (by decide) (Or.inl (by decide)) (by omega) (by omega) (by omega) (by omega)⟩
theorem sk_first {post : Int32 → Prop} (hp : ∀ w, w ≤ 8 → a1 w = a1 8 → (∀ u, u < w → a1 u ≠ a1 8) → post (nI w)) : wpX_first post (9, pt, pn, lc, cl, mv, ts, lv, fa, a1, a2, a3, a4, a5, a6, a7, a8, a9, a10, a11, a12, a13, a14, a15, a16, a17, a18) 8 := by
  unfold wpX_first wpX_isWire
  dsimp only
  refine br_f (by decide) (br_f (by decide) (br_f (by decide) ?_))
  have h8c : (8 : Int32).toNatClampNeg = 8 := by decide
  have K : ∀ (k i : Nat), 8 ≤ i + k → i ≤ 8 → (∀ u, u < i → a1 u ≠ a1 8) → wX_first_12 post 8 9 pt pn lc cl mv ts lv fa a1 a2 a3 a4 a5 a6 a7 a8 a9 a10 a11 a12 a13 a14 a15 a16 a17 a18 (k + 1) (nI i) := by
    intro k
    induction k with
    | zero =>
      intro i hk hi hu
      have e : i = 8 := by omega
      subst e
      exact ⟨pk_in 8 40 (by omega), pk_in 8 40 (by omega), br_t rfl (hp 8 (by omega) rfl hu)⟩
    | succ k ih =>
      intro i hk hi hu
      refine ⟨pk_in i 40 (by omega), pk_in 8 40 (by omega), ?_⟩
      rw [h8c, nI_clamp (show i < 2 ^ 31 by omega)]
      refine br_c (fun c => hp i hi c hu) (fun c => nm_r (nI_1 i) (ih (i + 1) (by omega) ?_ (fun u u1 => ?_)))
      · rcases Nat.lt_or_ge i 8 with w | w
        · omega
        · have : i = 8 := by omega
          rw [this] at c
          exact absurd rfl c
      · by_cases eq : u = i
        · rw [eq]; exact c
        · exact hu u (by omega)
  exact ⟨9, K 8 0 (by omega) (by omega) (fun u u1 => absurd u1 (by omega))⟩
theorem sk_value_bad {x : Int32} (hp : post (-1) (8, pt, pn, lc, cl, mv, ts, lv, fa, a1, a2, a3, a4, a5, a6, a7, a8, a9, a10, a11, a12, a13, a14, a15, a16, a17, a18)) : wpX_value post (8, pt, pn, lc, cl, mv, ts, lv, fa, a1, a2, a3, a4, a5, a6, a7, a8, a9, a10, a11, a12, a13, a14, a15, a16, a17, a18) 8 x := by
  unfold wpX_value wpX_isWire
  dsimp only
  exact br_f (by decide) (br_t (by decide) (br_t rfl hp))
theorem sk_value_out {x : Int32} (hx : ¬ ∃ y, y < 256 ∧ x = nI y) (hp : post (-1) (9, pt, pn, lc, cl, mv, ts, lv, fa, a1, a2, a3, a4, a5, a6, a7, a8, a9, a10, a11, a12, a13, a14, a15, a16, a17, a18)) : wpX_value post (9, pt, pn, lc, cl, mv, ts, lv, fa, a1, a2, a3, a4, a5, a6, a7, a8, a9, a10, a11, a12, a13, a14, a15, a16, a17, a18) 8 x := by
  unfold wpX_value wpX_isWire
  dsimp only
  refine br_f (by decide) (br_f (by decide) (br_f (by decide) (br_c (fun _ => hp) (fun c => br_c (fun _ => hp) (fun d => ?_)))))
  obtain ⟨j, hj, e⟩ := nI_of c
  subst e
  refine absurd ⟨j, ?_, rfl⟩ hx
  rcases Nat.lt_or_ge j 256 with w | w
  · exact w
  · exact absurd (nI_lt (a := 255) (b := j) (by omega) hj) d
theorem sk_first_bad {post : Int32 → Prop} (hp : post (-1)) : wpX_first post (8, pt, pn, lc, cl, mv, ts, lv, fa, a1, a2, a3, a4, a5, a6, a7, a8, a9, a10, a11, a12, a13, a14, a15, a16, a17, a18) 8 := by
  unfold wpX_first wpX_isWire
  dsimp only
  exact br_f (by decide) (br_t (by decide) (br_t rfl hp))
theorem sk_count_bad (hp : post (-1) (8, pt, pn, lc, cl, mv, ts, lv, fa, a1, a2, a3, a4, a5, a6, a7, a8, a9, a10, a11, a12, a13, a14, a15, a16, a17, a18)) : wpX_count post (8, pt, pn, lc, cl, mv, ts, lv, fa, a1, a2, a3, a4, a5, a6, a7, a8, a9, a10, a11, a12, a13, a14, a15, a16, a17, a18) 8 := by
  unfold wpX_count wpX_isWire
  dsimp only
  exact br_f (by decide) (br_t (by decide) (br_t rfl hp))
end
end
section
theorem sk_fm_lt {f e P : Nat} (h : f < 2 * P) : (if e % 2 = 0 then f else sk_ng f) < 2 * P := by
  split
  · exact h
  · exact sk_ng_lt h
theorem sk_xm (f e : Nat) : nI f ^^^ nI (e % 2) = nI (if e % 2 = 0 then f else sk_ng f) := by
  rcases Nat.mod_two_eq_zero_or_one e with h | h <;> rw [h]
  · rw [if_pos rfl, sk_xor, Nat.xor_zero]
  · rw [if_neg (by decide)]
    exact sk_xor1 f
theorem sk_fm2 (e : Nat) : (if e % 2 = 0 then 2 * (e / 2) else sk_ng (2 * (e / 2))) = e := by
  unfold sk_ng
  split
  · omega
  · rw [if_pos (by omega)]
    omega
section
variable {ct pt pn lc cl mv ts lv fa : Int32} {a1 a2 a3 a4 a5 a6 a7 : Nat → Int32} {a8 : Nat → Int64} {a9 a10 a11 a12 a13 a14 a15 a16 a17 a18 : Nat → Int32}
variable {X : Nat → Prop} {P C : Nat}
theorem sk_mc31 {post : St2 → Prop} (hg : sk_GW X P a3 a4) (hP : P ≤ 2560) (hC : C < P) (hp : ∀ b18, b18 C ≠ 0 → sk_Cc 0 C a3 a4 b18 → post (ct, pt, pn, lc, cl, mv, ts, lv, fa, a1, a2, a3, a4, a5, a6, a7, a8, a9, a10, a11, a12, a13, a14, a15, a16, a17, b18)) :
    ∀ (k i : Nat) (b18 : Nat → Int32), i ≤ k + 8 → i ≤ C → b18 C ≠ 0 → sk_Cc (i + 1) C a3 a4 b18 → wX_markConcerned_31 post ct pt pn lc cl mv ts lv fa (k + 1) (nI i) a1 a2 a3 a4 a5 a6 a7 a8 a9 a10 a11 a12 a13 a14 a15 a16 a17 b18 := by
  have Z : ∀ (i : Nat) (b18 : Nat → Int32), i < 9 → b18 C ≠ 0 → sk_Cc (i + 1) C a3 a4 b18 → post (ct, pt, pn, lc, cl, mv, ts, lv, fa, a1, a2, a3, a4, a5, a6, a7, a8, a9, a10, a11, a12, a13, a14, a15, a16, a17, b18) :=
    fun i b18 hi h1 hc => hp b18 h1 (fun q _ hq9 hqC hb => hc q (by omega) hq9 hqC hb)
  intro k
  induction k with
  | zero =>
    intro i b18 hk hi h1 hc
    exact pk_lt i 9 (fun z => Z i b18 z h1 hc) (fun z => absurd z (by omega))
  | succ k ih =>
    intro i b18 hk hi h1 hc
    refine pk_lt i 9 (fun z => Z i b18 z h1 hc) (fun z => ⟨pk_in i 2560 (by omega), ?_⟩)
    obtain ⟨⟨l1, l2, _⟩, ⟨r1, r2, _⟩⟩ := hg i z (by omega)
    obtain ⟨j, rfl⟩ : ∃ j, i = j + 1 := ⟨i - 1, by omega⟩
    rw [nI_clamp (show j + 1 < 2 ^ 31 by omega)]
    refine br_c (fun d => nm_r (pk_m1 j) (ih j _ (by omega) (by omega) h1 (sk_Cc_skip hc d))) (fun d => ?_)
    have hst := sk_Cc_step (C := C) (b := b18) hg z (by omega) hc
    rw [l1, r1]
    generalize sk_nt (a3 (j + 1)) = el at l2 hst
    generalize sk_nt (a4 (j + 1)) = er at r2 hst
    rw [sk_sh (show el < 2 ^ 31 by omega), sk_sh (show er < 2 ^ 31 by omega), nI_clamp (show el / 2 < 2 ^ 31 by omega), nI_clamp (show er / 2 < 2 ^ 31 by omega)]
    refine ⟨pk_in (j + 1) 2560 (by omega), pk_in (el / 2) 2560 (by omega), nm_e ⟨pk_in (j + 1) 2560 (by omega), pk_in (er / 2) 2560 (by omega), nm_e (nm_r (pk_m1 j) ?_)⟩⟩
    exact ih j _ (by omega) (by omega) (sk_up1 (Or.inl (sk_up1 (Or.inl h1)))) hst
theorem sk_markConcerned {post : St2 → Prop} (hg : sk_GW X P a3 a4) (hP : P ≤ 2560) (hC : C < P) (hp : ∀ b18, b18 C ≠ 0 → sk_Cc 0 C a3 a4 b18 → post (ct, pt, pn, lc, cl, mv, ts, lv, fa, a1, a2, a3, a4, a5, a6, a7, a8, a9, a10, a11, a12, a13, a14, a15, a16, a17, b18)) : wpX_markConcerned post (ct, pt, pn, lc, cl, mv, ts, lv, fa, a1, a2, a3, a4, a5, a6, a7, a8, a9, a10, a11, a12, a13, a14, a15, a16, a17, a18) (nI C) := by
  have K : ∀ (k i : Nat) (b18 : Nat → Int32), C + 1 ≤ i + k → i ≤ C + 1 → (i = C + 1 → b18 C ≠ 0) → wX_markConcerned_2 post (nI C) ct pt pn lc cl mv ts lv fa (k + 1) (nI i) a1 a2 a3 a4 a5 a6 a7 a8 a9 a10 a11 a12 a13 a14 a15 a16 a17 b18 := by
    have Z : ∀ (b18 : Nat → Int32), b18 C ≠ 0 → ∃ fu31, wX_markConcerned_31 post ct pt pn lc cl mv ts lv fa fu31 (nI C) a1 a2 a3 a4 a5 a6 a7 a8 a9 a10 a11 a12 a13 a14 a15 a16 a17 b18 := fun b18 h =>
      ⟨C + 1, sk_mc31 hg hP hC hp C C b18 (by omega) (by omega) h (fun q q1 _ q3 _ => absurd q3 (by omega))⟩
    intro k
    induction k with
    | zero =>
      intro i b18 hk hi h
      exact pk_lt C i (fun z => Z b18 (h (by omega))) (fun z => absurd z (by omega))
    | succ k ih =>
      intro i b18 hk hi h
      refine pk_lt C i (fun z => Z b18 (h (by omega))) (fun z => ?_)
      rw [nI_clamp (show i < 2 ^ 31 by omega)]
      refine pk_eq i C (fun w => ⟨pk_in i 2560 (by omega), nm_e (nm_r (nI_1 i) (ih (i + 1) _ (by omega) (by omega) (fun _ => by rw [w, pk_us]; decide)))⟩) (fun w => ⟨pk_in i 2560 (by omega), nm_e (nm_r (nI_1 i) (ih (i + 1) _ (by omega) (by omega) (fun w2 => absurd w2 (by omega))))⟩)
  exact ⟨C + 2, K (C + 1) 0 _ (by omega) (by omega) (fun z => absurd z (by omega))⟩
/-- the road to the loop over the parts -/
theorem sk_fx {post : Int32 → St2 → Prop} {e i v : Nat} (hg : sk_GW X P a3 a4) (hP : P ≤ 2560) (he : e < 2 * P) (hi : i < 8) (hv : v < 2)
    (hp : ∀ b17 b18, b17 0 = 0 → (∀ p, 1 ≤ p → p < 9 → b17 p = nI (if p = i + 1 then v else 2 * p)) → b18 (e / 2) ≠ 0 → sk_Cc 0 (e / 2) a3 a4 b18 → ∃ fu62, wX_fix_62 post (nI e) (nI (e / 2)) fu62 9 ct pt pn lc cl mv ts lv fa a1 a2 a3 a4 a5 a6 a7 a8 a9 a10 a11 a12 a13 a14 a15 a16 b17 b18) :
    wpX_fix post (ct, pt, pn, lc, cl, mv, ts, lv, fa, a1, a2, a3, a4, a5, a6, a7, a8, a9, a10, a11, a12, a13, a14, a15, a16, a17, a18) (nI e) (nI i) (nI v) := by
  have K : ∀ (k j : Nat) (b17 : Nat → Int32), 9 ≤ j + k → 1 ≤ j → j ≤ 9 → b17 0 = 0 → (∀ p, 1 ≤ p → p < j → b17 p = nI (if p = i + 1 then v else 2 * p)) → wX_fix_15 post (nI e) (nI i) (nI v) (nI (e / 2)) ct pt pn lc cl mv ts lv fa (k + 1) (nI j) a1 a2 a3 a4 a5 a6 a7 a8 a9 a10 a11 a12 a13 a14 a15 a16 b17 a18 := by
    have Z : ∀ b17 : Nat → Int32, b17 0 = 0 → (∀ p, 1 ≤ p → p < 9 → b17 p = nI (if p = i + 1 then v else 2 * p)) → wpX_markConcerned (fun u => match u with | (ct0, pt0, pn0, lc', cl', mv', ts', lv', fa', c1, c2, c3, c4, c5, c6, c7, c8, c9, c10, b11, b12, b13, b14, b15, b16, c17, c18) => ∃ fu62, wX_fix_62 post (nI e) (nI (e / 2)) fu62 9 ct0 pt0 pn0 lc' cl' mv' ts' lv' fa' c1 c2 c3 c4 c5 c6 c7 c8 c9 c10 b11 b12 b13 b14 b15 b16 c17 c18) (ct, pt, pn, lc, cl, mv, ts, lv, fa, a1, a2, a3, a4, a5, a6, a7, a8, a9, a10, a11, a12, a13, a14, a15, a16, b17, a18) (nI (e / 2)) :=
      fun b17 z0 zp => sk_markConcerned hg hP (by omega) (fun b18 h1 h2 => hp b17 b18 z0 zp h1 h2)
    intro k
    induction k with
    | zero =>
      intro j b17 hk h1 hj z0 zp
      exact pk_le 9 j (fun z => Z b17 z0 (fun p p1 p2 => zp p p1 (by omega))) (fun z => absurd z (by omega))
    | succ k ih =>
      intro j b17 hk h1 hj z0 zp
      refine pk_le 9 j (fun z => Z b17 z0 (fun p p1 p2 => zp p p1 (by omega))) (fun z => ?_)
      rw [nI_1 i, nI_clamp (show j < 2 ^ 31 by omega), sk_s16 (show v < 32768 by omega), show (2 : Int32) * nI j = nI (2 * j) from pk_mul 2 j, sk_s16 (show 2 * j < 32768 by omega)]
      have N : ∀ x : Nat, x = (if j = i + 1 then v else 2 * j) → wX_fix_15 post (nI e) (nI i) (nI v) (nI (e / 2)) ct pt pn lc cl mv ts lv fa (k + 1) (nI (j + 1)) a1 a2 a3 a4 a5 a6 a7 a8 a9 a10 a11 a12 a13 a14 a15 a16 (upd b17 j (nI x)) a18 := by
        intro x hx
        refine ih (j + 1) _ (by omega) (by omega) (by omega) (by rw [pk_un (by omega)]; exact z0) (fun p p1 p2 => ?_)
        by_cases w : p = j
        · rw [w, pk_us, hx]
        · rw [pk_un w]
          exact zp p p1 (by omega)
      refine pk_eq j (i + 1) (fun w => ⟨pk_in j 2560 (by omega), nm_e (nm_r (nI_1 j) (N v (by rw [if_pos w])))⟩) (fun w => ⟨pk_in j 2560 (by omega), nm_e (nm_r (nI_1 j) (N (2 * j) (by rw [if_neg w])))⟩)
  unfold wpX_fix
  dsimp only
  refine nm_r (sk_sh (by omega)) (nm_e ⟨9, K 8 1 _ (by omega) (by omega) (by omega) pk_us (fun p p1 p2 => absurd p2 (by omega))⟩)
/-- an input that nothing has is fixed: all stays as it is -/
theorem sk_fix_same {post : Int32 → St2 → Prop} {e i v : Nat} (hX : ∀ i, X i → 1 ≤ i ∧ i ≤ 8) (hg : sk_GW X P a3 a4) (hP : P ≤ 2560) (he : e < 2 * P) (hi : i < 8) (hv : v < 2) (hXi : X (i + 1)) (hXe : ¬ X (e / 2))
    (hp : ∀ b17 b18, post (nI e) (ct, pt, pn, lc, cl, mv, ts, lv, fa, a1, a2, a3, a4, a5, a6, a7, a8, a9, a10, a11, a12, a13, a14, a15, a16, b17, b18)) : wpX_fix post (ct, pt, pn, lc, cl, mv, ts, lv, fa, a1, a2, a3, a4, a5, a6, a7, a8, a9, a10, a11, a12, a13, a14, a15, a16, a17, a18) (nI e) (nI i) (nI v) := by
  refine sk_fx hg hP he hi hv (fun b17 b18 z0 zp h18 hcc => ?_)
  have K : ∀ (k j : Nat) (b17 : Nat → Int32), e / 2 + 1 ≤ j + k → 9 ≤ j → j < 2 ^ 31 → (∀ q, q < j → q ≤ e / 2 → ¬ X q → (q < 9 ∨ b18 q ≠ 0) → b17 q = nI (2 * q)) → wX_fix_62 post (nI e) (nI (e / 2)) (k + 1) (nI j) ct pt pn lc cl mv ts lv fa a1 a2 a3 a4 a5 a6 a7 a8 a9 a10 a11 a12 a13 a14 a15 a16 b17 b18 := by
    have Z : ∀ (j : Nat) (b17 : Nat → Int32), e / 2 < j → (∀ q, q < j → q ≤ e / 2 → ¬ X q → (q < 9 ∨ b18 q ≠ 0) → b17 q = nI (2 * q)) → vp_in (nI (e / 2)) 2560 ∧ post (b17 (nI (e / 2)).toNatClampNeg ^^^ (nI e &&& 1)) (ct, pt, pn, lc, cl, mv, ts, lv, fa, a1, a2, a3, a4, a5, a6, a7, a8, a9, a10, a11, a12, a13, a14, a15, a16, b17, b18) := by
      intro j b17 hj h
      refine ⟨pk_in (e / 2) 2560 (by omega), ?_⟩
      rw [nI_clamp (show e / 2 < 2 ^ 31 by omega), h (e / 2) hj (Nat.le_refl _) hXe (Or.inr h18), sk_a1 (by omega), sk_xm, sk_fm2]
      exact hp _ _
    intro k
    induction k with
    | zero =>
      intro j b17 hk h9 hj h
      exact pk_lt (e / 2) j (fun z => Z j b17 z h) (fun z => absurd z (by omega))
    | succ k ih =>
      intro j b17 hk h9 hj h
      refine pk_lt (e / 2) j (fun z => Z j b17 z h) (fun z => ⟨pk_in j 2560 (by omega), ?_⟩)
      rw [nI_clamp (show j < 2 ^ 31 by omega)]
      obtain ⟨⟨l1, l2, l3⟩, ⟨r1, r2, r3⟩⟩ := hg j h9 (by omega)
      have hc := hcc j (by omega) h9 z
      generalize sk_nt (a3 j) = el at l1 l2 l3 hc
      generalize sk_nt (a4 j) = er at r1 r2 r3 hc
      refine br_c (fun d => nm_r (nI_1 j) (ih (j + 1) _ (by omega) (by omega) (by omega) (fun q q1 q2 q3 q4 => ?_))) (fun d => ?_)
      · by_cases w : q = j
        · rw [w] at q4
          rcases q4 with y | y
          · omega
          · exact absurd d y
        · exact h q (by omega) q2 q3 q4
      · have cl1 := h (el / 2) (by omega) (by omega) l3 (Or.inr (hc d).1)
        have cr1 := h (er / 2) (by omega) (by omega) r3 (Or.inr (hc d).2)
        rw [l1, r1, sk_sh (show el < 2 ^ 31 by omega), sk_sh (show er < 2 ^ 31 by omega), nI_clamp (show el / 2 < 2 ^ 31 by omega), nI_clamp (show er / 2 < 2 ^ 31 by omega), cl1, cr1, sk_a1 (show el < 2 ^ 31 by omega), sk_a1 (show er < 2 ^ 31 by omega), sk_xm, sk_xm, sk_fm2, sk_fm2]
        refine ⟨pk_in j 2560 (by omega), pk_in (el / 2) 2560 (by omega), pk_in j 2560 (by omega), nm_e ⟨pk_in j 2560 (by omega), pk_in (er / 2) 2560 (by omega), pk_in j 2560 (by omega), nm_e ⟨pk_in j 2560 (by omega), br_t rfl ⟨pk_in j 2560 (by omega), br_t rfl ?_⟩⟩⟩⟩
        unfold wX_fix_160
        rw [nI_clamp (show j < 2 ^ 31 by omega), show (2 : Int32) * nI j = nI (2 * j) from pk_mul 2 j, sk_s16 (show 2 * j < 32768 by omega)]
        refine br_f (by decide) ⟨pk_in j 2560 (by omega), nm_e (nm_r (nI_1 j) (ih (j + 1) _ (by omega) (by omega) (by omega) (fun q q1 q2 q3 q4 => ?_)))⟩
        by_cases w : q = j
        · rw [w, pk_us]
        · rw [pk_un w]
          exact h q (by omega) q2 q3 q4
  refine ⟨e / 2 + 1, K (e / 2) 9 b17 (by omega) (by omega) (by omega) (fun q q1 q2 q3 _ => ?_)⟩
  rcases Nat.eq_zero_or_pos q with w | w
  · rw [w, z0]; rfl
  · rw [zp q w q1, if_neg (fun y => q3 (by rw [y]; exact hXi))]
def sk_no : Nat → Prop := fun _ => False
theorem sk_GI_0 (h : sk_GI X P pn a3 a4 a5 a6 a8 a9 a10) : sk_GI sk_no P pn a3 a4 a5 a6 a8 a9 a10 := by
  obtain ⟨g1, g2, g3, g4, g5, g6, g7⟩ := h
  refine ⟨fun i z => absurd z (fun z => z), g2, g3, g4, fun p p9 hp => ?_, g6, g7⟩
  obtain ⟨⟨l1, l2, l3⟩, ⟨r1, r2, r3⟩⟩ := g5 p p9 hp
  exact ⟨⟨l1, l2, fun z => z⟩, ⟨r1, r2, fun z => z⟩⟩
theorem sk_fx62 {post : Int32 → St2 → Prop} {e : Nat} (hg : sk_GW sk_no P a3 a4) (he : e < 2 * P) (hPC : P + e / 2 ≤ 2560) (hcc : sk_Cc 0 (e / 2) a3 a4 a18) (h18 : a18 (e / 2) ≠ 0)
    (hp : ∀ e' b17 (P' : Nat) (pn' : Int32) (b3 b4 b5 b6 b7 : Nat → Int32) (b8 : Nat → Int64) (b9 b10 : Nat → Int32) (lc' cl' mv' ts' lv' fa' : Int32) (b11 b12 b13 b14 b15 b16 : Nat → Int32), sk_GS sk_no (e / 2) P a3 a4 P' pn' b3 b4 b5 b6 b8 b9 b10 → e' < 2 * P' → post (nI e') (ct, (nI P'), pn', lc', cl', mv', ts', lv', fa', a1, a2, b3, b4, b5, b6, b7, b8, b9, b10, b11, b12, b13, b14, b15, b16, b17, a18)) :
    ∀ (k j : Nat) (b17 : Nat → Int32) (P' : Nat) (pn' : Int32) (b3 b4 b5 b6 b7 : Nat → Int32) (b8 : Nat → Int64) (b9 b10 : Nat → Int32) (lc' cl' mv' ts' lv' fa' : Int32) (b11 b12 b13 b14 b15 b16 : Nat → Int32), e / 2 + 1 ≤ j + k → 9 ≤ j → j ≤ e / 2 + 9 → sk_GS sk_no (j - 9) P a3 a4 P' pn' b3 b4 b5 b6 b8 b9 b10 →
      (∀ q, q < j → q ≤ e / 2 → (q < 9 ∨ a18 q ≠ 0) → ∃ f, b17 q = nI f ∧ f < 2 * P') → wX_fix_62 post (nI e) (nI (e / 2)) (k + 1) (nI j) ct (nI P') pn' lc' cl' mv' ts' lv' fa' a1 a2 b3 b4 b5 b6 b7 b8 b9 b10 b11 b12 b13 b14 b15 b16 b17 a18 := by
  have Z : ∀ (j : Nat) (b17 : Nat → Int32) (P' : Nat) (pn' : Int32) (b3 b4 b5 b6 b7 : Nat → Int32) (b8 : Nat → Int64) (b9 b10 : Nat → Int32) (lc' cl' mv' ts' lv' fa' : Int32) (b11 b12 b13 b14 b15 b16 : Nat → Int32), e / 2 < j → j ≤ e / 2 + 9 → sk_GS sk_no (j - 9) P a3 a4 P' pn' b3 b4 b5 b6 b8 b9 b10 →
      (∀ q, q < j → q ≤ e / 2 → (q < 9 ∨ a18 q ≠ 0) → ∃ f, b17 q = nI f ∧ f < 2 * P') → vp_in (nI (e / 2)) 2560 ∧ post (b17 (nI (e / 2)).toNatClampNeg ^^^ (nI e &&& 1)) (ct, (nI P'), pn', lc', cl', mv', ts', lv', fa', a1, a2, b3, b4, b5, b6, b7, b8, b9, b10, b11, b12, b13, b14, b15, b16, b17, a18) := by
    intro j b17 P' pn' b3 b4 b5 b6 b7 b8 b9 b10 lc' cl' mv' ts' lv' fa' b11 b12 b13 b14 b15 b16 hj hj2 hG h
    refine ⟨pk_in (e / 2) 2560 (by omega), ?_⟩
    obtain ⟨f, f1, f2⟩ := h (e / 2) hj (Nat.le_refl _) (Or.inr h18)
    rw [nI_clamp (show e / 2 < 2 ^ 31 by omega), f1, sk_a1 (by omega), sk_xm]
    exact hp _ _ _ _ _ _ _ _ _ _ _ _ _ _ _ _ _ _ _ _ _ _ _ _ (sk_GS_n hG (by omega)) (sk_fm_lt f2)
  intro k
  induction k with
  | zero =>
    intro j b17 P' pn' b3 b4 b5 b6 b7 b8 b9 b10 lc' cl' mv' ts' lv' fa' b11 b12 b13 b14 b15 b16 hk h9 hj hG h
    exact pk_lt (e / 2) j (fun z => Z j b17 _ _ _ _ _ _ _ _ _ _ _ _ _ _ _ _ _ _ _ _ _ _ z hj hG h) (fun z => absurd z (by omega))
  | succ k ih =>
    intro j b17 P' pn' b3 b4 b5 b6 b7 b8 b9 b10 lc' cl' mv' ts' lv' fa' b11 b12 b13 b14 b15 b16 hk h9 hj hG h
    refine pk_lt (e / 2) j (fun z => Z j b17 _ _ _ _ _ _ _ _ _ _ _ _ _ _ _ _ _ _ _ _ _ _ z hj hG h) (fun z => ⟨pk_in j 2560 (by omega), ?_⟩)
    rw [nI_clamp (show j < 2 ^ 31 by omega)]
    have hGb := hG
    obtain ⟨hG1, hG2, hG3, hG4⟩ := hG
    have hP' := hG1.2.2.1
    obtain ⟨⟨l1, l2, l3⟩, ⟨r1, r2, r3⟩⟩ := hg j h9 (by omega)
    have hc := hcc j (by omega) h9 z
    generalize sk_nt (a3 j) = el at l1 l2 l3 hc
    generalize sk_nt (a4 j) = er at r1 r2 r3 hc
    rw [← (hG4 j (by omega)).1] at l1
    rw [← (hG4 j (by omega)).2] at r1
    refine br_c (fun d => nm_r (nI_1 j) (ih (j + 1) _ _ _ _ _ _ _ _ _ _ _ _ _ _ _ _ _ _ _ _ _ _ _ (by omega) (by omega) (by omega) (sk_GS_n hGb (by omega)) (fun q q1 q2 q3 => ?_))) (fun d => ?_)
    · by_cases w : q = j
      · rw [w] at q3
        rcases q3 with y | y
        · omega
        · exact absurd d y
      · exact h q (by omega) q2 q3
    · obtain ⟨f1, f1e, f1l⟩ := h (el / 2) (by omega) (by omega) (Or.inr (hc d).1)
      obtain ⟨f2, f2e, f2l⟩ := h (er / 2) (by omega) (by omega) (Or.inr (hc d).2)
      have x6l := sk_fm_lt (e := el) f1l
      have x7l := sk_fm_lt (e := er) f2l
      rw [l1, r1, sk_sh (show el < 2 ^ 31 by omega), sk_sh (show er < 2 ^ 31 by omega), nI_clamp (show el / 2 < 2 ^ 31 by omega), nI_clamp (show er / 2 < 2 ^ 31 by omega), f1e, f2e, sk_a1 (show el < 2 ^ 31 by omega), sk_a1 (show er < 2 ^ 31 by omega), sk_xm, sk_xm]
      generalize (if el % 2 = 0 then f1 else sk_ng f1) = x6 at x6l
      generalize (if er % 2 = 0 then f2 else sk_ng f2) = x7 at x7l
      have S1 : wX_fix_160 post (wX_fix_62 post (nI e) (nI (e / 2)) (k + 1)) (nI e) (nI (e / 2)) (nI j) (nI x6) (nI x7) 1 ct (nI P') pn' lc' cl' mv' ts' lv' fa' a1 a2 b3 b4 b5 b6 b7 b8 b9 b10 b11 b12 b13 b14 b15 b16 b17 a18 := by
        unfold wX_fix_160
        rw [nI_clamp (show j < 2 ^ 31 by omega), show (2 : Int32) * nI j = nI (2 * j) from pk_mul 2 j, sk_s16 (show 2 * j < 32768 by omega)]
        refine br_f (by decide) ⟨pk_in j 2560 (by omega), nm_e (nm_r (nI_1 j) (ih (j + 1) _ _ _ _ _ _ _ _ _ _ _ _ _ _ _ _ _ _ _ _ _ _ _ (by omega) (by omega) (by omega) (sk_GS_n hGb (by omega)) (fun q q1 q2 q3 => ?_)))⟩
        by_cases w : q = j
        · exact ⟨2 * j, by rw [w, pk_us], by omega⟩
        · rw [pk_un w]
          exact h q (by omega) q2 q3
      have S0 : wX_fix_160 post (wX_fix_62 post (nI e) (nI (e / 2)) (k + 1)) (nI e) (nI (e / 2)) (nI j) (nI x6) (nI x7) 0 ct (nI P') pn' lc' cl' mv' ts' lv' fa' a1 a2 b3 b4 b5 b6 b7 b8 b9 b10 b11 b12 b13 b14 b15 b16 b17 a18 := by
        unfold wX_fix_160
        rw [sk_q_wpX_and_2, nI_clamp (show j < 2 ^ 31 by omega)]
        refine br_t rfl ?_
        refine sk_and (fx := fun v => sk_ev v x6) (fy := fun v => sk_ev v x7) hG1 (by omega) ⟨x6l, fun z => z, fun v _ => rfl⟩ ⟨x7l, fun z => z, fun v _ => rfl⟩ (fun e' P' pn' b3 b4 b5 b6 b7 b8 b9 b10 lc' cl' mv' ts' lv' fa' b11 b12 b13 b14 b15 b16 hGn hR => ⟨pk_in j 2560 (by omega), ?_⟩)
        have he' := hR.1
        have hPn := hGn.1.2.2.1
        have hPl := hGn.2.1
        rw [sk_s16 (show e' < 32768 by omega)]
        refine nm_e (nm_r (nI_1 j) (ih (j + 1) _ _ _ _ _ _ _ _ _ _ _ _ _ _ _ _ _ _ _ _ _ _ _ (by omega) (by omega) (by omega) (sk_GS_n (sk_GS_t hGb hGn) (by omega)) (fun q q1 q2 q3 => ?_)))
        by_cases w : q = j
        · exact ⟨e', by rw [w, pk_us], he'⟩
        · rw [pk_un w]
          obtain ⟨f, g1, g2⟩ := h q (by omega) q2 q3
          exact ⟨f, g1, by omega⟩
      exact ⟨pk_in j 2560 (by omega), pk_in (el / 2) 2560 (by omega), pk_in j 2560 (by omega), nm_e ⟨pk_in j 2560 (by omega), pk_in (er / 2) 2560 (by omega), pk_in j 2560 (by omega), nm_e ⟨pk_in j 2560 (by omega), br_c (fun _ => ⟨pk_in j 2560 (by omega), br_c (fun _ => S1) (fun _ => S0)⟩) (fun _ => S0)⟩⟩⟩
theorem sk_fix {post : Int32 → St2 → Prop} {e i v : Nat} (h : sk_GI sk_no P pn a3 a4 a5 a6 a8 a9 a10) (he : e < 2 * P) (hPC : P + e / 2 ≤ 2560) (hi : i < 8) (hv : v < 2)
    (hp : ∀ e' b17 b18 (P' : Nat) (pn' : Int32) (b3 b4 b5 b6 b7 : Nat → Int32) (b8 : Nat → Int64) (b9 b10 : Nat → Int32) (lc' cl' mv' ts' lv' fa' : Int32) (b11 b12 b13 b14 b15 b16 : Nat → Int32), sk_GS sk_no (e / 2) P a3 a4 P' pn' b3 b4 b5 b6 b8 b9 b10 → e' < 2 * P' → post (nI e') (ct, (nI P'), pn', lc', cl', mv', ts', lv', fa', a1, a2, b3, b4, b5, b6, b7, b8, b9, b10, b11, b12, b13, b14, b15, b16, b17, b18)) :
    wpX_fix post (ct, (nI P), pn, lc, cl, mv, ts, lv, fa, a1, a2, a3, a4, a5, a6, a7, a8, a9, a10, a11, a12, a13, a14, a15, a16, a17, a18) (nI e) (nI i) (nI v) := by
  have h9 := h.2.1
  refine sk_fx h.2.2.2.2.1 h.2.2.1 he hi hv (fun b17 b18 z0 zp h18 hcc => ?_)
  refine ⟨e / 2 + 1, sk_fx62 h.2.2.2.2.1 he hPC hcc h18 (fun e' b17 P' pn' b3 b4 b5 b6 b7 b8 b9 b10 lc' cl' mv' ts' lv' fa' b11 b12 b13 b14 b15 b16 hG h' => hp e' b17 b18 _ _ _ _ _ _ _ _ _ _ _ _ _ _ _ _ _ _ _ _ _ _ hG h') (e / 2) 9 b17 P pn a3 a4 a5 a6 a7 a8 a9 a10 _ _ _ _ _ _ _ _ _ _ _ _ (by omega) (by omega) (by omega) (sk_GS_r h 0) (fun q q1 q2 _ => ?_)⟩
  rcases Nat.eq_zero_or_pos q with w | w
  · exact ⟨0, by rw [w, z0]; rfl, by omega⟩
  · refine ⟨_, zp q w q1, ?_⟩
    split <;> omega
/-- follows, whatever it answers -/
theorem sk_follows {post : Int32 → St2 → Prop} {e i : Nat} (h : sk_GI sk_no P pn a3 a4 a5 a6 a8 a9 a10) (he : e < 2 * P) (hPC : P ≤ 512) (h8 : a1 8 = nI e) (hi : i < 8) (hp : ∀ r u, post r u) : wpX_follows post (9, (nI P), pn, lc, cl, mv, ts, lv, fa, a1, a2, a3, a4, a5, a6, a7, a8, a9, a10, a11, a12, a13, a14, a15, a16, a17, a18) 8 (nI i) := by
  have h9 := h.2.1
  unfold wpX_follows wpX_isWire wpX_isInput
  dsimp only
  rw [show (8 : Int32).toNatClampNeg = 8 from by decide, h8, sk_q_wpX_search_3]
  refine br_f (by decide) (br_f (by decide) (br_f (by decide) (br_f (nI_pos (by omega)) (pk_le 8 i (fun z => absurd z (by omega)) (fun _ => br_f (by decide) ⟨pk_in 8 40 (by omega), ?_⟩)))))
  refine sk_fix (v := 0) h he (by omega) hi (by omega) (fun e1 b17 b18 P' pn' b3 b4 b5 b6 b7 b8 b9 b10 lc' cl' mv' ts' lv' fa' b11 b12 b13 b14 b15 b16 hG1 he1 => ⟨pk_in 8 40 (by omega), ?_⟩)
  have u1 := hG1.2.2.1
  have u0 := hG1.2.1
  dsimp only
  rw [h8]
  refine sk_fix (v := 1) hG1.1 (by omega) (by omega) hi (by omega) (fun e2 b17 b18 P' pn' b3 b4 b5 b6 b7 b8 b9 b10 lc' cl' mv' ts' lv' fa' b11 b12 b13 b14 b15 b16 hG2 he2 => ?_)
  have w1 := hG2.2.2.1
  have w0 := hG2.2.1
  have w3 := hG2.1.2.2.1
  have B : ∀ (z : Int32) (lc' cl' mv' ts' lv' fa' : Int32) (b11 b12 b13 b14 b15 b16 : Nat → Int32), wX_follows_98 post (nI P) z 9 (nI P') pn' lc' cl' mv' ts' lv' fa' a1 a2 b3 b4 b5 b6 b7 b8 b9 b10 b11 b12 b13 b14 b15 b16 b17 b18 := by
    intro z lc' cl' mv' ts' lv' fa' b11 b12 b13 b14 b15 b16
    unfold wX_follows_98
    rw [sk_q_wpX_backTo_3]
    exact sk_backTo h9 (by omega) hG2.1 (fun _ _ _ => hp _ _)
  refine br_c (fun _ => B _ _ _ _ _ _ _ _ _ _ _ _ _) (fun _ => ?_)
  rw [sk_xor1]
  have D : ∀ (z : Int32) (lc' cl' mv' ts' lv' fa' : Int32) (b11 b12 b13 b14 b15 b16 : Nat → Int32), wX_follows_79 post (nI P) (nI e1) (nI e2) z 9 (nI P') pn' lc' cl' mv' ts' lv' fa' a1 a2 b3 b4 b5 b6 b7 b8 b9 b10 b11 b12 b13 b14 b15 b16 b17 b18 := by
    intro z lc' cl' mv' ts' lv' fa' b11 b12 b13 b14 b15 b16
    unfold wX_follows_79
    rw [sk_q_wpX_search_3, sk_xor1]
    exact sk_search hG2.1.2.2.2.2.1 w3 (by omega) (by rw [sk_ng_div]; omega) (fun _ lc' cl' mv' ts' lv' fa' b11 b12 b13 b14 b15 b16 => br_t rfl (B _ _ _ _ _ _ _ _ _ _ _ _ _)) (fun lc' cl' mv' ts' lv' fa' b11 b12 b13 b14 b15 b16 => br_f (by decide) (B _ _ _ _ _ _ _ _ _ _ _ _ _))
  exact sk_search hG2.1.2.2.2.2.1 w3 (by omega) (by rw [sk_ng_div]; omega) (fun _ lc' cl' mv' ts' lv' fa' b11 b12 b13 b14 b15 b16 => br_t rfl (D _ _ _ _ _ _ _ _ _ _ _ _ _)) (fun lc' cl' mv' ts' lv' fa' b11 b12 b13 b14 b15 b16 => br_f (by decide) (D _ _ _ _ _ _ _ _ _ _ _ _ _))
/-- follows of an input that nothing has -/
theorem sk_follows_0 {post : Int32 → St2 → Prop} {e i : Nat} (h : sk_GI X P pn a3 a4 a5 a6 a8 a9 a10) (he : e < 2 * P) (h8 : a1 8 = nI e) (hi : i < 8) (hXi : X (i + 1)) (hXe : ¬ X (e / 2)) (hp : ∀ u, post 0 u) : wpX_follows post (9, (nI P), pn, lc, cl, mv, ts, lv, fa, a1, a2, a3, a4, a5, a6, a7, a8, a9, a10, a11, a12, a13, a14, a15, a16, a17, a18) 8 (nI i) := by
  have h9 := h.2.1
  unfold wpX_follows wpX_isWire wpX_isInput
  dsimp only
  rw [show (8 : Int32).toNatClampNeg = 8 from by decide, h8]
  refine br_f (by decide) (br_f (by decide) (br_f (by decide) (br_f (nI_pos (by omega)) (pk_le 8 i (fun z => absurd z (by omega)) (fun _ => br_f (by decide) ⟨pk_in 8 40 (by omega), ?_⟩)))))
  refine sk_fix_same (v := 0) h.1 h.2.2.2.2.1 h.2.2.1 he hi (by omega) hXi hXe (fun b17 b18 => ⟨pk_in 8 40 (by omega), ?_⟩)
  dsimp only
  rw [h8]
  refine sk_fix_same (v := 1) h.1 h.2.2.2.2.1 h.2.2.1 he hi (by omega) hXi hXe (fun b17 b18 => br_t rfl ?_)
  unfold wX_follows_98
  rw [sk_q_wpX_backTo_3]
  exact sk_backTo h9 (Nat.le_refl P) h (fun _ _ _ => hp _)
theorem sk_follows_bad {post : Int32 → St2 → Prop} {x : Int32} (hp : ∀ u, post (-1) u) : wpX_follows post (8, pt, pn, lc, cl, mv, ts, lv, fa, a1, a2, a3, a4, a5, a6, a7, a8, a9, a10, a11, a12, a13, a14, a15, a16, a17, a18) 8 x := by
  unfold wpX_follows wpX_isWire
  dsimp only
  exact br_f (by decide) (br_t (by decide) (br_t rfl (hp _)))
theorem sk_follows_out {post : Int32 → St2 → Prop} {x : Int32} (hx : ¬ ∃ i, i < 8 ∧ x = nI i) (hp : ∀ u, post (-1) u) : wpX_follows post (9, pt, pn, lc, cl, mv, ts, lv, fa, a1, a2, a3, a4, a5, a6, a7, a8, a9, a10, a11, a12, a13, a14, a15, a16, a17, a18) 8 x := by
  unfold wpX_follows wpX_isWire wpX_isInput
  dsimp only
  refine br_f (by decide) (br_f (by decide) (br_f (by decide) (br_c (fun _ => br_t rfl (hp _)) (fun c => br_c (fun _ => br_t rfl (hp _)) (fun d => ?_)))))
  rcases pk_ix x (n := 8) (by omega) with z | z | z
  · exact absurd z c
  · exact absurd z d
  · exact absurd z hx
end
end
section
section
variable {ct pt pn lc cl mv ts lv fa : Int32} {a1 a2 a3 a4 a5 a6 a7 : Nat → Int32} {a8 : Nat → Int64} {a9 a10 a11 a12 a13 a14 a15 a16 a17 a18 : Nat → Int32}
variable {X : Nat → Prop} {post : St2 → Prop} {mc ms kc ks : Nat}
theorem sk_i242 (hp : ∀ b1 b2, (∀ w, w < 8 → b1 w = nI (2 * (w + 1))) → post (ct, pt, pn, lc, cl, mv, ts, lv, fa, b1, b2, a3, a4, a5, a6, a7, a8, a9, a10, a11, a12, a13, a14, a15, a16, a17, a18)) :
    ∀ (k i : Nat) (b1 b2 : Nat → Int32), 8 ≤ i + k → i ≤ 8 → (∀ w, w < i → b1 w = nI (2 * (w + 1))) → wX_init_242 post mc ms kc ks ct pt pn lc cl mv ts lv fa (k + 1) (nI i) b1 b2 a3 a4 a5 a6 a7 a8 a9 a10 a11 a12 a13 a14 a15 a16 a17 a18 := by
  intro k
  induction k with
  | zero =>
    intro i b1 b2 hk hi h
    exact pk_le 8 i (fun z => hp b1 b2 (fun w hw => h w (by omega))) (fun z => absurd z (by omega))
  | succ k ih =>
    intro i b1 b2 hk hi h
    refine pk_le 8 i (fun z => hp b1 b2 (fun w hw => h w (by omega))) (fun z => ⟨pk_in i 40 (by omega), ?_⟩)
    rw [nI_clamp (show i < 2 ^ 31 by omega), show (2 : Int32) * (nI i + 1) = nI (2 * (i + 1)) from by rw [nI_1]; exact pk_mul 2 (i + 1), sk_s16 (show 2 * (i + 1) < 32768 by omega)]
    refine nm_e ⟨pk_in i 40 (by omega), nm_e (nm_r (nI_1 i) (ih (i + 1) _ _ (by omega) (by omega) (fun w hw => ?_)))⟩
    by_cases e : w = i
    · rw [e, pk_us]
    · rw [pk_un e]
      exact h w (by omega)
theorem sk_i199 (h5 : ∀ j, j < 1024 → a5 j = -1) (hX : ∀ i, X i → 1 ≤ i ∧ i ≤ 8) (hpn : pn = 0)
    (hp : ∀ b1 b2 b7 b8 b9 b10, sk_GI X 9 pn a3 a4 a5 a6 b8 b9 b10 → (∀ w, w < 8 → b1 w = nI (2 * (w + 1))) → post (ct, (nI 9), pn, lc, cl, mv, ts, lv, fa, b1, b2, a3, a4, a5, a6, b7, b8, b9, b10, a11, a12, a13, a14, a15, a16, a17, a18)) :
    ∀ (k i : Nat) (x : Int32) (b7 : Nat → Int32), 64 ≤ i + k → i ≤ 64 → wX_init_199 post mc ms kc ks ct pt pn lc cl mv ts lv fa (k + 1) x (nI i) a1 a2 a3 a4 a5 a6 b7 a8 a9 a10 a11 a12 a13 a14 a15 a16 a17 a18 := by
  have hg : sk_GW X 9 a3 a4 := fun p h9 hp => absurd hp (by omega)
  have Z : ∀ b7 : Nat → Int32, wpX_lookAgain (fun u => match u with | (ct0, pt0, pn0, lc', cl', mv', ts', lv', fa', c1, c2, c3, c4, c5, c6, c7, c8, c9, c10, b11, b12, b13, b14, b15, b16, c17, c18) => ∃ fu242, wX_init_242 post mc ms kc ks ct0 pt0 pn0 lc' cl' mv' ts' lv' fa' fu242 0 c1 c2 c3 c4 c5 c6 c7 c8 c9 c10 b11 b12 b13 b14 b15 b16 c17 c18) (ct, (nI 9), pn, lc, cl, mv, ts, lv, fa, a1, a2, a3, a4, a5, a6, b7, a8, a9, a10, a11, a12, a13, a14, a15, a16, a17, a18) := by
    intro b7
    refine sk_lookAgain hg (by omega) (fun b8 b9 b10 hL => ⟨9, sk_i242 (fun b1 b2 h => ?_) 8 0 _ _ (by omega) (by omega) (fun w hw => absurd hw (by omega))⟩)
    refine hp b1 b2 b7 b8 b9 b10 ⟨hX, by omega, by omega, ⟨0, by omega, hpn⟩, hg, ⟨fun k hk => Or.inl (h5 k hk), fun q q9 hq => absurd hq (by omega)⟩, hL⟩ h
  intro k
  induction k with
  | zero =>
    intro i x b7 hk hi
    exact pk_le 64 i (fun z => Z b7) (fun z => absurd z (by omega))
  | succ k ih =>
    intro i x b7 hk hi
    exact pk_le 64 i (fun z => Z b7) (fun z => nm_e ⟨pk_in i 64 (by omega), nm_e (nm_r (nI_1 i) (ih (i + 1) _ _ (by omega) (by omega)))⟩)
theorem sk_init (hmc : 18 ≤ mc) (hms : 27819 ≤ ms) (hX : ∀ i, X i → 1 ≤ i ∧ i ≤ 8)
    (hp : ∀ (pn lc cl mv ts lv fa : Int32) (a1 a2 a3 a4 a5 a6 a7 : Nat → Int32) (a8 : Nat → Int64) (a9 a10 a11 a12 a13 a14 a15 a16 a17 a18 : Nat → Int32), sk_GI X 9 pn a3 a4 a5 a6 a8 a9 a10 → (∀ w, w < 8 → a1 w = nI (2 * (w + 1))) → post (8, (nI 9), pn, lc, cl, mv, ts, lv, fa, a1, a2, a3, a4, a5, a6, a7, a8, a9, a10, a11, a12, a13, a14, a15, a16, a17, a18)) :
    wpX_init post mc ms (0, 0, 0, 0, 0, 0, 0, 0, 0) := by
  have K : ∀ (k i : Nat) (b5 b9 : Nat → Int32), 1024 ≤ i + k → i ≤ 1024 → (∀ j, j < i → b5 j = -1) → wX_init_168 post mc ms 18 27819 8 0 0 0 0 0 0 0 0 (k + 1) (nI i) (fun _ => 0) (fun _ => 0) (fun _ => 0) (fun _ => 0) b5 (fun _ => 0) (fun _ => 0) (fun _ => 0) b9 (fun _ => 0) (fun _ => 0) (fun _ => 0) (fun _ => 0) (fun _ => 0) (fun _ => 0) (fun _ => 0) (fun _ => 0) (fun _ => 0) := by
    have Z : ∀ b5 b9 : Nat → Int32, (∀ j, j < 1024 → b5 j = -1) → ∃ fu199, wX_init_199 post mc ms 18 27819 8 0 0 0 0 0 0 0 0 fu199 0 0 (fun _ => 0) (fun _ => 0) (fun _ => 0) (fun _ => 0) b5 (fun _ => 0) (fun _ => 0) (fun _ => 0) b9 (fun _ => 0) (fun _ => 0) (fun _ => 0) (fun _ => 0) (fun _ => 0) (fun _ => 0) (fun _ => 0) (fun _ => 0) (fun _ => 0) := by
      intro b5 b9 h
      exact ⟨65, sk_i199 h hX rfl (fun b1 b2 b7 b8 b9 b10 hG h1 => hp _ _ _ _ _ _ _ _ _ _ _ _ _ _ _ _ _ _ _ _ _ _ _ _ _ hG h1) 64 0 0 _ (by omega) (by omega)⟩
    intro k
    induction k with
    | zero =>
      intro i b5 b9 hk hi h
      exact pk_le 1024 i (fun z => Z b5 b9 (fun j hj => h j (by omega))) (fun z => absurd z (by omega))
    | succ k ih =>
      intro i b5 b9 hk hi h
      refine pk_le 1024 i (fun z => Z b5 b9 (fun j hj => h j (by omega))) (fun z => ⟨pk_in i 1024 z, nm_e ⟨pk_in i 1024 z, nm_e (nm_r (nI_1 i) (ih (i + 1) _ _ (by omega) (by omega) (fun j hj => ?_)))⟩⟩)
      rw [nI_clamp (show i < 2 ^ 31 by omega)]
      by_cases e : j = i
      · rw [e, pk_us]
      · rw [pk_un e]
        exact h j (by omega)
  unfold wpX_init
  dsimp only
  refine ⟨by omega, by omega, by omega, by omega, by omega, by omega, by omega, by omega, by omega, by omega, by omega, by omega, by omega, by omega, by omega, by omega, by omega, by omega, by omega, by omega, by omega, by omega, by omega, by omega, by omega, by omega, by omega, by omega, by omega, by omega, by omega, by omega, by omega, by omega, by omega, by omega, ?_⟩
  exact ⟨1025, K 1024 0 _ _ (by omega) (by omega) (fun j hj => absurd hj (by omega))⟩
end
end
section
section
variable {post : Int32 → St0 → Prop} {mc ms kc ks : Nat} {x0 x1 x2 x3 x4 x5 x7 x8 x9 x10 x11 : Int32}
theorem sk_t626 {x15 x16 x21 x23 x24 x25 z0 : Int32} (hp : post 1 ()) (h7 : (x15 = 0 → x7 = -1) ∧ (¬ x15 = 0 → x7 = 8)) (h8 : (x16 = 0 → x8 = -1) ∧ (¬ x16 = 0 → x8 = x21)) (h10 : (x15 = 0 → x10 = -1) ∧ (¬ x15 = 0 → x10 = x23)) (h24 : ¬ x24 = 0 → x9 = x1) (h9 : x15 = 0 → x9 = -1)
    (h25 : x25 = 0 → x11 = -1) (h26 : ¬ x25 = 0 → z0 = 0 → x11 = 0) : wL_lawOf_626 post mc ms x1 x7 x8 x9 x10 x11 x15 x16 x21 x23 x24 x25 z0 kc ks := by
  have A : wL_lawOf_698 post mc ms x11 x25 z0 kc ks := br_c (fun c => br_t (h25 c) hp) (fun c => br_c (fun d => br_t (h26 c d) hp) (fun d => hp))
  have B : wL_lawOf_687 post mc ms x9 x11 x15 x25 z0 kc ks := br_c (fun c => br_t (h9 c) A) (fun _ => A)
  have D : ∀ z, x10 = z → wL_lawOf_673 post mc ms x1 x9 x11 x15 x24 x25 z0 z x10 kc ks := fun z hz => br_t hz (br_c (fun _ => B) (fun c => br_t (h24 c) B))
  have E : ∀ z, x8 = z → wL_lawOf_657 post mc ms x1 x9 x10 x11 x15 x23 x24 x25 z0 z x8 kc ks := fun z hz => br_t hz (br_c (fun c => D _ (h10.1 c)) (fun c => D _ (h10.2 c)))
  have G : ∀ z, x7 = z → wL_lawOf_641 post mc ms x1 x8 x9 x10 x11 x15 x16 x21 x23 x24 x25 z0 z x7 kc ks := fun z hz => br_t hz (br_c (fun c => E _ (h8.1 c)) (fun c => E _ (h8.2 c)))
  exact br_c (fun c => G _ (h7.1 c)) (fun c => G _ (h7.2 c))
theorem sk_t595 {x15 x16 x21 x23 x24 x25 : Int32} (hp : post 1 ()) (h7 : (x15 = 0 → x7 = -1) ∧ (¬ x15 = 0 → x7 = 8)) (h8 : (x16 = 0 → x8 = -1) ∧ (¬ x16 = 0 → x8 = x21)) (h10 : (x15 = 0 → x10 = -1) ∧ (¬ x15 = 0 → x10 = x23)) (h24 : ¬ x24 = 0 → x9 = x1) (h9 : x15 = 0 → x9 = -1)
    (h25 : x25 = 0 → x11 = -1) (h26 : ¬ x25 = 0 → ¬ (x5 = x1 ∨ x5 = x2 ∨ (¬ x0 < 7 ∧ x5 = x3)) → x11 = 0) : wL_lawOf_595 post mc ms x0 x1 x2 x3 x5 x7 x8 x9 x10 x11 x15 x16 x21 x23 x24 x25 kc ks := by
  have U : wL_lawOf_626 post mc ms x1 x7 x8 x9 x10 x11 x15 x16 x21 x23 x24 x25 1 kc ks := sk_t626 hp h7 h8 h10 h24 h9 h25 (fun _ z => absurd z (by decide))
  have N : ¬ (x5 = x1 ∨ x5 = x2 ∨ (¬ x0 < 7 ∧ x5 = x3)) → wL_lawOf_626 post mc ms x1 x7 x8 x9 x10 x11 x15 x16 x21 x23 x24 x25 0 kc ks := fun hn => sk_t626 hp h7 h8 h10 h24 h9 h25 (fun c _ => h26 c hn)
  refine br_c (fun c => U) (fun c => br_c (fun d => U) (fun d => br_c (fun f => N ?_) (fun f => br_c (fun g => U) (fun g => N ?_))))
  · rintro (z | z | z)
    · exact c z
    · exact d z
    · exact z.1 f
  · rintro (z | z | z)
    · exact c z
    · exact d z
    · exact g z.2
theorem sk_t571 {x15 x16 x21 x23 x24 : Int32} (hp : post 1 ()) (h7 : (x15 = 0 → x7 = -1) ∧ (¬ x15 = 0 → x7 = 8)) (h8 : (x16 = 0 → x8 = -1) ∧ (¬ x16 = 0 → x8 = x21)) (h10 : (x15 = 0 → x10 = -1) ∧ (¬ x15 = 0 → x10 = x23)) (h24 : ¬ x24 = 0 → x9 = x1) (h9 : x15 = 0 → x9 = -1)
    (hi1 : x15 = 0 ∨ x5 < 0 ∨ 7 < x5 → x11 = -1) (hi2 : ¬ x15 = 0 → ¬ x5 < 0 → ¬ 7 < x5 → ¬ (x5 = x1 ∨ x5 = x2 ∨ (¬ x0 < 7 ∧ x5 = x3)) → x11 = 0) : wL_lawOf_571 post mc ms x0 x1 x2 x3 x5 x7 x8 x9 x10 x11 x15 x16 x21 x23 x24 kc ks := by
  have Z : (x15 = 0 ∨ x5 < 0 ∨ 7 < x5) → wL_lawOf_595 post mc ms x0 x1 x2 x3 x5 x7 x8 x9 x10 x11 x15 x16 x21 x23 x24 0 kc ks := fun h => sk_t595 hp h7 h8 h10 h24 h9 (fun _ => hi1 h) (fun z => absurd rfl z)
  exact br_c (fun c => Z (Or.inl c)) (fun c => br_c (fun d => Z (Or.inr (Or.inl d))) (fun d => br_c (fun f => Z (Or.inr (Or.inr f))) (fun f => sk_t595 hp h7 h8 h10 h24 h9 (fun z => absurd z (by decide)) (fun _ hn => hi2 c d f hn))))
theorem sk_t545 {x15 x16 x21 x22 x23 : Int32} (hp : post 1 ()) (h7 : (x15 = 0 → x7 = -1) ∧ (¬ x15 = 0 → x7 = 8)) (h8 : (x16 = 0 → x8 = -1) ∧ (¬ x16 = 0 → x8 = x21)) (h10 : (x15 = 0 → x10 = -1) ∧ (¬ x15 = 0 → x10 = x23)) (hpl : ¬ x15 = 0 → ¬ x22 = 0 → (x0 = 0 ∨ x0 = 1) → x9 = x1) (h9 : x15 = 0 → x9 = -1)
    (hi1 : x15 = 0 ∨ x5 < 0 ∨ 7 < x5 → x11 = -1) (hi2 : ¬ x15 = 0 → ¬ x5 < 0 → ¬ 7 < x5 → ¬ (x5 = x1 ∨ x5 = x2 ∨ (¬ x0 < 7 ∧ x5 = x3)) → x11 = 0) : wL_lawOf_545 post mc ms x0 x1 x2 x3 x5 x7 x8 x9 x10 x11 x15 x16 x21 x22 x23 kc ks := by
  have Z : wL_lawOf_571 post mc ms x0 x1 x2 x3 x5 x7 x8 x9 x10 x11 x15 x16 x21 x23 0 kc ks := sk_t571 hp h7 h8 h10 (fun z => absurd rfl z) h9 hi1 hi2
  have O : x9 = x1 → wL_lawOf_571 post mc ms x0 x1 x2 x3 x5 x7 x8 x9 x10 x11 x15 x16 x21 x23 1 kc ks := fun h => sk_t571 hp h7 h8 h10 (fun _ => h) h9 hi1 hi2
  exact br_c (fun _ => Z) (fun c => br_c (fun _ => Z) (fun d => br_c (fun f => O (hpl c d (Or.inl f))) (fun _ => br_c (fun f => O (hpl c d (Or.inr f))) (fun _ => Z))))
/-- no gate: all answers are -1 -/
theorem sk_b147 (hp : post 1 ()) : wL_lawOf_147 post mc ms x0 x1 x2 x3 x4 x5 (-1) (-1) (-1) (-1) (-1) 0 kc ks := by
  have T : ∀ x21 x22 x23, wL_lawOf_545 post mc ms x0 x1 x2 x3 x5 (-1) (-1) (-1) (-1) (-1) 0 0 x21 x22 x23 kc ks := fun x21 x22 x23 =>
    sk_t545 hp ⟨fun _ => rfl, fun z => absurd rfl z⟩ ⟨fun _ => rfl, fun z => absurd rfl z⟩ ⟨fun _ => rfl, fun z => absurd rfl z⟩ (fun z => absurd rfl z) (fun _ => rfl) (fun _ => rfl) (fun z => absurd rfl z)
  have N526 : ∀ x21 x22, wL_lawOf_526 post mc ms x0 x1 x2 x3 x5 (-1) (-1) (-1) (-1) (-1) 0 0 x21 x22 kc ks := fun x21 x22 => T _ _ _
  have N532 : ∀ x21 x22, wL_lawOf_532 post mc ms x0 x1 x2 x3 x5 (-1) (-1) (-1) (-1) (-1) 0 0 x21 x22 kc ks := fun x21 x22 => br_c (fun _ => T _ _ _) (fun _ => T _ _ _)
  have N509 : ∀ x21 x22, wL_lawOf_509 post mc ms x0 x1 x2 x3 x5 (-1) (-1) (-1) (-1) (-1) 0 0 x21 x22 kc ks := fun x21 x22 => br_c (fun _ => N526 _ _) (fun _ => br_c (fun _ => br_c (fun _ => N526 _ _) (fun _ => N532 _ _)) (fun _ => N532 _ _))
  have N380 : ∀ x21 x22, wL_lawOf_380 post mc ms x0 x1 x2 x3 x5 (-1) (-1) (-1) (-1) (-1) 0 0 x21 x22 kc ks := fun x21 x22 => br_c (fun _ => T _ _ _) (fun _ => T _ _ _)
  have N406 : ∀ x21 x22, wL_lawOf_406 post mc ms x0 x1 x2 x3 x5 (-1) (-1) (-1) (-1) (-1) 0 0 x21 x22 kc ks := fun x21 x22 => br_c (fun _ => T _ _ _) (fun _ => T _ _ _)
  have N369 : ∀ x21 x22, wL_lawOf_369 post mc ms x0 x1 x2 x3 x5 (-1) (-1) (-1) (-1) (-1) 0 0 x21 x22 kc ks := fun x21 x22 => br_c (fun _ => N380 _ _) (fun _ => br_c (fun _ => N380 _ _) (fun _ => br_c (fun _ => N406 _ _) (fun _ => br_c (fun _ => N406 _ _) (fun _ => br_c (fun _ => br_c (fun _ => T _ _ _) (fun _ => T _ _ _)) (fun _ => br_c (fun _ => br_c (fun _ => T _ _ _) (fun _ => T _ _ _)) (fun _ => br_c (fun _ => br_c (fun _ => T _ _ _) (fun _ => T _ _ _)) (fun _ => br_c (fun _ => N526 _ _) (fun _ => br_c (fun _ => N509 _ _) (fun _ => br_c (fun _ => N509 _ _) (fun _ => br_c (fun _ => N509 _ _) (fun _ => N526 _ _)))))))))))
  have N357 : ∀ x21, wL_lawOf_357 post mc ms x0 x1 x2 x3 x5 (-1) (-1) (-1) (-1) (-1) 0 0 x21 kc ks := fun x21 => br_c (fun _ => N369 _ _) (fun _ => N369 _ _)
  have N172 : wL_lawOf_172 post mc ms x0 x1 x2 x3 x4 x5 (-1) (-1) (-1) (-1) (-1) 0 0 kc ks := nm_e (nm_e (nm_e (nm_e (br_c (fun _ => N357 _) (fun _ => br_c (fun _ => N357 _) (fun _ => br_c (fun _ => N357 _) (fun _ => br_c (fun _ => N357 _) (fun _ => br_c (fun _ => N357 _) (fun _ => br_c (fun _ => N357 _) (fun _ => br_c (fun _ => N357 _) (fun _ => br_c (fun _ => br_c (fun _ => N357 _) (fun _ => N357 _)) (fun _ => br_c (fun _ => ⟨by decide, N357 _⟩) (fun _ => N357 _)))))))))))))
  exact br_t rfl N172
/-- how many assignments a gate is 1 for -/
def sk_many (k A B D : Nat) : Nat :=
  match k with
  | 0 => if A = B then 128 else 64
  | 1 => if A = B then 128 else 192
  | 2 => if A = B then 0 else 128
  | 3 => if A = B then 128 else 192
  | 4 => if A = B then 128 else 64
  | 5 => if A = B then 256 else 128
  | 6 => if A = B then 256 else 192
  | 7 => if B = D then 128 else if A = B then 192 else if A = D then 64 else 128
  | _ => 128
theorem sk_g357 {k A B D : Nat} {x16 x21 : Int32} (hk : k ≤ 9) (hA : A < 8) (hB : B < 8) (h3 : k < 7 ∨ (D < 8 ∧ x3 = nI D)) (hp : post 1 ()) (hpl : A = B → (k = 0 ∨ k = 1) → x9 = nI A)
    (hi1 : x5 < 0 ∨ 7 < x5 → x11 = -1) (hi2 : ¬ x5 < 0 → ¬ 7 < x5 → ¬ (x5 = nI A ∨ x5 = nI B ∨ (7 ≤ k ∧ x5 = x3)) → x11 = 0) (h8 : (x16 = 0 → x8 = -1) ∧ (¬ x16 = 0 → x8 = x21)) : wL_lawOf_357 post mc ms (nI k) (nI A) (nI B) x3 x5 8 x8 x9 (nI (sk_many k A B D)) x11 1 x16 x21 kc ks := by
  have T : ∀ x22 x23, (¬ x22 = 0 → A = B) → nI (sk_many k A B D) = x23 → wL_lawOf_545 post mc ms (nI k) (nI A) (nI B) x3 x5 8 x8 x9 (nI (sk_many k A B D)) x11 1 x16 x21 x22 x23 kc ks := by
    intro x22 x23 h22 h23
    refine sk_t545 hp ⟨fun z => absurd z (by decide), fun _ => rfl⟩ h8 ⟨fun z => absurd z (by decide), fun _ => h23⟩ (fun _ c d => hpl (h22 c) ?_) (fun z => absurd z (by decide)) (fun z => ?_) (fun _ c d hn => hi2 c d (fun w => hn ?_))
    · rcases d with d | d
      · exact Or.inl ((nI_eq (by omega) (by omega)).mp d)
      · exact Or.inr ((nI_eq (a := k) (b := 1) (by omega) (by omega)).mp d)
    · rcases z with z | z
      · exact absurd z (by decide)
      · exact hi1 z
    · rcases w with w | w | w
      · exact Or.inl w
      · exact Or.inr (Or.inl w)
      · exact Or.inr (Or.inr ⟨nI_nlt (a := k) (b := 7) w.1 (by omega), w.2⟩)
  have M : ∀ x22 : Int32, (x22 = 1 ∧ A = B ∨ x22 = 0 ∧ A ≠ B) → wL_lawOf_369 post mc ms (nI k) (nI A) (nI B) x3 x5 8 x8 x9 (nI (sk_many k A B D)) x11 1 x16 x21 x22 kc ks := by
    intro x22 h22
    rcases (show k = 0 ∨ k = 1 ∨ k = 2 ∨ k = 3 ∨ k = 4 ∨ k = 5 ∨ k = 6 ∨ k = 7 ∨ k = 8 ∨ k = 9 by omega) with e | e | e | e | e | e | e | e | e | e <;> subst e
    · rcases h22 with ⟨e, h⟩ | ⟨e, h⟩ <;> subst e
      · exact br_t rfl (br_f (by decide) (T _ _ (fun _ => h) (by show nI (if A = B then _ else _) = _; rw [if_pos h]; rfl)))
      · exact br_t rfl (br_t rfl (T _ _ (fun z => absurd rfl z) (by show nI (if A = B then _ else _) = _; rw [if_neg h]; rfl)))
    · rcases h22 with ⟨e, h⟩ | ⟨e, h⟩ <;> subst e
      · exact br_f (by decide) (br_f (by decide) (br_t rfl (br_f (by decide) (T _ _ (fun _ => h) (by show nI (if A = B then _ else _) = _; rw [if_pos h]; rfl)))))
      · exact br_f (by decide) (br_f (by decide) (br_t rfl (br_t rfl (T _ _ (fun z => absurd rfl z) (by show nI (if A = B then _ else _) = _; rw [if_neg h]; rfl)))))
    · rcases h22 with ⟨e, h⟩ | ⟨e, h⟩ <;> subst e
      · exact br_f (by decide) (br_f (by decide) (br_f (by decide) (br_f (by decide) (br_t rfl (br_f (by decide) (T _ _ (fun _ => h) (by show nI (if A = B then _ else _) = _; rw [if_pos h]; rfl)))))))
      · exact br_f (by decide) (br_f (by decide) (br_f (by decide) (br_f (by decide) (br_t rfl (br_t rfl (T _ _ (fun z => absurd rfl z) (by show nI (if A = B then _ else _) = _; rw [if_neg h]; rfl)))))))
    · rcases h22 with ⟨e, h⟩ | ⟨e, h⟩ <;> subst e
      · exact br_f (by decide) (br_f (by decide) (br_f (by decide) (br_t rfl (br_f (by decide) (T _ _ (fun _ => h) (by show nI (if A = B then _ else _) = _; rw [if_pos h]; rfl))))))
      · exact br_f (by decide) (br_f (by decide) (br_f (by decide) (br_t rfl (br_t rfl (T _ _ (fun z => absurd rfl z) (by show nI (if A = B then _ else _) = _; rw [if_neg h]; rfl))))))
    · rcases h22 with ⟨e, h⟩ | ⟨e, h⟩ <;> subst e
      · exact br_f (by decide) (br_t rfl (br_f (by decide) (T _ _ (fun _ => h) (by show nI (if A = B then _ else _) = _; rw [if_pos h]; rfl))))
      · exact br_f (by decide) (br_t rfl (br_t rfl (T _ _ (fun z => absurd rfl z) (by show nI (if A = B then _ else _) = _; rw [if_neg h]; rfl))))
    · rcases h22 with ⟨e, h⟩ | ⟨e, h⟩ <;> subst e
      · exact br_f (by decide) (br_f (by decide) (br_f (by decide) (br_f (by decide) (br_f (by decide) (br_t rfl (br_f (by decide) (T _ _ (fun _ => h) (by show nI (if A = B then _ else _) = _; rw [if_pos h]; rfl))))))))
      · exact br_f (by decide) (br_f (by decide) (br_f (by decide) (br_f (by decide) (br_f (by decide) (br_t rfl (br_t rfl (T _ _ (fun z => absurd rfl z) (by show nI (if A = B then _ else _) = _; rw [if_neg h]; rfl))))))))
    · rcases h22 with ⟨e, h⟩ | ⟨e, h⟩ <;> subst e
      · exact br_f (by decide) (br_f (by decide) (br_f (by decide) (br_f (by decide) (br_f (by decide) (br_f (by decide) (br_t rfl (br_f (by decide) (T _ _ (fun _ => h) (by show nI (if A = B then _ else _) = _; rw [if_pos h]; rfl)))))))))
      · exact br_f (by decide) (br_f (by decide) (br_f (by decide) (br_f (by decide) (br_f (by decide) (br_f (by decide) (br_t rfl (br_t rfl (T _ _ (fun z => absurd rfl z) (by show nI (if A = B then _ else _) = _; rw [if_neg h]; rfl)))))))))
    · have h22b : ¬ x22 = 0 → A = B := by
        rcases h22 with ⟨_, h⟩ | ⟨e, _⟩
        · exact fun _ => h
        · exact fun z => absurd e z
      obtain ⟨hD, h3⟩ : D < 8 ∧ x3 = nI D := h3.resolve_left (by omega)
      subst h3
      have E : sk_many 7 A B D = if B = D then 128 else if A = B then 192 else if A = D then 64 else 128 := rfl
      have Q : (A = B ∨ A = D ∨ B = D) → wL_lawOf_509 post mc ms (nI 7) (nI A) (nI B) (nI D) x5 8 x8 x9 (nI (sk_many 7 A B D)) x11 1 x16 x21 x22 kc ks := by
        intro hq
        refine br_f (by decide) (br_t rfl (pk_eq B D (fun e => T _ _ h22b (by rw [E, if_pos e]; rfl)) (fun e => pk_eq A B (fun f => T _ _ h22b (by rw [E, if_neg e, if_pos f]; rfl)) (fun f => T _ _ h22b ?_))))
        rw [E, if_neg e, if_neg f, if_pos (by omega)]
        rfl
      refine br_f (by decide) (br_f (by decide) (br_f (by decide) (br_f (by decide) (br_f (by decide) (br_f (by decide) (br_f (by decide) (br_f (by decide) (pk_eq A B (fun e => Q (Or.inl e)) (fun e => pk_eq A D (fun f => Q (Or.inr (Or.inl f))) (fun f => pk_eq B D (fun g => Q (Or.inr (Or.inr g))) (fun g => T _ _ h22b ?_)))))))))))
      rw [E, if_neg g, if_neg e, if_neg f]
      rfl
    · have h22b : ¬ x22 = 0 → A = B := by
        rcases h22 with ⟨_, h⟩ | ⟨e, _⟩
        · exact fun _ => h
        · exact fun z => absurd e z
      obtain ⟨hD, h3⟩ : D < 8 ∧ x3 = nI D := h3.resolve_left (by omega)
      subst h3
      have Q : wL_lawOf_509 post mc ms (nI 8) (nI A) (nI B) (nI D) x5 8 x8 x9 (nI (sk_many 8 A B D)) x11 1 x16 x21 x22 kc ks := br_t rfl (T _ _ h22b rfl)
      exact br_f (by decide) (br_f (by decide) (br_f (by decide) (br_f (by decide) (br_f (by decide) (br_f (by decide) (br_f (by decide) (br_f (by decide) (br_c (fun _ => Q) (fun _ => br_c (fun _ => Q) (fun _ => br_c (fun _ => Q) (fun _ => T _ _ h22b rfl)))))))))))
    · have h22b : ¬ x22 = 0 → A = B := by
        rcases h22 with ⟨_, h⟩ | ⟨e, _⟩
        · exact fun _ => h
        · exact fun z => absurd e z
      exact br_f (by decide) (br_f (by decide) (br_f (by decide) (br_f (by decide) (br_f (by decide) (br_f (by decide) (br_f (by decide) (br_t rfl (T _ _ h22b rfl))))))))
  exact pk_eq A B (fun e => M 1 (Or.inl ⟨rfl, e⟩)) (fun e => M 0 (Or.inr ⟨rfl, e⟩))
theorem sk_g172 {k A B D : Nat} {x16 : Int32} (hk : k ≤ 9) (hA : A < 8) (hB : B < 8) (h3 : k < 7 ∨ (D < 8 ∧ x3 = nI D)) (hp : post 1 ()) (hpl : A = B → (k = 0 ∨ k = 1) → x9 = nI A)
    (hi1 : x5 < 0 ∨ 7 < x5 → x11 = -1) (hi2 : ¬ x5 < 0 → ¬ 7 < x5 → ¬ (x5 = nI A ∨ x5 = nI B ∨ (7 ≤ k ∧ x5 = x3)) → x11 = 0) (h8 : (x16 = 0 ∧ x8 = -1) ∨ (x16 = 1 ∧ ∃ y, y < 256 ∧ x4 = nI y ∧ x8 = sk_bI (sk_gf k (y.testBit A) (y.testBit B) (if k < 7 then false else y.testBit D)))) : wL_lawOf_172 post mc ms (nI k) (nI A) (nI B) x3 x4 x5 8 x8 x9 (nI (sk_many k A B D)) x11 1 x16 kc ks := by
  rcases h8 with ⟨e16, e8⟩ | ⟨e16, y, hy, e4, e8⟩
  · have N : ∀ x21, wL_lawOf_357 post mc ms (nI k) (nI A) (nI B) x3 x5 8 x8 x9 (nI (sk_many k A B D)) x11 1 x16 x21 kc ks := fun x21 => sk_g357 hk hA hB h3 hp hpl hi1 hi2 ⟨fun _ => e8, fun z => absurd e16 z⟩
    exact nm_e (nm_e (nm_e (nm_e (br_c (fun _ => N _) (fun _ => br_c (fun _ => N _) (fun _ => br_c (fun _ => N _) (fun _ => br_c (fun _ => N _) (fun _ => br_c (fun _ => N _) (fun _ => br_c (fun _ => N _) (fun _ => br_c (fun _ => N _) (fun _ => br_c (fun _ => br_c (fun _ => N _) (fun _ => N _)) (fun _ => br_c (fun _ => ⟨by decide, N _⟩) (fun _ => N _)))))))))))))
  · have N : ∀ x21, x8 = x21 → wL_lawOf_357 post mc ms (nI k) (nI A) (nI B) x3 x5 8 x8 x9 (nI (sk_many k A B D)) x11 1 x16 x21 kc ks := fun x21 h => sk_g357 hk hA hB h3 hp hpl hi1 hi2 ⟨fun z => absurd z (by rw [e16]; decide), fun _ => h⟩
    subst e4
    have EB : ∀ W, W < 8 → (nI y >>> ((nI W &&& 7) &&& 31)) &&& 1 = sk_bI (y.testBit W) := by
      intro W hW
      rw [show nI W &&& 7 = nI W from by rw [pk_andN (by omega) 3 (by decide), Nat.mod_eq_of_lt hW], sk_bit (by omega) (by omega)]
    have eA := EB A hA
    have eB := EB B hB
    generalize y.testBit A = a at eA e8
    generalize y.testBit B = b at eB e8
    rcases (show k = 0 ∨ k = 1 ∨ k = 2 ∨ k = 3 ∨ k = 4 ∨ k = 5 ∨ k = 6 ∨ k = 7 ∨ k = 8 ∨ k = 9 by omega) with e | e | e | e | e | e | e | e | e | e <;> subst e
    · exact nm_r eA (nm_r eB (nm_e (nm_e (br_t rfl (N _ (by rw [e8, if_pos (by decide)]; cases a <;> cases b <;> decide))))))
    · exact nm_r eA (nm_r eB (nm_e (nm_e (br_f (by decide) (br_t rfl (N _ (by rw [e8, if_pos (by decide)]; cases a <;> cases b <;> decide)))))))
    · exact nm_r eA (nm_r eB (nm_e (nm_e (br_f (by decide) (br_f (by decide) (br_t rfl (N _ (by rw [e8, if_pos (by decide)]; cases a <;> cases b <;> decide))))))))
    · exact nm_r eA (nm_r eB (nm_e (nm_e (br_f (by decide) (br_f (by decide) (br_f (by decide) (br_t rfl (N _ (by rw [e8, if_pos (by decide)]; cases a <;> cases b <;> decide)))))))))
    · exact nm_r eA (nm_r eB (nm_e (nm_e (br_f (by decide) (br_f (by decide) (br_f (by decide) (br_f (by decide) (br_t rfl (N _ (by rw [e8, if_pos (by decide)]; cases a <;> cases b <;> decide))))))))))
    · exact nm_r eA (nm_r eB (nm_e (nm_e (br_f (by decide) (br_f (by decide) (br_f (by decide) (br_f (by decide) (br_f (by decide) (br_t rfl (N _ (by rw [e8, if_pos (by decide)]; cases a <;> cases b <;> decide)))))))))))
    · exact nm_r eA (nm_r eB (nm_e (nm_e (br_f (by decide) (br_f (by decide) (br_f (by decide) (br_f (by decide) (br_f (by decide) (br_f (by decide) (br_t rfl (N _ (by rw [e8, if_pos (by decide)]; cases a <;> cases b <;> decide))))))))))))
    · obtain ⟨hD, h3⟩ : D < 8 ∧ x3 = nI D := h3.resolve_left (by omega)
      subst h3
      have eD := EB D hD
      rw [if_neg (by omega)] at e8
      generalize y.testBit D = d at eD e8
      exact nm_r eA (nm_r eB (nm_r eD (nm_e (br_f (by decide) (br_f (by decide) (br_f (by decide) (br_f (by decide) (br_f (by decide) (br_f (by decide) (br_f (by decide) (br_t rfl (br_c (fun c => N _ (by rw [e8, sk_bI_1 c]; cases b <;> cases d <;> decide)) (fun c => N _ (by rw [e8]; revert c; cases a <;> cases b <;> cases d <;> decide))))))))))))))
    · obtain ⟨hD, h3⟩ : D < 8 ∧ x3 = nI D := h3.resolve_left (by omega)
      subst h3
      have eD := EB D hD
      rw [if_neg (by omega)] at e8
      generalize y.testBit D = d at eD e8
      exact nm_r eA (nm_r eB (nm_r eD (nm_e (br_f (by decide) (br_f (by decide) (br_f (by decide) (br_f (by decide) (br_f (by decide) (br_f (by decide) (br_f (by decide) (br_f (by decide) (br_t rfl (⟨by decide, N _ (by rw [e8]; cases a <;> cases b <;> cases d <;> decide)⟩)))))))))))))
    · obtain ⟨hD, h3⟩ : D < 8 ∧ x3 = nI D := h3.resolve_left (by omega)
      subst h3
      have eD := EB D hD
      rw [if_neg (by omega)] at e8
      generalize y.testBit D = d at eD e8
      exact nm_r eA (nm_r eB (nm_r eD (nm_e (br_f (by decide) (br_f (by decide) (br_f (by decide) (br_f (by decide) (br_f (by decide) (br_f (by decide) (br_f (by decide) (br_f (by decide) (br_f (by decide) (N _ (by rw [e8]; cases a <;> cases b <;> cases d <;> decide))))))))))))))
theorem sk_g147 {k A B D : Nat} (hk : k ≤ 9) (hA : A < 8) (hB : B < 8) (h3 : k < 7 ∨ (D < 8 ∧ x3 = nI D)) (hp : post 1 ()) (hpl : A = B → (k = 0 ∨ k = 1) → x9 = nI A)
    (hi1 : x5 < 0 ∨ 7 < x5 → x11 = -1) (hi2 : ¬ x5 < 0 → ¬ 7 < x5 → ¬ (x5 = nI A ∨ x5 = nI B ∨ (7 ≤ k ∧ x5 = x3)) → x11 = 0) (h8 : (¬ (∃ y, y < 256 ∧ x4 = nI y) ∧ x8 = -1) ∨ (∃ y, y < 256 ∧ x4 = nI y ∧ x8 = sk_bI (sk_gf k (y.testBit A) (y.testBit B) (if k < 7 then false else y.testBit D)))) : wL_lawOf_147 post mc ms (nI k) (nI A) (nI B) x3 x4 x5 8 x8 x9 (nI (sk_many k A B D)) x11 1 kc ks := by
  refine br_f (by decide) ?_
  rcases h8 with ⟨hn, e8⟩ | ⟨y, hy, e4, e8⟩
  · have Z : wL_lawOf_172 post mc ms (nI k) (nI A) (nI B) x3 x4 x5 8 x8 x9 (nI (sk_many k A B D)) x11 1 0 kc ks := sk_g172 hk hA hB h3 hp hpl hi1 hi2 (Or.inl ⟨rfl, e8⟩)
    refine br_c (fun _ => Z) (fun c => br_c (fun _ => Z) (fun d => ?_))
    obtain ⟨j, hj, e⟩ := nI_of c
    subst e
    refine absurd ⟨j, ?_, rfl⟩ hn
    rcases Nat.lt_or_ge j 256 with w | w
    · exact w
    · exact absurd (nI_lt (a := 255) (b := j) (by omega) hj) d
  · subst e4
    exact br_f (nI_pos (by omega)) (pk_lt 255 y (fun z => absurd z (by omega)) (fun _ => sk_g172 hk hA hB h3 hp hpl hi1 hi2 (Or.inr ⟨rfl, y, hy, rfl, e8⟩)))
/-- the whole tree, no gate -/
theorem sk_b_tree (hp : post 1 ()) (hb : ¬ sk_good x0 x1 x2 x3) :
    ((x1 < 0 → wL_lawOf_74 post mc ms x0 x1 x2 x3 x4 x5 (-1) (-1) (-1) (-1) (-1) kc ks) ∧ (¬ x1 < 0 → ((7 < x1 → wL_lawOf_74 post mc ms x0 x1 x2 x3 x4 x5 (-1) (-1) (-1) (-1) (-1) kc ks) ∧ (¬ 7 < x1 → wL_lawOf_75 post mc ms x0 x1 x2 x3 x4 x5 (-1) (-1) (-1) (-1) (-1) 1 kc ks)))) := by
  have B : wL_lawOf_147 post mc ms x0 x1 x2 x3 x4 x5 (-1) (-1) (-1) (-1) (-1) 0 kc ks := sk_b147 hp
  have IN : ∀ {x : Int32} {n m : Nat}, n < 2 ^ 31 → m = n + 1 → ¬ x < 0 → ¬ nI n < x → ∃ j, j < m ∧ x = nI j := by
    intro x n m hn hm c d
    obtain ⟨j, hj, e⟩ := nI_of c
    subst e
    refine ⟨j, ?_, rfl⟩
    rcases Nat.lt_or_ge n j with w | w
    · exact absurd (nI_lt w hj) d
    · omega
  have N109 : ∀ x12 x13 z0 : Int32, (¬ x12 = 0 → ∃ A, A < 8 ∧ x1 = nI A) → (¬ x13 = 0 → ∃ A, A < 8 ∧ x2 = nI A) → (¬ z0 = 0 → ∃ A, A < 8 ∧ x3 = nI A) → wL_lawOf_109 post mc ms x0 x1 x2 x3 x4 x5 (-1) (-1) (-1) (-1) (-1) x12 x13 z0 kc ks := by
    intro x12 x13 z0 h12 h13 h0
    refine br_c (fun _ => B) (fun c => br_c (fun _ => B) (fun d => br_c (fun _ => B) (fun e1 => br_c (fun _ => B) (fun e2 => br_c (fun f => ?_) (fun f => br_c (fun _ => B) (fun g => ?_))))))
    · obtain ⟨j, j1, j2⟩ := IN (n := 9) (m := 10) (by omega) rfl c d
      exact absurd ⟨⟨j, by omega, j2⟩, h12 e1, h13 e2, Or.inl f⟩ hb
    · obtain ⟨j, j1, j2⟩ := IN (n := 9) (m := 10) (by omega) rfl c d
      exact absurd ⟨⟨j, by omega, j2⟩, h12 e1, h13 e2, Or.inr (h0 g)⟩ hb
  have N92 : ∀ x12 x13 : Int32, (¬ x12 = 0 → ∃ A, A < 8 ∧ x1 = nI A) → (¬ x13 = 0 → ∃ A, A < 8 ∧ x2 = nI A) → wL_lawOf_92 post mc ms x0 x1 x2 x3 x4 x5 (-1) (-1) (-1) (-1) (-1) x12 x13 kc ks := fun x12 x13 h12 h13 =>
    br_c (fun _ => N109 x12 x13 0 h12 h13 (fun z => absurd rfl z)) (fun c => br_c (fun _ => N109 x12 x13 0 h12 h13 (fun z => absurd rfl z)) (fun d => N109 x12 x13 1 h12 h13 (fun _ => IN (n := 7) (by omega) rfl c d)))
  have N75 : ∀ x12 : Int32, (¬ x12 = 0 → ∃ A, A < 8 ∧ x1 = nI A) → wL_lawOf_75 post mc ms x0 x1 x2 x3 x4 x5 (-1) (-1) (-1) (-1) (-1) x12 kc ks := fun x12 h12 =>
    br_c (fun _ => N92 x12 0 h12 (fun z => absurd rfl z)) (fun c => br_c (fun _ => N92 x12 0 h12 (fun z => absurd rfl z)) (fun d => N92 x12 1 h12 (fun _ => IN (n := 7) (by omega) rfl c d)))
  exact br_c (fun _ => N75 0 (fun z => absurd rfl z)) (fun c => br_c (fun _ => N75 0 (fun z => absurd rfl z)) (fun d => N75 1 (fun _ => IN (n := 7) (by omega) rfl c d)))
theorem sk_g_tree {k A B D : Nat} (hk : k ≤ 9) (hA : A < 8) (hB : B < 8) (h3 : k < 7 ∨ (D < 8 ∧ x3 = nI D)) (hp : post 1 ()) (hpl : A = B → (k = 0 ∨ k = 1) → x9 = nI A)
    (hi1 : x5 < 0 ∨ 7 < x5 → x11 = -1) (hi2 : ¬ x5 < 0 → ¬ 7 < x5 → ¬ (x5 = nI A ∨ x5 = nI B ∨ (7 ≤ k ∧ x5 = x3)) → x11 = 0) (h8 : (¬ (∃ y, y < 256 ∧ x4 = nI y) ∧ x8 = -1) ∨ (∃ y, y < 256 ∧ x4 = nI y ∧ x8 = sk_bI (sk_gf k (y.testBit A) (y.testBit B) (if k < 7 then false else y.testBit D)))) :
    ((nI A < 0 → wL_lawOf_74 post mc ms (nI k) (nI A) (nI B) x3 x4 x5 8 x8 x9 (nI (sk_many k A B D)) x11 kc ks) ∧ (¬ nI A < 0 → ((7 < nI A → wL_lawOf_74 post mc ms (nI k) (nI A) (nI B) x3 x4 x5 8 x8 x9 (nI (sk_many k A B D)) x11 kc ks) ∧ (¬ 7 < nI A → wL_lawOf_75 post mc ms (nI k) (nI A) (nI B) x3 x4 x5 8 x8 x9 (nI (sk_many k A B D)) x11 1 kc ks)))) := by
  have G : wL_lawOf_147 post mc ms (nI k) (nI A) (nI B) x3 x4 x5 8 x8 x9 (nI (sk_many k A B D)) x11 1 kc ks := sk_g147 hk hA hB h3 hp hpl hi1 hi2 h8
  have N109 : ∀ z0 : Int32, (7 ≤ k → ¬ z0 = 0) → wL_lawOf_109 post mc ms (nI k) (nI A) (nI B) x3 x4 x5 8 x8 x9 (nI (sk_many k A B D)) x11 1 1 z0 kc ks := fun z0 hz =>
    br_f (nI_pos (by omega)) (pk_lt 9 k (fun z => absurd z (by omega)) (fun _ => br_f (by decide) (br_f (by decide) (pk_lt k 7 (fun _ => G) (fun f => br_f (hz f) G)))))
  have N92 : wL_lawOf_92 post mc ms (nI k) (nI A) (nI B) x3 x4 x5 8 x8 x9 (nI (sk_many k A B D)) x11 1 1 kc ks := by
    rcases h3 with k7 | ⟨hD, e3⟩
    · exact br_c (fun _ => N109 0 (fun z => absurd z (by omega))) (fun c => br_c (fun _ => N109 0 (fun z => absurd z (by omega))) (fun d => N109 1 (fun _ => by decide)))
    · subst e3
      exact br_f (nI_pos (by omega)) (pk_lt 7 D (fun z => absurd z (by omega)) (fun _ => N109 1 (fun _ => by decide)))
  have N75 : wL_lawOf_75 post mc ms (nI k) (nI A) (nI B) x3 x4 x5 8 x8 x9 (nI (sk_many k A B D)) x11 1 kc ks := br_f (nI_pos (by omega)) (pk_lt 7 B (fun z => absurd z (by omega)) (fun _ => N92))
  exact br_f (nI_pos (by omega)) (pk_lt 7 A (fun z => absurd z (by omega)) (fun _ => N75))
end
end
section
/-- a bit of y, or a constant -/
def sk_vl (s : Nat ⊕ Bool) (y : Nat) : Bool :=
  match s with
  | .inl i => y.testBit i
  | .inr c => c
def sk_sf (b : Bool) (s : Nat ⊕ Bool) : Nat ⊕ Bool :=
  match s with
  | .inl 0 => .inr b
  | .inl (i + 1) => .inl i
  | .inr c => .inr c
def sk_z (s : Nat ⊕ Bool) : Bool :=
  match s with
  | .inl 0 => true
  | .inl (_ + 1) => false
  | .inr _ => false
theorem sk_vl0 (s : Nat ⊕ Bool) (y : Nat) : sk_vl s (2 * y) = sk_vl (sk_sf false s) y := by
  rcases s with i | c
  · cases i with
    | zero =>
      show (2 * y).testBit 0 = false
      rw [Nat.testBit_zero, decide_eq_false_iff_not]
      omega
    | succ i =>
      show (2 * y).testBit (i + 1) = y.testBit i
      rw [Nat.testBit_succ, show 2 * y / 2 = y by omega]
  · rfl
theorem sk_vl1 (s : Nat ⊕ Bool) (y : Nat) : sk_vl s (2 * y + 1) = sk_vl (sk_sf true s) y := by
  rcases s with i | c
  · cases i with
    | zero =>
      show (2 * y + 1).testBit 0 = true
      rw [Nat.testBit_zero, decide_eq_true_iff]
      omega
    | succ i =>
      show (2 * y + 1).testBit (i + 1) = y.testBit i
      rw [Nat.testBit_succ, show (2 * y + 1) / 2 = y by omega]
  · rfl
theorem sk_sfz {s : Nat ⊕ Bool} (h : sk_z s = false) : sk_sf true s = sk_sf false s := by
  rcases s with i | c
  · cases i with
    | zero => exact absurd h (by decide)
    | succ i => rfl
  · rfl
theorem sk_cnt2 (F : Nat → Bool) : ∀ n, sk_cnt F (2 * n) = sk_cnt (fun y => F (2 * y)) n + sk_cnt (fun y => F (2 * y + 1)) n := by
  intro n
  induction n with
  | zero => rfl
  | succ n ih =>
    show sk_cnt F (2 * n) + (if F (2 * n) = true then 1 else 0) + (if F (2 * n + 1) = true then 1 else 0) = (sk_cnt (fun y => F (2 * y)) n + (if F (2 * n) = true then 1 else 0)) + (sk_cnt (fun y => F (2 * y + 1)) n + (if F (2 * n + 1) = true then 1 else 0))
    rw [ih]
    omega
/-- the count by bits: a bit that nothing asks for doubles -/
def sk_g (f : Bool → Bool → Bool → Bool) : Nat → Nat ⊕ Bool → Nat ⊕ Bool → Nat ⊕ Bool → Nat
  | 0, s, t, u => if f (sk_vl s 0) (sk_vl t 0) (sk_vl u 0) = true then 1 else 0
  | n + 1, s, t, u => if (sk_z s || sk_z t || sk_z u) = true then sk_g f n (sk_sf false s) (sk_sf false t) (sk_sf false u) + sk_g f n (sk_sf true s) (sk_sf true t) (sk_sf true u) else 2 * sk_g f n (sk_sf false s) (sk_sf false t) (sk_sf false u)
theorem sk_g_cnt (f : Bool → Bool → Bool → Bool) : ∀ (n : Nat) (s t u : Nat ⊕ Bool), sk_cnt (fun y => f (sk_vl s y) (sk_vl t y) (sk_vl u y)) (2 ^ n) = sk_g f n s t u := by
  intro n
  induction n with
  | zero =>
    intro s t u
    show 0 + (if f (sk_vl s 0) (sk_vl t 0) (sk_vl u 0) = true then 1 else 0) = (if f (sk_vl s 0) (sk_vl t 0) (sk_vl u 0) = true then 1 else 0)
    omega
  | succ n ih =>
    intro s t u
    have e0 : (fun y => f (sk_vl s (2 * y)) (sk_vl t (2 * y)) (sk_vl u (2 * y))) = fun y => f (sk_vl (sk_sf false s) y) (sk_vl (sk_sf false t) y) (sk_vl (sk_sf false u) y) := by
      funext y
      rw [sk_vl0, sk_vl0, sk_vl0]
    have e1 : (fun y => f (sk_vl s (2 * y + 1)) (sk_vl t (2 * y + 1)) (sk_vl u (2 * y + 1))) = fun y => f (sk_vl (sk_sf true s) y) (sk_vl (sk_sf true t) y) (sk_vl (sk_sf true u) y) := by
      funext y
      rw [sk_vl1, sk_vl1, sk_vl1]
    rw [Nat.pow_succ, Nat.mul_comm, sk_cnt2]
    rw [e0, e1, ih, ih]
    show _ = (if (sk_z s || sk_z t || sk_z u) = true then sk_g f n (sk_sf false s) (sk_sf false t) (sk_sf false u) + sk_g f n (sk_sf true s) (sk_sf true t) (sk_sf true u) else 2 * sk_g f n (sk_sf false s) (sk_sf false t) (sk_sf false u))
    by_cases h : (sk_z s || sk_z t || sk_z u) = true
    · rw [if_pos h]
    · rw [if_neg h]
      rw [Bool.or_eq_true, Bool.or_eq_true] at h
      have hs : sk_z s = false := by
        cases hz : sk_z s with
        | false => rfl
        | true => exact absurd (Or.inl (Or.inl hz)) h
      have ht : sk_z t = false := by
        cases hz : sk_z t with
        | false => rfl
        | true => exact absurd (Or.inl (Or.inr hz)) h
      have hu : sk_z u = false := by
        cases hz : sk_z u with
        | false => rfl
        | true => exact absurd (Or.inr hz) h
      rw [sk_sfz hs, sk_sfz ht, sk_sfz hu]
      omega
theorem sk_cm1 : ∀ k, k < 7 → ∀ A, A < 8 → ∀ B, B < 8 → sk_g (sk_gf k) 8 (.inl A) (.inl B) (.inr false) = sk_many k A B 0 := by decide +kernel
theorem sk_cm2 : ∀ k, k < 3 → ∀ A, A < 8 → ∀ B, B < 8 → ∀ D, D < 8 → sk_g (sk_gf (k + 7)) 8 (.inl A) (.inl B) (.inl D) = sk_many (k + 7) A B D := by decide +kernel
theorem sk_cm {k A B D : Nat} (hk : k ≤ 9) (hA : A < 8) (hB : B < 8) (hD : k < 7 ∨ D < 8) : sk_cnt (fun y => sk_gf k (y.testBit A) (y.testBit B) (if k < 7 then false else y.testBit D)) 256 = sk_many k A B D := by
  rcases Nat.lt_or_ge k 7 with h | h
  · have e : sk_many k A B D = sk_many k A B 0 := by
      rcases (show k = 0 ∨ k = 1 ∨ k = 2 ∨ k = 3 ∨ k = 4 ∨ k = 5 ∨ k = 6 by omega) with e | e | e | e | e | e | e <;> subst e <;> rfl
    have e2 : (fun y : Nat => sk_gf k (y.testBit A) (y.testBit B) (if k < 7 then false else y.testBit D)) = fun y => sk_gf k (sk_vl (.inl A) y) (sk_vl (.inl B) y) (sk_vl (.inr false) y) := by
      funext y
      rw [if_pos h]
      rfl
    rw [e, e2, ← sk_cm1 k h A hA B hB]
    exact sk_g_cnt (sk_gf k) 8 (.inl A) (.inl B) (.inr false)
  · obtain ⟨j, rfl⟩ : ∃ j, k = j + 7 := ⟨k - 7, by omega⟩
    have e2 : (fun y : Nat => sk_gf (j + 7) (y.testBit A) (y.testBit B) (if j + 7 < 7 then false else y.testBit D)) = fun y => sk_gf (j + 7) (sk_vl (.inl A) y) (sk_vl (.inl B) y) (sk_vl (.inl D) y) := by
      funext y
      rw [if_neg (by omega)]
      rfl
    rw [e2, ← sk_cm2 j (by omega) A hA B hB D (by omega)]
    exact sk_g_cnt (sk_gf (j + 7)) 8 (.inl A) (.inl B) (.inl D)
end
section
section
variable {ct pt pn lc cl mv ts lv fa : Int32} {a1 a2 a3 a4 a5 a6 a7 : Nat → Int32} {a8 : Nat → Int64} {a9 a10 a11 a12 a13 a14 a15 a16 a17 a18 : Nat → Int32}
variable {X : Nat → Prop} {P : Nat} {post : Int32 → St2 → Prop}
theorem sk_valueG {e : Nat} {F : Nat → Bool} {x : Int32} (hg : sk_GW X P a3 a4) (hP : P ≤ 2560) (he : e < 2 * P) (h8 : a1 8 = nI e) (hF : ∀ y v, sk_co P a3 a4 v → sk_ag y 0 v → sk_ev v e = F y)
    (hp : ∀ x8 (lc' cl' mv' ts' lv' fa' : Int32) (b11 b12 b13 b14 b15 b16 : Nat → Int32), ((¬ (∃ y, y < 256 ∧ x = nI y) ∧ x8 = -1) ∨ (∃ y, y < 256 ∧ x = nI y ∧ x8 = sk_bI (F y))) → post x8 (9, pt, pn, lc', cl', mv', ts', lv', fa', a1, a2, a3, a4, a5, a6, a7, a8, a9, a10, b11, b12, b13, b14, b15, b16, a17, a18)) : wpX_value post (9, pt, pn, lc, cl, mv, ts, lv, fa, a1, a2, a3, a4, a5, a6, a7, a8, a9, a10, a11, a12, a13, a14, a15, a16, a17, a18) 8 x := by
  by_cases hx : ∃ y, y < 256 ∧ x = nI y
  · obtain ⟨y, hy, e4⟩ := hx
    subst e4
    exact sk_value hg hP he hy h8 hF (fun lc' cl' mv' ts' lv' fa' b11 b12 b13 b14 b15 b16 => hp _ _ _ _ _ _ _ _ _ _ _ _ _ (Or.inr ⟨y, hy, rfl, rfl⟩))
  · exact sk_value_out hx (hp _ _ _ _ _ _ _ _ _ _ _ _ _ (Or.inl ⟨hx, rfl⟩))
theorem sk_followsG {e : Nat} {x : Int32} (h : sk_GI X P pn a3 a4 a5 a6 a8 a9 a10) (he : e < 2 * P) (hPC : P ≤ 512) (h8 : a1 8 = nI e) (hXe : ¬ X (e / 2))
    (hp : ∀ x11 u, ((¬ ∃ i, i < 8 ∧ x = nI i) → x11 = -1) → (∀ i, i < 8 → x = nI i → X (i + 1) → x11 = 0) → post x11 u) : wpX_follows post (9, (nI P), pn, lc, cl, mv, ts, lv, fa, a1, a2, a3, a4, a5, a6, a7, a8, a9, a10, a11, a12, a13, a14, a15, a16, a17, a18) 8 x := by
  by_cases hx : ∃ i, i < 8 ∧ x = nI i
  · obtain ⟨i, hi, e5⟩ := hx
    subst e5
    by_cases hXi : X (i + 1)
    · exact sk_follows_0 h he h8 hi hXi hXe (fun u => hp _ u (fun z => absurd ⟨i, hi, rfl⟩ z) (fun _ _ _ _ => rfl))
    · refine sk_follows (sk_GI_0 h) he hPC h8 hi (fun r u => hp r u (fun z => absurd ⟨i, hi, rfl⟩ z) (fun j hj ej hXj => ?_))
      rw [(nI_eq (by omega) (by omega)).mp ej] at hXi
      exact absurd hXj hXi
  · exact sk_follows_out hx (fun u => hp _ u (fun _ => rfl) (fun i hi e5 _ => absurd ⟨i, hi, e5⟩ hx))
end
theorem sk_lawOf {post : Int32 → St0 → Prop} {mc ms : Nat} (hmc : 19 ≤ mc) (hms : 27846 ≤ ms) (hp : post 1 ()) (p0 p1 p2 p3 p4 p5 : Int32) : wpL_lawOf post mc ms () p0 p1 p2 p3 p4 p5 := by
  unfold wpL_lawOf
  refine ⟨by omega, by omega, 18, 27819, by omega, by omega, ?_⟩
  by_cases hg : sk_good p0 p1 p2 p3
  · obtain ⟨⟨k, hk, e0⟩, ⟨A, hA, e1⟩, ⟨B, hB, e2⟩, h3⟩ := hg
    subst e0 e1 e2
    obtain ⟨D, hD⟩ : ∃ D, k < 7 ∨ (D < 8 ∧ p3 = nI D) := by
      rcases h3 with z | ⟨D, d1, d2⟩
      · exact ⟨0, Or.inl ((nI_ltI (a := k) (b := 7) (by omega) (by omega)).mp z)⟩
      · exact ⟨D, Or.inr ⟨d1, d2⟩⟩
    have hcm := sk_cm hk hA hB (D := D) (hD.imp id (fun h => h.1))
    refine sk_init (X := fun i => 1 ≤ i ∧ i ≤ 8 ∧ i ≠ A + 1 ∧ i ≠ B + 1 ∧ (7 ≤ k → i ≠ D + 1)) (by omega) (by omega) (fun i h => ⟨h.1, h.2.1⟩) (fun pn lc cl mv ts lv fa a1 a2 a3 a4 a5 a6 a7 a8 a9 a10 a11 a12 a13 a14 a15 a16 a17 a18 hG h1 => ?_)
    refine sk_gate (fz := fun v => if k < 7 then false else v (D + 1)) hG (by omega) hk hA hB h1 (fun h => h.2.2.1 rfl) (fun h => h.2.2.2.1 rfl) ?_ ?_
    · rcases Nat.lt_or_ge k 7 with z | z
      · exact Or.inl ⟨z, by funext v; exact if_pos z⟩
      · obtain ⟨d1, d2⟩ := hD.resolve_left (by omega)
        exact Or.inr ⟨z, D, d1, d2, fun h => h.2.2.2.2 z rfl, by funext v; exact if_neg (by omega)⟩
    · intro e P' pn' b3 b4 b5 b6 b7 b8 b9 b10 lc' cl' mv' ts' lv' fa' b11 b12 b13 b14 b15 b16 b1 b2 hGS hR hpl h8 h1'
      have hGW := hGS.1.2.2.2.2.1
      have hP1 := hGS.1.2.2.1
      have hP2 := hGS.2.2.1
      have hF : ∀ y v, sk_co P' b3 b4 v → sk_ag y 0 v → sk_ev v e = sk_gf k (y.testBit A) (y.testBit B) (if k < 7 then false else y.testBit D) := by
        intro y v hv hy
        rw [hR.2.2 v hv]
        show sk_gf k (v (A + 1)) (v (B + 1)) (if k < 7 then false else v (D + 1)) = _
        rw [hy A (by omega) hA, hy B (by omega) hB]
        rcases Nat.lt_or_ge k 7 with z | z
        · rw [if_pos z, if_pos z]
        · rw [if_neg (by omega), if_neg (by omega), hy D (by omega) (hD.resolve_left (by omega)).1]
      refine sk_valueG (F := fun y => sk_gf k (y.testBit A) (y.testBit B) (if k < 7 then false else y.testBit D)) hGW hP1 hR.1 h8 hF (fun x8 lc' cl' mv' ts' lv' fa' b11 b12 b13 b14 b15 b16 hx8 => ?_)
      refine sk_first (fun w hw ew hw' => ?_)
      refine sk_count (F := fun y => sk_gf k (y.testBit A) (y.testBit B) (if k < 7 then false else y.testBit D)) hGW hP1 hR.1 h8 hF (fun lc' cl' mv' ts' lv' fa' b11 b12 b13 b14 b15 b16 => ?_)
      rw [hcm]
      refine sk_followsG hGS.1 hR.1 (by omega) h8 hR.2.1 (fun x11 u u1 u2 => ?_)
      obtain ⟨c1, c2, c3, c4, c5, c6, c7, c8, c9, c10, c11, c12, c13, c14, c15, c16, c17, c18, c19, c20, c21, c22, c23, c24, c25, c26, c27⟩ := u
      refine sk_g_tree hk hA hB hD hp (fun eAB hk1 => ?_) (fun hx5 => u1 ?_) (fun n1 n2 hn => ?_) hx8
      · have hwA := hpl (by omega) eAB
        rw [h8, hwA] at ew hw'
        rcases Nat.lt_trichotomy w A with z | z | z
        · rw [h1' w (by omega)] at ew
          have := (nI_eq (by omega) (by omega)).mp ew
          omega
        · rw [z]
        · exact absurd (h1' A hA) (hw' A z)
      · rintro ⟨i, hi, e5⟩
        subst e5
        rcases hx5 with z | z
        · exact nI_pos (by omega) z
        · exact nI_nlt (a := 7) (b := i) (by omega) (by omega) z
      · obtain ⟨i, hi, e5⟩ := nI_of n1
        subst e5
        have hi7 : i ≤ 7 := by
          rcases Nat.lt_or_ge 7 i with z | z
          · exact absurd (nI_lt z hi) n2
          · exact z
        refine u2 i (by omega) rfl ⟨by omega, by omega, fun z => hn (Or.inl ?_), fun z => hn (Or.inr (Or.inl ?_)), fun k7 z => hn (Or.inr (Or.inr ⟨k7, ?_⟩))⟩
        · rw [show i = A by omega]
        · rw [show i = B by omega]
        · rw [(hD.resolve_left (by omega)).2, show i = D by omega]
  · refine sk_init (X := fun _ => False) (by omega) (by omega) (fun i h => absurd h (fun z => z)) (fun pn lc cl mv ts lv fa a1 a2 a3 a4 a5 a6 a7 a8 a9 a10 a11 a12 a13 a14 a15 a16 a17 a18 hG h1 => ?_)
    refine sk_gate_bad hg ?_
    refine sk_value_bad (sk_first_bad (sk_count_bad (sk_follows_bad (fun u => ?_))))
    obtain ⟨c1, c2, c3, c4, c5, c6, c7, c8, c9, c10, c11, c12, c13, c14, c15, c16, c17, c18, c19, c20, c21, c22, c23, c24, c25, c26, c27⟩ := u
    exact sk_b_tree hp hg
theorem sk_cell {post : Int32 → Prop} {L : Nat} {xs : Nat → Int32} (j : Nat) (hj : j < 6) (hL : L ≤ 6) (h : ∀ r, post r) : wpL_cellAt post L xs () (nI j) :=
  pk_le L j (fun _ => h 0) (fun z => ⟨pk_in j L z, h _⟩)
theorem i_vc (xs : Nat → Int32) (L : Nat) (hL : L ≤ 6) : wpL_law (fun r => r = 1) L xs :=
  sk_cell 0 (by omega) hL (fun r1 => sk_cell 1 (by omega) hL (fun r2 => sk_cell 2 (by omega) hL (fun r3 => sk_cell 3 (by omega) hL (fun r4 => sk_cell 4 (by omega) hL (fun r5 => sk_cell 5 (by omega) hL (fun r6 =>
    ⟨19, 27846, by omega, by omega, sk_lawOf (by omega) (by omega) rfl r1 r2 r3 r4 r5 r6⟩))))))
end
