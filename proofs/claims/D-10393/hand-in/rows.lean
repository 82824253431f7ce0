section
/-! ===== the game, with no program in sight ===== -/
def qb_up (s : Nat → Bool) (v : Nat) (x : Bool) : Nat → Bool := fun u => if u = v then x else s u
theorem qb_up_s {s : Nat → Bool} {v : Nat} {x : Bool} : qb_up s v x v = x := if_pos rfl
theorem qb_up_n {s : Nat → Bool} {u v : Nat} {x : Bool} (h : u ≠ v) : qb_up s v x u = s u := if_neg h
/-- MAKER wins where n variables are still to come, 8 - n the next of them -/
def qb_W (mk : Nat → Prop) (S : (Nat → Bool) → Prop) : Nat → (Nat → Bool) → Prop
  | 0, s => S s
  | n + 1, s => (mk (7 - n) ∧ (qb_W mk S n (qb_up s (7 - n) false) ∨ qb_W mk S n (qb_up s (7 - n) true))) ∨ (¬ mk (7 - n) ∧ qb_W mk S n (qb_up s (7 - n) false) ∧ qb_W mk S n (qb_up s (7 - n) true))
theorem qb_W_mk {mk : Nat → Prop} {S : (Nat → Bool) → Prop} {n : Nat} {s : Nat → Bool} (h : mk (7 - n)) : qb_W mk S (n + 1) s ↔ (qb_W mk S n (qb_up s (7 - n) false) ∨ qb_W mk S n (qb_up s (7 - n) true)) :=
  ⟨fun z => z.elim (fun y => y.2) (fun y => absurd h y.1), fun z => Or.inl ⟨h, z⟩⟩
theorem qb_W_br {mk : Nat → Prop} {S : (Nat → Bool) → Prop} {n : Nat} {s : Nat → Bool} (h : ¬ mk (7 - n)) : qb_W mk S (n + 1) s ↔ (qb_W mk S n (qb_up s (7 - n) false) ∧ qb_W mk S n (qb_up s (7 - n) true)) :=
  ⟨fun z => z.elim (fun y => absurd y.1 h) (fun y => y.2), fun z => Or.inr ⟨h, z⟩⟩
theorem qb_node {mk mk' : Nat → Prop} {S S' : (Nat → Bool) → Prop} {n : Nat} {s s' : Nat → Bool} (hm : mk (7 - n) → mk' (7 - n))
    (h : ∀ x, qb_W mk S n (qb_up s (7 - n) x) → qb_W mk' S' n (qb_up s' (7 - n) x)) (hw : qb_W mk S (n + 1) s) : qb_W mk' S' (n + 1) s' := by
  by_cases h1 : mk (7 - n)
  · rw [qb_W_mk h1] at hw
    rw [qb_W_mk (hm h1)]
    exact hw.elim (fun z => Or.inl (h _ z)) (fun z => Or.inr (h _ z))
  · rw [qb_W_br h1] at hw
    by_cases h2 : mk' (7 - n)
    · rw [qb_W_mk h2]
      exact Or.inl (h _ hw.1)
    · rw [qb_W_br h2]
      exact ⟨h _ hw.1, h _ hw.2⟩
/-- leaf by leaf: more makers, an easier end -/
theorem qb_mono {mk mk' : Nat → Prop} {S S' : (Nat → Bool) → Prop} (hm : ∀ v, v < 8 → mk v → mk' v) : ∀ (n : Nat) (s s' : Nat → Bool), n ≤ 8 → (∀ u, 8 ≤ u → s u = s' u) →
    (∀ t t' : Nat → Bool, (∀ u, u < 8 - n → t u = s u) → (∀ u, u < 8 - n → t' u = s' u) → (∀ u, 8 - n ≤ u → t u = t' u) → S t → S' t') → qb_W mk S n s → qb_W mk' S' n s' := by
  intro n
  induction n with
  | zero =>
    intro s s' _ he h hw
    exact h s s' (fun _ _ => rfl) (fun _ _ => rfl) (fun u hu => he u hu) hw
  | succ n ih =>
    intro s s' hn he h hw
    refine qb_node (hm _ (by omega)) (fun x => ?_) hw
    refine ih _ _ (by omega) (fun u hu => ?_) (fun t t' h1 h2 h3 => h t t' (fun u hu => ?_) (fun u hu => ?_) (fun u hu => ?_))
    · rw [qb_up_n (show u ≠ 7 - n by omega), qb_up_n (show u ≠ 7 - n by omega)]
      exact he u hu
    · rw [h1 u (by omega), qb_up_n (show u ≠ 7 - n by omega)]
    · rw [h2 u (by omega), qb_up_n (show u ≠ 7 - n by omega)]
    · by_cases e : u = 7 - n
      · rw [h1 u (by omega), h2 u (by omega), e, qb_up_s, qb_up_s]
      · exact h3 u (by omega)
/-- the same position, an easier end on the leaves below it -/
theorem qb_mono1 {mk : Nat → Prop} {S S' : (Nat → Bool) → Prop} {n : Nat} {s : Nat → Bool} (hn : n ≤ 8) (h : ∀ t : Nat → Bool, (∀ u, u < 8 - n → t u = s u) → S t → S' t) (hw : qb_W mk S n s) : qb_W mk S' n s :=
  qb_mono (fun _ _ z => z) n s s hn (fun _ _ => rfl) (fun t t' h1 h2 h3 hs => by
    have e : t = t' := by
      funext u
      rcases Nat.lt_or_ge u (8 - n) with z | z
      · rw [h1 u z, h2 u z]
      · exact h3 u z
    rw [← e]
    exact h t h1 hs) hw
/-- a clause of which MAKER has nothing open is lost -/
theorem qb_lost {mk : Nat → Prop} {S : (Nat → Bool) → Prop} {P N : Nat → Prop} (hpn : ∀ v, v < 8 → ¬ (P v ∧ N v))
    (hS : ∀ t, S t → ∃ v, v < 8 ∧ ((P v ∧ t v = true) ∨ (N v ∧ t v = false))) : ∀ (n : Nat) (s : Nat → Bool), n ≤ 8 →
    (∀ v, v < 8 - n → ¬ ((P v ∧ s v = true) ∨ (N v ∧ s v = false))) → (∀ v, v < 8 → 8 - n ≤ v → (P v ∨ N v) → ¬ mk v) → ¬ qb_W mk S n s := by
  intro n
  induction n with
  | zero =>
    intro s _ h _ hw
    obtain ⟨v, hv, hl⟩ := hS s hw
    exact h v hv hl
  | succ n ih =>
    intro s hn h hb
    have ch : ∀ x : Bool, ¬ ((P (7 - n) ∧ x = true) ∨ (N (7 - n) ∧ x = false)) → ¬ qb_W mk S n (qb_up s (7 - n) x) := by
      intro x hx
      refine ih _ (by omega) (fun v hv => ?_) (fun v h8 hv => hb v h8 (by omega))
      by_cases e : v = 7 - n
      · rw [e, qb_up_s]
        exact hx
      · rw [qb_up_n e]
        exact h v (by omega)
    intro hw
    by_cases hP : P (7 - n)
    · have hN : ¬ N (7 - n) := fun z => hpn _ (by omega) ⟨hP, z⟩
      rw [qb_W_br (hb _ (by omega) (by omega) (Or.inl hP))] at hw
      exact ch false (fun z => z.elim (fun y => absurd y.2 (by decide)) (fun y => hN y.1)) hw.1
    · by_cases hN : N (7 - n)
      · rw [qb_W_br (hb _ (by omega) (by omega) (Or.inr hN))] at hw
        exact ch true (fun z => z.elim (fun y => hP y.1) (fun y => absurd y.2 (by decide))) hw.2
      · have hc : ∀ x, ¬ qb_W mk S n (qb_up s (7 - n) x) := fun x => ch x (fun z => z.elim (fun y => hP y.1) (fun y => hN y.1))
        by_cases hm : mk (7 - n)
        · rw [qb_W_mk hm] at hw
          exact hw.elim (hc _) (hc _)
        · rw [qb_W_br hm] at hw
          exact hc _ hw.1
/-- a clause of which MAKER has one thing open, BREAKER's open ones all later: MAKER has to take it -/
theorem qb_force {mk : Nat → Prop} {S : (Nat → Bool) → Prop} {P N : Nat → Prop} {e : Nat} {b : Bool} (hpn : ∀ v, v < 8 → ¬ (P v ∧ N v))
    (hS : ∀ t, S t → ∃ v, v < 8 ∧ ((P v ∧ t v = true) ∨ (N v ∧ t v = false))) (he : e < 8) (hmk : mk e)
    (ho : ∀ v, v < 8 → v ≠ e → (P v ∨ N v) → (¬ mk v ∧ e < v)) (hb : b = true ↔ P e) : ∀ (n : Nat) (s : Nat → Bool), n ≤ 8 → 8 - n ≤ e →
    qb_W mk S n s → qb_W mk (fun t => S t ∧ t e = b) n s := by
  intro n
  induction n with
  | zero =>
    intro s _ h
    exact absurd h (by omega)
  | succ n ih =>
    intro s hn h hw
    by_cases hv : 7 - n = e
    · have cx : ∀ x : Bool, qb_W mk S n (qb_up s (7 - n) x) → qb_W mk (fun t => S t ∧ t e = b) n (qb_up s (7 - n) x) := by
        intro x hx
        by_cases hxb : x = b
        · refine qb_mono1 (by omega) (fun t ht hs => ⟨hs, ?_⟩) hx
          rw [ht e (by omega), hv, qb_up_s, hxb]
        · refine absurd hx (qb_lost hpn hS n _ (by omega) (fun v hv' hl => ?_) (fun v h8 hv' hl => (ho v h8 (by omega) hl).1))
          by_cases ev : v = e
          · rw [ev, hv, qb_up_s] at hl
            rcases hl with ⟨hP, hx1⟩ | ⟨hN, hx1⟩
            · exact hxb (by rw [hx1, hb.mpr hP])
            · have hP : ¬ P e := fun z => hpn e he ⟨z, hN⟩
              cases b with
              | true => exact hP (hb.mp rfl)
              | false => exact hxb hx1
          · have := (ho v (by omega) ev (hl.elim (fun y => Or.inl y.1) (fun y => Or.inr y.1))).2
            omega
      exact qb_node (fun z => z) cx hw
    · exact qb_node (fun z => z) (fun x hx => ih _ (by omega) (by omega) hx) hw
/-- a variable that makes no difference on the leaves makes none -/
theorem qb_irr {mk : Nat → Prop} {S : (Nat → Bool) → Prop} {n : Nat} {s : Nat → Bool} (hn : n < 8)
    (h : ∀ t t' : Nat → Bool, (∀ u, u < 7 - n → t u = s u) → (∀ u, u ≠ 7 - n → t u = t' u) → S t → S t') (x y : Bool)
    (hw : qb_W mk S n (qb_up s (7 - n) x)) : qb_W mk S n (qb_up s (7 - n) y) := by
  refine qb_mono (fun _ _ z => z) n _ _ (by omega) (fun u hu => ?_) (fun t t' h1 h2 h3 => h t t' (fun u hu => ?_) (fun u hu => ?_)) hw
  · rw [qb_up_n (show u ≠ 7 - n by omega), qb_up_n (show u ≠ 7 - n by omega)]
  · rw [h1 u (by omega), qb_up_n (show u ≠ 7 - n by omega)]
  · rcases Nat.lt_or_ge u (8 - n) with z | z
    · rw [h1 u z, h2 u z, qb_up_n hu, qb_up_n hu]
    · exact h3 u z
/-- a variable of MAKER's that must be x: the other child is of no use -/
theorem qb_must {mk : Nat → Prop} {S T : (Nat → Bool) → Prop} {n : Nat} {s : Nat → Bool} {x : Bool} (hn : n < 8) (hmk : mk (7 - n)) (hT : ∀ t, T t → t (7 - n) = x)
    (hF : qb_W mk S (n + 1) s → qb_W mk (fun t => S t ∧ T t) (n + 1) s) (hw : qb_W mk S (n + 1) s) : qb_W mk S n (qb_up s (7 - n) x) := by
  have h := hF hw
  rw [qb_W_mk hmk] at h
  have key : ∀ y : Bool, qb_W mk (fun t => S t ∧ T t) n (qb_up s (7 - n) y) → qb_W mk S n (qb_up s (7 - n) x) := by
    intro y hy
    by_cases e : y = x
    · rw [e] at hy
      exact qb_mono1 (by omega) (fun t _ hs => hs.1) hy
    · have hf : qb_W mk (fun _ => False) n (qb_up s (7 - n) y) := qb_mono1 (by omega) (fun t ht hs => e (by rw [← hT t hs.2, ht (7 - n) (by omega), qb_up_s])) hy
      exact absurd hf (qb_lost (P := fun _ => False) (N := fun _ => False) (fun _ _ z => z.1) (fun _ z => z.elim) n _ (by omega) (fun v _ z => z.elim (fun y => y.1) (fun y => y.1)) (fun v _ _ z => z.elim (fun y => y.elim) (fun y => y.elim)))
  exact h.elim (key _) (key _)
end
section
/-! ===== bits (the rows up to qb_ush turned from the kit's laws/BITS) ===== -/
def qb_bt (x : Int32) (i : Nat) : Bool := x.toBitVec.getLsbD i
theorem qb_b_or (x y : Int32) (i : Nat) : qb_bt (x ||| y) i = (qb_bt x i || qb_bt y i) := by unfold qb_bt; rw [Int32.toBitVec_or, BitVec.getLsbD_or]
theorem qb_s_l : ∀ n, n < 32 → ((nI n &&& 31).toBitVec.smod 32).toNat = n := by decide +kernel
theorem qb_s_u : ∀ n, n < 32 → (((nI n).toUInt32 &&& Int32.toUInt32 31).toBitVec % 32).toNat = n := by decide +kernel
theorem qb_b_ushr (n : Nat) (hn : n < 32) (x : Int32) (i : Nat) : qb_bt ((x.toUInt32 >>> ((nI n).toUInt32 &&& Int32.toUInt32 31)).toInt32) i = qb_bt x (n + i) := by
  show (x.toUInt32 >>> ((nI n).toUInt32 &&& Int32.toUInt32 31)).toBitVec.getLsbD i = x.toUInt32.toBitVec.getLsbD (n + i)
  rw [UInt32.toBitVec_shiftRight]
  show (x.toUInt32.toBitVec >>> (((nI n).toUInt32 &&& Int32.toUInt32 31).toBitVec % 32).toNat).getLsbD i = _
  rw [qb_s_u n hn, BitVec.getLsbD_ushiftRight]
theorem qb_b_sshr (n : Nat) (hn : n < 32) (x : Int32) {i : Nat} (hi : i < 32) : qb_bt (x >>> (nI n &&& 31)) i = if n + i < 32 then qb_bt x (n + i) else qb_bt x 31 := by
  unfold qb_bt
  rw [Int32.toBitVec_shiftRight]
  show (x.toBitVec.sshiftRight ((nI n &&& 31).toBitVec.smod 32).toNat).getLsbD i = _
  rw [qb_s_l n hn, BitVec.getLsbD_sshiftRight, BitVec.msb_eq_getLsbD_last]
  simp [hi]
theorem qb_and1 (x : Int32) : (x &&& 1) = 0 ↔ qb_bt x 0 = false := by
  rw [pk_and x 1 (by decide)]
  show nI (x.toBitVec.toNat % 2) = nI 0 ↔ x.toBitVec.toNat.testBit 0 = false
  rw [nI_eq (by omega) (by omega), Nat.testBit_zero, decide_eq_false_iff_not]
  omega
theorem qb_and1' (x : Int32) : (x &&& 1) = 1 ↔ qb_bt x 0 = true := by
  rw [pk_and x 1 (by decide)]
  show nI (x.toBitVec.toNat % 2) = nI 1 ↔ x.toBitVec.toNat.testBit 0 = true
  rw [nI_eq (by omega) (by omega), Nat.testBit_zero, decide_eq_true_iff]
/-- variable v is MAKER's -/
def qb_mk (m : Int32) (v : Nat) : Prop := ¬ ((m.toUInt32 >>> ((nI v).toUInt32 &&& Int32.toUInt32 31)).toInt32 &&& 1) = 0
theorem qb_mk_bt {m : Int32} {v : Nat} (h : v < 32) : qb_mk m v ↔ qb_bt m v = true := by
  unfold qb_mk
  rw [qb_and1, qb_b_ushr v h]
  show ¬ qb_bt m v = false ↔ _
  cases qb_bt m v <;> decide
theorem qb_mk_or {m x : Int32} {v : Nat} (h : v < 8) (hm : qb_mk m v) : qb_mk (m ||| x) v := by
  rw [qb_mk_bt (by omega)] at hm ⊢
  rw [qb_b_or, hm, Bool.true_or]
theorem qb_mk_sshr {m : Int32} {v : Nat} (h : v < 8) : ((m >>> (nI v &&& 31)) &&& 1) = 1 ↔ qb_mk m v := by
  rw [qb_mk_bt (by omega), qb_and1', qb_b_sshr v (by omega) m (by omega), if_pos (by omega)]
  exact Iff.rfl
/-- the two bits of variable v in clause x -/
def qb_h (x : Int32) (v : Nat) : Int32 := (x.toUInt32 >>> ((2 * nI v).toUInt32 &&& Int32.toUInt32 31)).toInt32 &&& 3
def qb_P (x : Int32) (v : Nat) : Prop := ¬ (qb_h x v &&& 1) = 0
def qb_N (x : Int32) (v : Nat) : Prop := ¬ (qb_h x v &&& 2) = 0
theorem qb_h4 (x : Int32) (v : Nat) : ∃ j, j < 4 ∧ qb_h x v = nI j := pk_andE _ 2 (by decide)
theorem qb_h3 {x : Int32} {v : Nat} : qb_h x v = 3 ↔ (qb_P x v ∧ qb_N x v) := by
  obtain ⟨j, hj, e⟩ := qb_h4 x v
  unfold qb_P qb_N
  rw [e]
  exact (by decide +kernel : ∀ j, j < 4 → (nI j = 3 ↔ (¬ (nI j &&& 1) = 0 ∧ ¬ (nI j &&& 2) = 0))) j hj
theorem qb_h0 {x : Int32} {v : Nat} : qb_h x v = 0 ↔ (¬ qb_P x v ∧ ¬ qb_N x v) := by
  obtain ⟨j, hj, e⟩ := qb_h4 x v
  unfold qb_P qb_N
  rw [e]
  exact (by decide +kernel : ∀ j, j < 4 → (nI j = 0 ↔ (¬ ¬ (nI j &&& 1) = 0 ∧ ¬ ¬ (nI j &&& 2) = 0))) j hj
theorem qb_P1 {x : Int32} {v : Nat} : ((x.toUInt32 >>> ((2 * nI v).toUInt32 &&& Int32.toUInt32 31)).toInt32 &&& 1) = 0 ↔ ¬ qb_P x v := by
  unfold qb_P qb_h
  rw [Int32.and_assoc, show (3 : Int32) &&& 1 = 1 from by decide]
  exact ⟨fun z y => y z, fun z => Classical.byContradiction z⟩
def qb_v (b : Bool) : Int32 := if b then 1 else 0
theorem qb_v_pos (b : Bool) : 0 ≤ qb_v b := by cases b <;> decide
theorem qb_v1 {b : Bool} (h : qb_v b = 1) : b = true := by
  cases b
  · exact absurd h (by decide)
  · rfl
theorem qb_v0 {b : Bool} (h : qb_v b = 0) : b = false := by
  cases b
  · rfl
  · exact absurd h (by decide)
theorem qb_v01 (b : Bool) : qb_v b = 0 ∨ qb_v b = 1 := by
  cases b
  · exact Or.inl rfl
  · exact Or.inr rfl
/-- clause x holds -/
def qb_Sat (x : Int32) (t : Nat → Bool) : Prop := ∃ v, v < 8 ∧ ((qb_P x v ∧ t v = true) ∨ (qb_N x v ∧ t v = false))
/-- all clauses hold, the one left out apart -/
def qb_S (c : Nat) (lo : Int32) (a1 : Nat → Int32) (t : Nat → Bool) : Prop := ∀ k, k < c → ¬ nI k = lo → qb_Sat (a1 k) t
/-- clause x is open under f -/
def qb_Op (x : Int32) (f : Nat → Int32) : Prop := ∀ v, v < 8 → ¬ ((f v = 1 ∧ qb_P x v) ∨ (f v = 0 ∧ qb_N x v) ∨ (qb_P x v ∧ qb_N x v))
def qb_In (f : Nat → Int32) : Prop := ∀ v, v < 8 → f v = -1 ∨ f v = 0 ∨ f v = 1
def qb_Ag (f : Nat → Int32) (t : Nat → Bool) : Prop := ∀ v, v < 8 → (f v = 1 → t v = true) ∧ (f v = 0 → t v = false)
/-- value[]: the first d hold s, the others nothing -/
def qb_M (d : Nat) (s : Nat → Bool) (f : Nat → Int32) : Prop := (∀ v, v < d → f v = qb_v (s v)) ∧ (∀ v, d ≤ v → v < 8 → f v = -1)
/-- follows[]: what it holds beside value[] is so on every play that wins -/
def qb_F (mk : Nat → Prop) (S : (Nat → Bool) → Prop) (n : Nat) (s : Nat → Bool) (f : Nat → Int32) : Prop :=
  qb_In f ∧ (∀ v, v < 8 - n → f v = qb_v (s v)) ∧ (qb_W mk S n s → qb_W mk (fun t => S t ∧ qb_Ag f t) n s)
theorem qb_F_init {mk : Nat → Prop} {S : (Nat → Bool) → Prop} {n : Nat} {s : Nat → Bool} {f a : Nat → Int32} (hn : n ≤ 8) (hM : qb_M (8 - n) s a) (hf : ∀ v, v < 8 → f v = a v) : qb_F mk S n s f := by
  refine ⟨fun v hv => ?_, fun v hv => ?_, qb_mono1 hn (fun t ht hs => ⟨hs, fun v hv => ?_⟩)⟩
  · rw [hf v hv]
    rcases Nat.lt_or_ge v (8 - n) with z | z
    · rw [hM.1 v z]
      exact Or.inr (qb_v01 _)
    · exact Or.inl (hM.2 v z hv)
  · rw [hf v (by omega)]
    exact hM.1 v hv
  · rw [hf v hv]
    rcases Nat.lt_or_ge v (8 - n) with z | z
    · rw [hM.1 v z, ht v z]
      exact ⟨qb_v1, qb_v0⟩
    · rw [hM.2 v z hv]
      exact ⟨fun y => absurd y (by decide), fun y => absurd y (by decide)⟩
theorem qb_red {S : (Nat → Bool) → Prop} {x : Int32} {f : Nat → Int32} (hS : ∀ t, S t → qb_Sat x t) (hin : qb_In f) (hop : qb_Op x f) (t : Nat → Bool) (h : S t ∧ qb_Ag f t) :
    ∃ v, v < 8 ∧ (((¬ 0 ≤ f v ∧ qb_P x v) ∧ t v = true) ∨ ((¬ 0 ≤ f v ∧ qb_N x v) ∧ t v = false)) := by
  obtain ⟨v, hv, hl⟩ := hS t h.1
  refine ⟨v, hv, ?_⟩
  rcases hin v hv with e | e | e
  · have hz : ¬ 0 ≤ f v := by rw [e]; decide
    exact hl.imp (fun y => ⟨⟨hz, y.1⟩, y.2⟩) (fun y => ⟨⟨hz, y.1⟩, y.2⟩)
  · have ht := (h.2 v hv).2 e
    rcases hl with y | y
    · rw [ht] at y
      exact absurd y.2 (by decide)
    · exact absurd (Or.inr (Or.inl ⟨e, y.1⟩)) (hop v hv)
  · have ht := (h.2 v hv).1 e
    rcases hl with y | y
    · exact absurd (Or.inl ⟨e, y.1⟩) (hop v hv)
    · rw [ht] at y
      exact absurd y.2 (by decide)
theorem qb_open {x : Int32} {v : Nat} (h : qb_P x v ∨ qb_N x v) : ¬ qb_h x v = 0 := fun z => h.elim (qb_h0.mp z).1 (qb_h0.mp z).2
theorem qb_F_lost {mk : Nat → Prop} {S : (Nat → Bool) → Prop} {n : Nat} {s : Nat → Bool} {f : Nat → Int32} {x : Int32} (hn : n ≤ 8) (hF : qb_F mk S n s f) (hS : ∀ t, S t → qb_Sat x t) (hop : qb_Op x f)
    (h : ∀ v, v < 8 → ¬ 0 ≤ f v → ¬ qb_h x v = 0 → ¬ mk v) : ¬ qb_W mk S n s := by
  intro hw
  refine qb_lost (P := fun v => ¬ 0 ≤ f v ∧ qb_P x v) (N := fun v => ¬ 0 ≤ f v ∧ qb_N x v) (fun v hv z => hop v hv (Or.inr (Or.inr ⟨z.1.2, z.2.2⟩))) (qb_red hS hF.1 hop) n s hn (fun v hv => ?_) (fun v hv _ hl => ?_) (hF.2.2 hw)
  · have hp : 0 ≤ f v := by rw [hF.2.1 v hv]; exact qb_v_pos _
    exact fun z => z.elim (fun y => y.1.1 hp) (fun y => y.1.1 hp)
  · exact hl.elim (fun y => h v hv y.1 (qb_open (Or.inl y.2))) (fun y => h v hv y.1 (qb_open (Or.inr y.2)))
theorem qb_F_force {mk : Nat → Prop} {S : (Nat → Bool) → Prop} {n : Nat} {s : Nat → Bool} {f : Nat → Int32} {x b : Int32} {e : Nat} (hn : n ≤ 8) (hF : qb_F mk S n s f) (hS : ∀ t, S t → qb_Sat x t) (hop : qb_Op x f)
    (he : e < 8) (hmk : mk e) (hfe : ¬ 0 ≤ f e) (ho : ∀ v, v < 8 → v ≠ e → ¬ 0 ≤ f v → ¬ qb_h x v = 0 → (¬ mk v ∧ e < v)) (hb : (b = 1 ∧ qb_P x e) ∨ (b = 0 ∧ ¬ qb_P x e)) : qb_F mk S n s (upd f e b) := by
  have hge : 8 - n ≤ e := by
    rcases Nat.lt_or_ge e (8 - n) with z | z
    · exact absurd (by rw [hF.2.1 e z]; exact qb_v_pos _) hfe
    · exact z
  refine ⟨fun v hv => ?_, fun v hv => ?_, fun hw => ?_⟩
  · by_cases ev : v = e
    · rw [ev, pk_us]
      exact hb.elim (fun y => Or.inr (Or.inr y.1)) (fun y => Or.inr (Or.inl y.1))
    · rw [pk_un ev]
      exact hF.1 v hv
  · rw [pk_un (by omega)]
    exact hF.2.1 v hv
  · have hw1 := hF.2.2 hw
    have key : ∀ β : Bool, (β = true ↔ (¬ 0 ≤ f e ∧ qb_P x e)) → qb_W mk (fun t => (S t ∧ qb_Ag f t) ∧ t e = β) n s := fun β hβ =>
      qb_force (P := fun v => ¬ 0 ≤ f v ∧ qb_P x v) (N := fun v => ¬ 0 ≤ f v ∧ qb_N x v) (fun v hv z => hop v hv (Or.inr (Or.inr ⟨z.1.2, z.2.2⟩))) (qb_red hS hF.1 hop) he hmk
        (fun v hv hne hl => hl.elim (fun y => ho v hv hne y.1 (qb_open (Or.inl y.2))) (fun y => ho v hv hne y.1 (qb_open (Or.inr y.2)))) hβ n s hn hge hw1
    have fin : ∀ β : Bool, b = qb_v β → (β = true ↔ (¬ 0 ≤ f e ∧ qb_P x e)) → qb_W mk (fun t => S t ∧ qb_Ag (upd f e b) t) n s := by
      intro β hbv hβ
      refine qb_mono1 hn (fun t _ ht => ⟨ht.1.1, fun v hv => ?_⟩) (key β hβ)
      by_cases ev : v = e
      · rw [ev, pk_us, ht.2, hbv]
        exact ⟨qb_v1, qb_v0⟩
      · rw [pk_un ev]
        exact ht.1.2 v hv
    rcases hb with ⟨h1, h2⟩ | ⟨h1, h2⟩
    · exact fin true h1 ⟨fun _ => ⟨hfe, h2⟩, fun _ => rfl⟩
    · exact fin false h1 ⟨fun z => absurd z (by decide), fun z => absurd z.2 h2⟩
/-- a variable in no open clause makes no difference -/
theorem qb_F_irr {mk : Nat → Prop} {c n : Nat} {lo : Int32} {a1 a2 : Nat → Int32} {s : Nat → Bool} (hn : n < 8) (hM : qb_M (7 - n) s a2)
    (h : ∀ k, k < c → ¬ nI k = lo → qb_Op (a1 k) a2 → qb_h (a1 k) (7 - n) = 0) (x y : Bool) (hw : qb_W mk (qb_S c lo a1) n (qb_up s (7 - n) x)) : qb_W mk (qb_S c lo a1) n (qb_up s (7 - n) y) := by
  refine qb_irr hn (fun t t' h1 h2 hs k hk hl => ?_) x y hw
  obtain ⟨v, hv, hv2⟩ := hs k hk hl
  by_cases ho : qb_Op (a1 k) a2
  · have hz := qb_h0.mp (h k hk hl ho)
    have hne : v ≠ 7 - n := by
      intro e
      rw [e] at hv2
      exact hv2.elim (fun y => hz.1 y.1) (fun y => hz.2 y.1)
    refine ⟨v, hv, ?_⟩
    rw [← h2 v hne]
    exact hv2
  · have : ∃ u, u < 8 ∧ ((a2 u = 1 ∧ qb_P (a1 k) u) ∨ (a2 u = 0 ∧ qb_N (a1 k) u) ∨ (qb_P (a1 k) u ∧ qb_N (a1 k) u)) := by
      refine Classical.byContradiction (fun hc => ho (fun u hu z => hc ⟨u, hu, z⟩))
    obtain ⟨u, hu, hl2⟩ := this
    refine ⟨u, hu, ?_⟩
    have lt : 0 ≤ a2 u → u < 7 - n := fun hp => by
      rcases Nat.lt_or_ge u (7 - n) with z | z
      · exact z
      · exact absurd hp (by rw [hM.2 u z hu]; decide)
    rcases hl2 with ⟨e, hP⟩ | ⟨e, hN⟩ | ⟨hP, hN⟩
    · have hlt := lt (by rw [e]; decide)
      rw [hM.1 u hlt] at e
      exact Or.inl ⟨hP, by rw [← h2 u (by omega), h1 u hlt, qb_v1 e]⟩
    · have hlt := lt (by rw [e]; decide)
      rw [hM.1 u hlt] at e
      exact Or.inr ⟨hN, by rw [← h2 u (by omega), h1 u hlt, qb_v0 e]⟩
    · cases ht : t' u
      · exact Or.inr ⟨hN, rfl⟩
      · exact Or.inl ⟨hP, rfl⟩
end
section
/-! ===== walks: isMakers, lengthOf, isOpen, occurs, force ===== -/
theorem qb_isMakers {post : Int32 → Prop} {m c lo l : Int32} {a1 a2 a3 : Nat → Int32} {v : Nat} (h1 : qb_mk m v → post 1) (h0 : ¬ qb_mk m v → post 0) : wpX_isMakers post (m, c, lo, l, a1, a2, a3) (nI v) :=
  br_c (fun z => h0 (fun y => y z)) (fun z => h1 z)
theorem qb_shz {q i : Nat} (h1 : 1 ≤ q) (h2 : q < 512) (hi : i < 9) : ((nI q).toUInt32 >>> ((nI i).toUInt32 &&& Int32.toUInt32 31)).toInt32 = 0 ↔ Nat.log2 q < i := by
  have hd : q / 2 ^ i ≤ q := Nat.div_le_self _ _
  rw [pk_ushrN (by omega) (nI i) i (qb_s_u i (by omega)), ← nI_0, nI_eq (by omega) (by omega), Nat.div_eq_zero_iff_lt (Nat.two_pow_pos i), Nat.log2_lt (by omega)]
theorem qb_lg {q : Nat} (h1 : 1 ≤ q) (h2 : q < 512) : Nat.log2 q < 9 := (Nat.log2_lt (by omega)).mpr (by omega)
theorem qb_lengthOf {post : Int32 → Prop} {q : Nat} (h1 : 1 ≤ q) (h2 : q < 512) (h : post (nI (Nat.log2 q))) : wpX_lengthOf post () (nI q) := by
  have hl := qb_lg h1 h2
  refine pk_loop (fun n i (s : Nat) => wX_lengthOf_4 post (nI q) n (nI s) (nI i)) (fun i s => 1 ≤ i ∧ s = min (Nat.log2 q) (i - 1)) 9 1 0 (by omega) ⟨by omega, by omega⟩ ?_ ?_
  · intro n s hs
    have e : s = Nat.log2 q := by omega
    rw [← e] at h
    exact pk_le 9 9 (fun _ => h) (fun z => absurd z (by omega))
  · intro n i s hi hs hw
    refine pk_le 9 i (fun z => absurd z (by omega)) (fun _ => ek_if (qb_shz h1 h2 hi) (fun z => nm_r (nI_1 i) (hw s ⟨by omega, by omega⟩)) (fun z => nm_r (nI_1 i) (hw i ⟨by omega, by omega⟩)))
/-- clause k under a3 -/
theorem qb_isOpenF {post : Int32 → Prop} {m c lo l : Int32} {a1 a2 a3 : Nat → Int32} {k : Nat} (hk : k < 20) (h1 : qb_Op (a1 k) a3 → post 1) (h0 : ¬ qb_Op (a1 k) a3 → post 0) : wpX_isOpen post (m, c, lo, l, a1, a2, a3) (nI k) := by
  refine pk_loop (σ := Unit) (fun n i _ => wX_isOpen_2 post (nI k) m c lo l a1 a2 a3 n (nI i)) (fun i _ => ∀ v, v < i → ¬ ((a3 v = 1 ∧ qb_P (a1 k) v) ∨ (a3 v = 0 ∧ qb_N (a1 k) v) ∨ (qb_P (a1 k) v ∧ qb_N (a1 k) v))) 8 0 () (by omega) (fun v hv => absurd hv (by omega)) ?_ ?_
  · intro n _ hs
    exact pk_le 8 8 (fun _ => h1 hs) (fun z => absurd z (by omega))
  · intro n i _ hi hs hw
    have hJ : ¬ ((a3 i = 1 ∧ qb_P (a1 k) i) ∨ (a3 i = 0 ∧ qb_N (a1 k) i) ∨ (qb_P (a1 k) i ∧ qb_N (a1 k) i)) → wX_isOpen_2 post (nI k) m c lo l a1 a2 a3 n (nI (i + 1)) := fun hb => hw () (lt_s hs hb)
    have c49 : ((a3 i = 1 ∧ qb_P (a1 k) i) ∨ (a3 i = 0 ∧ qb_N (a1 k) i) ∨ (qb_P (a1 k) i ∧ qb_N (a1 k) i)) → wX_isOpen_49 post (wX_isOpen_2 post (nI k) m c lo l a1 a2 a3 n) (nI k) (nI i) (qb_h (a1 k) i) m c lo l a1 a2 a3 :=
      fun hb => br_f (by decide) (h0 (fun z => z i hi hb))
    have c53 : ¬ (a3 i = 1 ∧ qb_P (a1 k) i) → ¬ (a3 i = 0 ∧ qb_N (a1 k) i) → wX_isOpen_53 post (wX_isOpen_2 post (nI k) m c lo l a1 a2 a3 n) (nI k) (nI i) (qb_h (a1 k) i) m c lo l a1 a2 a3 :=
      fun hp hn => br_t rfl (br_c (fun z => h0 (fun y => y i hi (Or.inr (Or.inr (qb_h3.mp z))))) (fun z => nm_r (nI_1 i) (hJ (fun y => y.elim hp (fun y => y.elim hn (fun y => z (qb_h3.mpr y)))))))
    have c36 : ¬ (a3 i = 1 ∧ qb_P (a1 k) i) → wX_isOpen_36 post (wX_isOpen_2 post (nI k) m c lo l a1 a2 a3 n) (nI k) (nI i) (qb_h (a1 k) i) m c lo l a1 a2 a3 := by
      intro hp
      unfold wX_isOpen_36
      rw [nI_clamp (show i < 2 ^ 31 by omega)]
      exact ⟨pk_in i 8 hi, br_c (fun e => br_c (fun y => c53 hp (fun z => z.2 y)) (fun y => c49 (Or.inr (Or.inl ⟨e, y⟩)))) (fun e => c53 hp (fun z => e z.1))⟩
    refine pk_le 8 i (fun z => absurd z (by omega)) (fun _ => ⟨pk_in k 20 hk, nm_r (e' := qb_h (a1 k) i) (by rw [nI_clamp (by omega)]; rfl) ⟨pk_in i 8 hi, ?_⟩⟩)
    rw [nI_clamp (show i < 2 ^ 31 by omega)]
    exact br_c (fun e => br_c (fun y => c36 (fun z => z.2 y)) (fun y => c49 (Or.inl ⟨e, y⟩))) (fun e => c36 (fun z => e z.1))
/-- clause k under a2 -/
theorem qb_isOpenV {post : Int32 → Prop} {m c lo l : Int32} {a1 a2 a3 : Nat → Int32} {k : Nat} (hk : k < 20) (h1 : qb_Op (a1 k) a2 → post 1) (h0 : ¬ qb_Op (a1 k) a2 → post 0) : wpX_isOpen_2 post (m, c, lo, l, a1, a2, a3) (nI k) := by
  refine pk_loop (σ := Unit) (fun n i _ => wX_isOpen_2_2 post (nI k) m c lo l a1 a2 a3 n (nI i)) (fun i _ => ∀ v, v < i → ¬ ((a2 v = 1 ∧ qb_P (a1 k) v) ∨ (a2 v = 0 ∧ qb_N (a1 k) v) ∨ (qb_P (a1 k) v ∧ qb_N (a1 k) v))) 8 0 () (by omega) (fun v hv => absurd hv (by omega)) ?_ ?_
  · intro n _ hs
    exact pk_le 8 8 (fun _ => h1 hs) (fun z => absurd z (by omega))
  · intro n i _ hi hs hw
    have hJ : ¬ ((a2 i = 1 ∧ qb_P (a1 k) i) ∨ (a2 i = 0 ∧ qb_N (a1 k) i) ∨ (qb_P (a1 k) i ∧ qb_N (a1 k) i)) → wX_isOpen_2_2 post (nI k) m c lo l a1 a2 a3 n (nI (i + 1)) := fun hb => hw () (lt_s hs hb)
    have c49 : ((a2 i = 1 ∧ qb_P (a1 k) i) ∨ (a2 i = 0 ∧ qb_N (a1 k) i) ∨ (qb_P (a1 k) i ∧ qb_N (a1 k) i)) → wX_isOpen_2_49 post (wX_isOpen_2_2 post (nI k) m c lo l a1 a2 a3 n) (nI k) (nI i) (qb_h (a1 k) i) m c lo l a1 a2 a3 :=
      fun hb => br_f (by decide) (h0 (fun z => z i hi hb))
    have c53 : ¬ (a2 i = 1 ∧ qb_P (a1 k) i) → ¬ (a2 i = 0 ∧ qb_N (a1 k) i) → wX_isOpen_2_53 post (wX_isOpen_2_2 post (nI k) m c lo l a1 a2 a3 n) (nI k) (nI i) (qb_h (a1 k) i) m c lo l a1 a2 a3 :=
      fun hp hn => br_t rfl (br_c (fun z => h0 (fun y => y i hi (Or.inr (Or.inr (qb_h3.mp z))))) (fun z => nm_r (nI_1 i) (hJ (fun y => y.elim hp (fun y => y.elim hn (fun y => z (qb_h3.mpr y)))))))
    have c36 : ¬ (a2 i = 1 ∧ qb_P (a1 k) i) → wX_isOpen_2_36 post (wX_isOpen_2_2 post (nI k) m c lo l a1 a2 a3 n) (nI k) (nI i) (qb_h (a1 k) i) m c lo l a1 a2 a3 := by
      intro hp
      unfold wX_isOpen_2_36
      rw [nI_clamp (show i < 2 ^ 31 by omega)]
      exact ⟨pk_in i 8 hi, br_c (fun e => br_c (fun y => c53 hp (fun z => z.2 y)) (fun y => c49 (Or.inr (Or.inl ⟨e, y⟩)))) (fun e => c53 hp (fun z => e z.1))⟩
    refine pk_le 8 i (fun z => absurd z (by omega)) (fun _ => ⟨pk_in k 20 hk, nm_r (e' := qb_h (a1 k) i) (by rw [nI_clamp (by omega)]; rfl) ⟨pk_in i 8 hi, ?_⟩⟩)
    rw [nI_clamp (show i < 2 ^ 31 by omega)]
    exact br_c (fun e => br_c (fun y => c36 (fun z => z.2 y)) (fun y => c49 (Or.inl ⟨e, y⟩))) (fun e => c36 (fun z => e z.1))
theorem qb_occurs {post : Int32 → Prop} {m lo l : Int32} {c : Nat} {a1 a2 a3 : Nat → Int32} {v : Nat} (hc : c ≤ 20) (h1 : post 1) (h0 : (∀ k, k < c → ¬ nI k = lo → qb_Op (a1 k) a2 → qb_h (a1 k) v = 0) → post 0) : wpX_occurs post (m, nI c, lo, l, a1, a2, a3) (nI v) := by
  refine pk_loop (σ := Unit) (fun n i _ => wX_occurs_2 post (nI v) m (nI c) lo l a1 a2 a3 n (nI i)) (fun i _ => ∀ k, k < i → ¬ nI k = lo → qb_Op (a1 k) a2 → qb_h (a1 k) v = 0) c 0 () (by omega) (fun v hv => absurd hv (by omega)) ?_ ?_
  · intro n _ hs
    exact pk_le c c (fun _ => h0 hs) (fun z => absurd z (by omega))
  · intro n i _ hi hs hw
    refine pk_le c i (fun z => absurd z (by omega)) (fun _ => br_c (fun z => nm_r (nI_1 i) (hw () (lt_s hs (fun y => absurd z y)))) (fun z => qb_isOpenV (by omega) (fun hop => br_f (by decide) ⟨pk_in i 20 (by omega), ?_⟩) (fun hop => br_t rfl (nm_r (nI_1 i) (hw () (lt_s hs (fun _ y => absurd y hop)))))))
    rw [nI_clamp (show i < 2 ^ 31 by omega)]
    exact br_c (fun e => nm_r (nI_1 i) (hw () (lt_s hs (fun _ _ => e)))) (fun _ => h1)
/-- variable v of clause x is still to be settled -/
def qb_O (x : Int32) (f : Nat → Int32) (v : Nat) : Prop := ¬ 0 ≤ f v ∧ ¬ qb_h x v = 0
/-- what force has counted in the variables from i on -/
def qb_I (O mk : Nat → Prop) (i c : Nat) (la : Int32) (fb : Nat) : Prop :=
  i ≤ 8 ∧ c + i ≤ 8 ∧ fb ≤ 8 ∧ (∀ v, i ≤ v → v < 8 → O v → ¬ mk v → fb ≤ v) ∧
  ((c = 0 ∧ ∀ v, i ≤ v → v < 8 → O v → ¬ mk v) ∨ (c = 1 ∧ ∃ e, i ≤ e ∧ e < 8 ∧ la = nI e ∧ O e ∧ mk e ∧ ∀ v, i ≤ v → v < 8 → v ≠ e → O v → ¬ mk v) ∨ (2 ≤ c ∧ ∃ v, v < 8 ∧ O v))
theorem qb_I_skip {O mk : Nat → Prop} {i c fb : Nat} {la : Int32} (h : qb_I O mk (i + 1) c la fb) (ho : ¬ O i) : qb_I O mk i c la fb := by
  obtain ⟨h1, h2, h3, h4, h5⟩ := h
  have up : ∀ v, i ≤ v → O v → i + 1 ≤ v := fun v hv hO => by
    rcases Nat.lt_or_ge i v with z | z
    · exact z
    · have : v = i := by omega
      rw [this] at hO
      exact absurd hO ho
  refine ⟨by omega, by omega, h3, fun v a b c d => h4 v (up v a c) b c d, ?_⟩
  rcases h5 with ⟨e1, e2⟩ | ⟨e1, e, e2, e3, e4, e5, e6, e7⟩ | h5
  · exact Or.inl ⟨e1, fun v a b c => e2 v (up v a c) b c⟩
  · exact Or.inr (Or.inl ⟨e1, e, by omega, e3, e4, e5, e6, fun v a b c d => e7 v (up v a d) b c d⟩)
  · exact Or.inr (Or.inr h5)
theorem qb_I_br {O mk : Nat → Prop} {i c fb : Nat} {la : Int32} (h : qb_I O mk (i + 1) c la fb) (hm : ¬ mk i) : qb_I O mk i c la i := by
  obtain ⟨h1, h2, h3, h4, h5⟩ := h
  refine ⟨by omega, by omega, by omega, fun v a _ _ _ => a, ?_⟩
  rcases h5 with ⟨e1, e2⟩ | ⟨e1, e, e2, e3, e4, e5, e6, e7⟩ | h5
  · refine Or.inl ⟨e1, fun v a b c => ?_⟩
    by_cases ev : v = i
    · rw [ev]
      exact hm
    · exact e2 v (by omega) b c
  · refine Or.inr (Or.inl ⟨e1, e, by omega, e3, e4, e5, e6, fun v a b c d => ?_⟩)
    by_cases ev : v = i
    · rw [ev]
      exact hm
    · exact e7 v (by omega) b c d
  · exact Or.inr (Or.inr h5)
theorem qb_I_mk {O mk : Nat → Prop} {i c fb : Nat} {la : Int32} (h : qb_I O mk (i + 1) c la fb) (ho : O i) (hm : mk i) : qb_I O mk i (c + 1) (nI i) fb := by
  obtain ⟨h1, h2, h3, h4, h5⟩ := h
  have up : ∀ v, i ≤ v → ¬ mk v → i + 1 ≤ v := fun v hv hO => by
    rcases Nat.lt_or_ge i v with z | z
    · exact z
    · have : v = i := by omega
      rw [this] at hO
      exact absurd hm hO
  refine ⟨by omega, by omega, h3, fun v a b c d => h4 v (up v a d) b c d, ?_⟩
  rcases h5 with ⟨e1, e2⟩ | ⟨e1, _⟩ | ⟨e1, _⟩
  · exact Or.inr (Or.inl ⟨by omega, i, by omega, by omega, rfl, ho, hm, fun v a b c d => e2 v (by omega) b d⟩)
  · exact Or.inr (Or.inr ⟨by omega, i, by omega, ho⟩)
  · exact Or.inr (Or.inr ⟨by omega, i, by omega, ho⟩)
theorem qb_nar1 : narrow .boolean (.int 1) = .int 1 ∧ fits .boolean (.int 1) = true := by constructor <;> first | rfl | decide
theorem qb_nar0 : narrow .boolean (.int 0) = .int 0 ∧ fits .boolean (.int 0) = true := by constructor <;> first | rfl | decide
theorem qb_wforce {post : Int32 → St1 → Prop} {m cl lo l : Int32} {a1 a2 a3 : Nat → Int32} {k : Nat} (hk : k < 20)
    (hA : (∀ v, v < 8 → qb_O (a1 k) a3 v → ¬ qb_mk m v) → post 0 (m, cl, lo, 1, a1, a2, a3))
    (hB : ∀ (e : Nat) (b : Int32), e < 8 → qb_O (a1 k) a3 e → qb_mk m e → (∀ v, v < 8 → v ≠ e → qb_O (a1 k) a3 v → (¬ qb_mk m v ∧ e < v)) → ((b = 1 ∧ qb_P (a1 k) e) ∨ (b = 0 ∧ ¬ qb_P (a1 k) e)) → post 1 (m, cl, lo, 0, a1, a2, upd a3 e b))
    (hC : (∃ v, v < 8 ∧ qb_O (a1 k) a3 v) → post 0 (m, cl, lo, 0, a1, a2, a3)) : wpX_force post (m, cl, lo, l, a1, a2, a3) (nI k) := by
  have main : wX_force_12 post (nI k) m cl lo l a1 a2 a3 9 (nI 0) (-1) (nI 8) (nI 8 + (-1)) := by
    refine pk_loopD (σ := Nat × Int32 × Nat) (fun n i s => wX_force_12 post (nI k) m cl lo l a1 a2 a3 n (nI s.1) s.2.1 (nI s.2.2) (nI i + (-1))) (fun i s => qb_I (qb_O (a1 k) a3) (qb_mk m) i s.1 s.2.1 s.2.2) ?_ ?_ 8 (0, -1, 8)
      ⟨by omega, Nat.le_refl 8, Nat.le_refl 8, fun v a b => absurd b (by omega), Or.inl ⟨rfl, fun v a b => absurd b (by omega)⟩⟩
    · intro n s hs
      obtain ⟨c, la, fb⟩ := s
      obtain ⟨h1, h2, h3, h4, h5⟩ := hs
      dsimp only at h1 h2 h3 h4 h5 ⊢
      refine br_t (by decide) ?_
      rcases h5 with ⟨e1, e2⟩ | ⟨e1, e, e2, e3, e4, e5, e6, e7⟩ | ⟨e1, e2⟩
      · rw [e1]
        exact br_t rfl ⟨qb_nar1.1, qb_nar1.2, br_f (by decide) (hA (fun v => e2 v (by omega)))⟩
      · rw [e1, e4]
        refine br_f (by decide) ⟨qb_nar0.1, qb_nar0.2, br_t rfl (pk_le e fb (fun z => ⟨pk_in k 20 hk, ?_⟩) (fun z => hC ⟨e, e3, e5⟩))⟩
        have ho : ∀ v, v < 8 → v ≠ e → qb_O (a1 k) a3 v → (¬ qb_mk m v ∧ e < v) := fun v a b c => by
          have q1 := e7 v (by omega) a b c
          have q2 := h4 v (by omega) a c q1
          exact ⟨q1, by omega⟩
        rw [nI_clamp (show k < 2 ^ 31 by omega), nI_clamp (show e < 2 ^ 31 by omega)]
        exact ek_if qb_P1 (fun hP => ⟨pk_in e 8 e3, nm_e (hB e 0 e3 e5 e6 ho (Or.inr ⟨rfl, hP⟩))⟩) (fun hP => ⟨pk_in e 8 e3, nm_e (hB e 1 e3 e5 e6 ho (Or.inl ⟨rfl, Classical.byContradiction hP⟩))⟩)
      · have n1 : ¬ nI c = 1 := fun z => absurd ((nI_eq (a := c) (b := 1) (by omega) (by omega)).mp z) (by omega)
        exact br_f (nI_ne0 (by omega) (by omega)) ⟨qb_nar0.1, qb_nar0.2, br_f n1 (hC e2)⟩
    · intro n i s hs hw
      obtain ⟨c, la, fb⟩ := s
      dsimp only at hs ⊢
      have hi : i < 8 := hs.1
      rw [pk_m1]
      have hJ : ∀ (c' : Nat) (la' : Int32) (fb' : Nat), qb_I (qb_O (a1 k) a3) (qb_mk m) i c' la' fb' → wX_force_12 post (nI k) m cl lo l a1 a2 a3 n (nI c') la' (nI fb') (nI i + (-1)) := fun c' la' fb' h => hw (c', la', fb') h
      have skip : ¬ qb_O (a1 k) a3 i → wX_force_47 post (wX_force_12 post (nI k) m cl lo l a1 a2 a3 n) (nI k) (nI c) la (nI fb) (nI i) m cl lo l a1 a2 a3 :=
        fun ho => br_t rfl (br_t rfl (nm_e (hJ c la fb (qb_I_skip hs ho))))
      refine br_f (nI_pos (by omega)) ⟨pk_in i 8 hi, ?_⟩
      rw [nI_clamp (show i < 2 ^ 31 by omega), nI_clamp (show k < 2 ^ 31 by omega)]
      refine br_c (fun z => skip (fun y => y.1 z)) (fun z => ⟨pk_in k 20 hk, br_c (fun y => skip (fun x => x.2 y)) (fun y => ?_)⟩)
      refine br_f (by decide) (qb_isMakers (fun hm => br_f (by decide) (nm_r (nI_1 c) (nm_e (hJ (c + 1) (nI i) fb (qb_I_mk hs ⟨z, y⟩ hm))))) (fun hm => br_t rfl (br_f (by decide) (nm_e (hJ c la i (qb_I_br hs hm))))))
  rw [show nI 8 + (-1) = 7 from by decide] at main
  exact ⟨9, main⟩
end
section
/-! ===== derive ===== -/
theorem qb_fill {f s : Nat → Int32} {i k : Nat} {x : Int32} (hk : k = i) (h : ∀ j, j < i → s j = f j) (hx : x = f i) : ∀ j, j < i + 1 → upd s k x j = f j := by
  intro j hj
  rw [hk]
  by_cases e : j = i
  · rw [e, pk_us, hx]
  · rw [pk_un e]
    exact h j (by omega)
theorem qb_sat_of {x : Int32} {f : Nat → Int32} {s : Nat → Bool} (hf : ∀ v, v < 8 → f v = qb_v (s v)) (h : ¬ qb_Op x f) : qb_Sat x s := by
  refine Classical.byContradiction (fun hc => h (fun v hv hb => hc ⟨v, hv, ?_⟩))
  rcases hb with ⟨e, hP⟩ | ⟨e, hN⟩ | ⟨hP, hN⟩
  · rw [hf v hv] at e
    exact Or.inl ⟨hP, qb_v1 e⟩
  · rw [hf v hv] at e
    exact Or.inr ⟨hN, qb_v0 e⟩
  · cases ht : s v
    · exact Or.inr ⟨hN, rfl⟩
    · exact Or.inl ⟨hP, rfl⟩
/-- where all variables have values none is still to be settled -/
theorem qb_full {mk : Nat → Prop} {S : (Nat → Bool) → Prop} {n v : Nat} {s : Nat → Bool} {f : Nat → Int32} {x : Int32} (hF : qb_F mk S n s f) (hn : n = 0) (hv : v < 8) (h : qb_O x f v) : False := by
  refine h.1 ?_
  rw [hF.2.1 v (by omega)]
  exact qb_v_pos _
section
variable {post : St1 → Prop} {m lo : Int32} {c n : Nat} {a1 a2 : Nat → Int32} {s : Nat → Bool}
theorem qb_d57 {J : Int32 → Int32 → Int32 → Int32 → Int32 → Int32 → (Nat → Int32) → (Nat → Int32) → (Nat → Int32) → Prop} {i : Nat} {f : Nat → Int32} (hc : c ≤ 20) (hn : n ≤ 8)
    (hF : qb_F (qb_mk m) (qb_S c lo a1) n s f)
    (hJ : ∀ (x2 l : Int32) (g : Nat → Int32), qb_F (qb_mk m) (qb_S c lo a1) n s g → ((l = 1 ∧ ¬ qb_W (qb_mk m) (qb_S c lo a1) n s) ∨ l = 0) → (n = 0 → l = 0 → qb_S c lo a1 s) → J x2 (nI (i + 1)) m (nI c) lo l a1 a2 g) :
    ∃ fu, wX_derive_57 post J (nI i) fu 0 0 m (nI c) lo 0 a1 a2 f := by
  refine pk_loop (σ := Int32 × Int32 × (Nat → Int32)) (fun fu k z => wX_derive_57 post J (nI i) fu z.1 (nI k) m (nI c) lo z.2.1 a1 a2 z.2.2)
    (fun k z => qb_F (qb_mk m) (qb_S c lo a1) n s z.2.2 ∧ ((z.2.1 = 1 ∧ ¬ qb_W (qb_mk m) (qb_S c lo a1) n s) ∨ z.2.1 = 0) ∧ (n = 0 → z.2.1 = 0 → ∀ j, j < k → ¬ nI j = lo → qb_Sat (a1 j) s)) c 0 (0, 0, f) (by omega)
    ⟨hF, Or.inr rfl, fun _ _ j hj => absurd hj (by omega)⟩ ?_ ?_
  · intro fu z hz
    obtain ⟨x2, l, g⟩ := z
    exact pk_le c c (fun _ => nm_r (nI_1 i) (hJ x2 l g hz.1 hz.2.1 (fun a b => hz.2.2 a b))) (fun y => absurd y (by omega))
  · intro fu k z hk hz hw
    obtain ⟨x2, l, g⟩ := z
    obtain ⟨z1, z2, z3⟩ := hz
    dsimp only at z1 z2 z3 ⊢
    refine pk_le c k (fun y => absurd y (by omega)) (fun _ => br_c (fun l0 => ?_) (fun l1 => nm_r (nI_1 i) (hJ x2 l g z1 z2 (fun _ y => absurd y l1))))
    have go : ∀ (x2' l' : Int32) (g' : Nat → Int32), qb_F (qb_mk m) (qb_S c lo a1) n s g' → ((l' = 1 ∧ ¬ qb_W (qb_mk m) (qb_S c lo a1) n s) ∨ l' = 0) → (n = 0 → l' = 0 → ¬ nI k = lo → qb_Sat (a1 k) s) → wX_derive_57 post J (nI i) fu x2' (nI (k + 1)) m (nI c) lo l' a1 a2 g' :=
      fun x2' l' g' q1 q2 q3 => hw (x2', l', g') ⟨q1, q2, fun e1 e2 => lt_s (z3 e1 l0) (q3 e1 e2)⟩
    refine br_c (fun y => nm_r (nI_1 k) (go x2 l g z1 z2 (fun _ _ w => absurd y w))) (fun y => ?_)
    have hS : ∀ t, qb_S c lo a1 t → qb_Sat (a1 k) t := fun t ht => ht k hk y
    refine qb_isOpenF (by omega) (fun hop => br_f (by decide) (qb_wforce (by omega) (fun hA => ?_) (fun e b e1 e2 e3 e4 e5 => ?_) (fun hC => ?_))) (fun hop => br_t rfl (nm_r (nI_1 k) (go x2 l g z1 z2 (fun e _ _ => qb_sat_of (fun v hv => z1.2.1 v (by omega)) hop))))
    · have g1 : ∀ x2' : Int32, wX_derive_57 post J (nI i) fu x2' (nI (k + 1)) m (nI c) lo 1 a1 a2 g := fun x2' =>
        go x2' 1 g z1 (Or.inl ⟨rfl, qb_F_lost hn z1 hS hop (fun v hv q1 q2 => hA v hv ⟨q1, q2⟩)⟩) (fun _ w => absurd w (by decide))
      exact br_t rfl (br_c (fun _ => nm_r (nI_1 k) (g1 0)) (fun _ => nm_r (nI_1 k) (g1 1)))
    · exact br_f (by decide) (nm_r (nI_1 k) (go 1 0 (upd g e b) (qb_F_force hn z1 hS hop e1 e3 e2.1 (fun v q1 q2 q3 q4 => e4 v q1 q2 ⟨q3, q4⟩) e5) (Or.inr rfl) (fun w => absurd e2 (qb_full z1 w e1))))
    · have g1 : ∀ x2' : Int32, wX_derive_57 post J (nI i) fu x2' (nI (k + 1)) m (nI c) lo 0 a1 a2 g := fun x2' =>
        go x2' 0 g z1 (Or.inr rfl) (fun w => hC.elim (fun v hv => absurd hv.2 (qb_full z1 w hv.1)))
      exact br_t rfl (br_c (fun _ => nm_r (nI_1 k) (g1 0)) (fun _ => nm_r (nI_1 k) (g1 1)))
theorem qb_d35 {f : Nat → Int32} (hc : c ≤ 20) (hn : n ≤ 8) (hF : qb_F (qb_mk m) (qb_S c lo a1) n s f)
    (h : ∀ (l : Int32) (g : Nat → Int32), qb_F (qb_mk m) (qb_S c lo a1) n s g → ((l = 1 ∧ ¬ qb_W (qb_mk m) (qb_S c lo a1) n s) ∨ (l = 0 ∧ (n = 0 → qb_S c lo a1 s))) → post (m, nI c, lo, l, a1, a2, g)) :
    ∃ fu, wX_derive_35 post fu 1 0 m (nI c) lo 0 a1 a2 f := by
  refine pk_loop (σ := Int32 × Int32 × (Nat → Int32)) (fun fu i z => wX_derive_35 post fu z.1 (nI i) m (nI c) lo z.2.1 a1 a2 z.2.2)
    (fun i z => qb_F (qb_mk m) (qb_S c lo a1) n s z.2.2 ∧ ((z.2.1 = 1 ∧ ¬ qb_W (qb_mk m) (qb_S c lo a1) n s) ∨ z.2.1 = 0) ∧ (i = 0 → z.1 = 1 ∧ z.2.1 = 0) ∧ (0 < i → n = 0 → z.2.1 = 0 → qb_S c lo a1 s)) 10 0 (1, 0, f) (by omega)
    ⟨hF, Or.inr rfl, fun _ => ⟨rfl, rfl⟩, fun w => absurd w (by omega)⟩ ?_ ?_
  · intro fu z hz
    obtain ⟨x2, l, g⟩ := z
    obtain ⟨z1, z2, z3, z4⟩ := hz
    dsimp only at z1 z2 z3 z4 ⊢
    exact pk_le 10 10 (fun _ => h l g z1 (z2.imp id (fun e => ⟨e, fun w => z4 (by omega) w e⟩))) (fun y => absurd y (by omega))
  · intro fu i z hi hz hw
    obtain ⟨x2, l, g⟩ := z
    obtain ⟨z1, z2, z3, z4⟩ := hz
    dsimp only at z1 z2 z3 z4 ⊢
    refine pk_le 10 i (fun y => absurd y (by omega)) (fun _ => br_c (fun x0 => ?_) (fun x1 => br_c (fun l0 => ?_) (fun l1 => ?_)))
    · have hi0 : 0 < i := by
        rcases Nat.eq_zero_or_pos i with w | w
        · have := (z3 w).1
          rw [x0] at this
          exact absurd this (by decide)
        · exact w
      exact h l g z1 (z2.imp id (fun e => ⟨e, fun w => z4 hi0 w e⟩))
    · rw [l0]
      exact qb_d57 hc hn z1 (fun x2' l' g' q1 q2 q3 => hw (x2', l', g') ⟨q1, q2, fun w => absurd w (by omega), fun _ => q3⟩)
    · exact h l g z1 (z2.elim (fun e => Or.inl e) (fun e => absurd e l1))
theorem qb_derive {l : Int32} {a3 : Nat → Int32} {p : Int32} (hc : c ≤ 20) (hn : n ≤ 8) (hM : qb_M (8 - n) s a2)
    (h : ∀ (l : Int32) (g : Nat → Int32), qb_F (qb_mk m) (qb_S c lo a1) n s g → ((l = 1 ∧ ¬ qb_W (qb_mk m) (qb_S c lo a1) n s) ∨ (l = 0 ∧ (n = 0 → qb_S c lo a1 s))) → post (m, nI c, lo, l, a1, a2, g)) :
    wpX_derive post (m, nI c, lo, l, a1, a2, a3) p := by
  refine pk_loop (fun fu i f => wX_derive_7 post m (nI c) lo 0 fu (nI i) a1 a2 f) (fun i f => ∀ v, v < i → f v = a2 v) 8 0 a3 (by omega) (fun v hv => absurd hv (by omega)) ?_ ?_
  · intro fu f hf
    exact pk_le 8 8 (fun _ => qb_d35 hc hn (qb_F_init hn hM hf) h) (fun y => absurd y (by omega))
  · intro fu i f hi hf hw
    exact pk_le 8 i (fun y => absurd y (by omega)) (fun _ => ⟨pk_in i 8 hi, pk_in i 8 hi, nm_e (nm_r (nI_1 i) (hw _ (qb_fill (nI_clamp (by omega)) hf (by rw [nI_clamp (by omega)]))))⟩)
end
end
section
/-! ===== needsBoth, firstValue, isWon ===== -/
theorem qb_M_dn {n : Nat} {s : Nat → Bool} {x : Bool} {a : Nat → Int32} (hn : n < 8) (h : qb_M (8 - n) (qb_up s (7 - n) x) a) : qb_M (7 - n) s (upd a (7 - n) (-1)) := by
  refine ⟨fun v hv => ?_, fun v hv h8 => ?_⟩
  · rw [pk_un (show v ≠ 7 - n by omega), h.1 v (by omega), qb_up_n (show v ≠ 7 - n by omega)]
  · by_cases e : v = 7 - n
    · rw [e, pk_us]
    · rw [pk_un e]
      exact h.2 v (by omega) h8
theorem qb_M_up {n : Nat} {s : Nat → Bool} {a : Nat → Int32} (y : Bool) (hn : n < 8) (h : qb_M (7 - n) s a) : qb_M (8 - n) (qb_up s (7 - n) y) (upd a (7 - n) (qb_v y)) := by
  refine ⟨fun v hv => ?_, fun v hv h8 => ?_⟩
  · by_cases e : v = 7 - n
    · rw [e, pk_us, qb_up_s]
    · rw [pk_un e, qb_up_n e]
      exact h.1 v (by omega)
  · rw [pk_un (show v ≠ 7 - n by omega)]
    exact h.2 v (by omega) h8
theorem qb_M_set {n : Nat} {s : Nat → Bool} {x : Bool} {a : Nat → Int32} (y : Bool) (hn : n < 8) (h : qb_M (8 - n) (qb_up s (7 - n) x) a) : qb_M (8 - n) (qb_up s (7 - n) y) (upd a (7 - n) (qb_v y)) := by
  refine ⟨fun v hv => ?_, fun v hv h8 => ?_⟩
  · by_cases e : v = 7 - n
    · rw [e, pk_us, qb_up_s]
    · rw [pk_un e, qb_up_n e, h.1 v hv, qb_up_n e]
  · rw [pk_un (show v ≠ 7 - n by omega)]
    exact h.2 v (by omega) h8
theorem qb_M_at {n : Nat} {s : Nat → Bool} {x : Bool} {a : Nat → Int32} (hn : n < 8) (h : qb_M (8 - n) (qb_up s (7 - n) x) a) : a (7 - n) = qb_v x := by
  rw [h.1 (7 - n) (by omega), qb_up_s]
theorem qb_first {post : Int32 → Prop} {m cl lo l : Int32} {a1 a2 a3 : Nat → Int32} {v : Nat} (hv : v < 8) (h1 : qb_mk m v → a3 v = 1 → post 1) (h0 : post 0) : wpX_firstValue post (m, cl, lo, l, a1, a2, a3) (nI v) := by
  unfold wpX_firstValue
  dsimp only
  refine qb_isMakers (fun hm => br_f (by decide) ⟨pk_in v 8 hv, ?_⟩) (fun _ => br_t rfl h0)
  rw [nI_clamp (show v < 2 ^ 31 by omega)]
  exact br_c (fun e => h1 hm e) (fun _ => h0)
section
variable {m lo : Int32} {c n : Nat} {a1 : Nat → Int32} {s : Nat → Bool}
theorem qb_needs {post : Int32 → St1 → Prop} {l : Int32} {a2 a3 : Nat → Int32} (hc : c ≤ 20) (hn : n < 8) (hM : qb_M (8 - n) (qb_up s (7 - n) false) a2)
    (h : ∀ (r l' : Int32) (a2' g : Nat → Int32), qb_M (8 - n) (qb_up s (7 - n) false) a2' →
      (r = 1 ∨ (r = 0 ∧ (qb_mk m (7 - n) → ¬ qb_W (qb_mk m) (qb_S c lo a1) n (qb_up s (7 - n) false) → ¬ qb_W (qb_mk m) (qb_S c lo a1) (n + 1) s) ∧ (¬ qb_mk m (7 - n) → qb_W (qb_mk m) (qb_S c lo a1) n (qb_up s (7 - n) false) → qb_W (qb_mk m) (qb_S c lo a1) (n + 1) s))) →
      post r (m, nI c, lo, l', a1, a2', g)) : wpX_needsBoth post (m, nI c, lo, l, a1, a2, a3) (nI (7 - n)) := by
  have hv : 7 - n < 8 := by omega
  have hcl : (nI (7 - n)).toNatClampNeg = 7 - n := nI_clamp (by omega)
  have hM1 := qb_M_dn hn hM
  have hM2 : qb_M (8 - (n + 1)) s (upd a2 (7 - n) (-1)) := by
    rw [show 8 - (n + 1) = 7 - n by omega]
    exact hM1
  have hM3 : qb_M (8 - n) (qb_up s (7 - n) false) (upd (upd a2 (7 - n) (-1)) (7 - n) 0) := qb_M_up false hn hM1
  refine ⟨pk_in (7 - n) 8 hv, nm_r (e' := upd a2 (7 - n) (-1)) (by rw [hcl]) (qb_derive hc (by omega) hM2 (fun l' g hF hl => ?_))⟩
  refine qb_occurs hc ?_ (fun hocc => ?_)
  · refine ⟨pk_in (7 - n) 8 hv, nm_r (e' := upd (upd a2 (7 - n) (-1)) (7 - n) 0) (by rw [hcl]) (qb_isMakers (fun hm => br_f (by decide) ⟨pk_in (7 - n) 8 hv, ?_⟩) (fun hm => br_t rfl (br_f (by decide) (br_t rfl (h 1 l' _ g hM3 (Or.inl rfl))))))⟩
    rw [hcl]
    refine br_c (fun g0 => br_f (by decide) (br_f (by decide) (h 0 l' _ g hM3 (Or.inr ⟨rfl, fun _ hnw hw => hnw ?_, fun z => absurd hm z⟩)))) (fun _ => br_f (by decide) (br_t rfl (h 1 l' _ g hM3 (Or.inl rfl))))
    exact qb_must (T := qb_Ag g) hn hm (fun t ht => (ht (7 - n) hv).2 g0) hF.2.2 hw
  · have irr : ∀ x y : Bool, qb_W (qb_mk m) (qb_S c lo a1) n (qb_up s (7 - n) x) → qb_W (qb_mk m) (qb_S c lo a1) n (qb_up s (7 - n) y) := fun x y => qb_F_irr hn hM1 hocc x y
    have fin := h 0 l' _ g hM3 (Or.inr ⟨rfl, fun hm hnw hw => ((qb_W_mk hm).mp hw).elim hnw (fun z => hnw (irr _ _ z)), fun hm hw => (qb_W_br hm).mpr ⟨hw, irr _ _ hw⟩⟩)
    refine ⟨pk_in (7 - n) 8 hv, nm_r (e' := upd (upd a2 (7 - n) (-1)) (7 - n) 0) (by rw [hcl]) (qb_isMakers (fun hm => br_f (by decide) ⟨pk_in (7 - n) 8 hv, ?_⟩) (fun hm => br_t rfl (br_t rfl fin)))⟩
    exact br_c (fun _ => br_t rfl fin) (fun _ => br_t rfl fin)
end
/-- r is the truth value of p -/
def qb_R (r : Int32) (p : Prop) : Prop := (p ∧ r = 1) ∨ (¬ p ∧ r = 0)
/-- the steps that a position with n variables to come takes -/
def qb_E : Nat → Nat
  | 0 => 1
  | n + 1 => 2 * qb_E n + 3
theorem qb_E_le : ∀ n, n < 9 → qb_E n ≤ 1021 := by decide
theorem qb_w54 {post : Int32 → St1 → Prop} {m lo : Int32} {c st : Nat} {a1 : Nat → Int32} (hc : c ≤ 20) : ∀ (n : Nat) (s : Nat → Bool) (fu k : Nat) (x5 l : Int32) (a2 a3 : Nat → Int32), n ≤ 8 → st ≤ 8 - n → fu + k = 2001 → k + qb_E n ≤ 2000 → qb_M (8 - n) s a2 →
    (∀ (fu' k' : Nat) (r l' : Int32) (a2' a3' : Nat → Int32), fu' + k' = 2001 → k' ≤ k + qb_E n → qb_R r (qb_W (qb_mk m) (qb_S c lo a1) n s) → qb_M (8 - n) s a2' → wX_isWon_54 post (nI st) fu' (nI (8 - n)) 0 r (nI k') m (nI c) lo l' a1 a2' a3') →
    wX_isWon_54 post (nI st) fu (nI (8 - n)) 1 x5 (nI k) m (nI c) lo l a1 a2 a3 := by
  intro n
  induction n with
  | zero =>
    intro s fu k x5 l a2 a3 hn hst hfu hk hM H
    have hE : qb_E 0 = 1 := rfl
    obtain ⟨g, rfl⟩ : ∃ g, fu = g + 1 := ⟨fu - 1, by omega⟩
    refine pk_le 2000 k (fun z => absurd z (by omega)) (fun _ => br_f (by decide) (qb_derive hc hn hM (fun l' f hF hl => ?_)))
    rcases hl with ⟨e, hw⟩ | ⟨e, hs⟩
    · rw [e]
      exact br_f (by decide) (br_f (by decide) (nm_r (nI_1 k) (H g (k + 1) 0 1 a2 f (by omega) (by omega) (Or.inr ⟨hw, rfl⟩) hM)))
    · rw [e]
      exact br_t rfl (br_t (by decide) (br_t rfl (nm_r (nI_1 k) (H g (k + 1) 1 0 a2 f (by omega) (by omega) (Or.inl ⟨hs rfl, rfl⟩) hM))))
  | succ n ih =>
    intro s fu k x5 l a2 a3 hn hst hfu hk hM H
    have hE : qb_E (n + 1) = 2 * qb_E n + 3 := rfl
    have h8 : n < 8 := by omega
    have hv : 7 - n < 8 := by omega
    have hcl : (nI (7 - n)).toNatClampNeg = 7 - n := nI_clamp (by omega)
    have hup : nI (7 - n) + 1 = nI (8 - n) := by rw [nI_1, show 7 - n + 1 = 8 - n by omega]
    have hdn : nI (8 - n) + (-1) = nI (7 - n) := by rw [show 8 - n = 7 - n + 1 by omega, pk_m1]
    have hns : ¬ nI (8 - n) = nI st := fun z => absurd ((nI_eq (by omega) (by omega)).mp z) (by omega)
    obtain ⟨g, rfl⟩ : ∃ g, fu = g + 1 := ⟨fu - 1, by omega⟩
    rw [show 8 - (n + 1) = 7 - n by omega] at H hst ⊢
    have hM' : qb_M (7 - n) s a2 := by
      rw [show 8 - (n + 1) = 7 - n by omega] at hM
      exact hM
    -- the way back to this position
    have fin : ∀ (x : Bool) (g' k' : Nat) (r l' : Int32) (a2' a3' : Nat → Int32), g' + 1 + k' = 2001 → k' + 1 ≤ k + qb_E (n + 1) → qb_R r (qb_W (qb_mk m) (qb_S c lo a1) (n + 1) s) → qb_M (8 - n) (qb_up s (7 - n) x) a2' →
        wX_isWon_164 post (wX_isWon_54 post (nI st) g') (nI st) (nI (7 - n)) r (nI k') m (nI c) lo l' a1 a2' a3' := by
      intro x g' k' r l' a2' a3' q1 q2 q3 q4
      refine br_t rfl ⟨pk_in (7 - n) 8 hv, nm_r (e' := upd a2' (7 - n) (-1)) (by rw [hcl]) (br_t rfl (nm_r (Int32.add_zero _) (nm_r (nI_1 k') ?_)))⟩
      exact H g' (k' + 1) r l' _ a3' (by omega) (by omega) q3 (qb_M_dn h8 q4)
    -- back from the value 1
    have ret1 : (qb_W (qb_mk m) (qb_S c lo a1) (n + 1) s ↔ qb_W (qb_mk m) (qb_S c lo a1) n (qb_up s (7 - n) true)) → ∀ (fu' k' : Nat) (r l' : Int32) (a2' a3' : Nat → Int32), fu' + k' = 2001 → k' + 1 ≤ k + qb_E (n + 1) → qb_R r (qb_W (qb_mk m) (qb_S c lo a1) n (qb_up s (7 - n) true)) → qb_M (8 - n) (qb_up s (7 - n) true) a2' →
        wX_isWon_54 post (nI st) fu' (nI (8 - n)) 0 r (nI k') m (nI c) lo l' a1 a2' a3' := by
      intro hiff fu' k' r l' a2' a3' q1 q2 q3 q4
      obtain ⟨g', rfl⟩ : ∃ g', fu' = g' + 1 := ⟨fu' - 1, by omega⟩
      refine pk_le 2000 k' (fun z => absurd z (by omega)) (fun _ => br_t rfl (br_f hns (nm_r hdn ⟨pk_in (7 - n) 8 hv, br_f ?_ (fin true g' k' r l' a2' a3' (by omega) q2 ?_ q4)⟩)))
      · rw [hcl, qb_M_at h8 q4]
        decide
      · unfold qb_R at q3 ⊢
        rw [hiff]
        exact q3
    -- back from the value 0
    have ret0 : ∀ (fu' k' : Nat) (r l' : Int32) (a2' a3' : Nat → Int32), fu' + k' = 2001 → k' ≤ k + 1 + qb_E n → qb_R r (qb_W (qb_mk m) (qb_S c lo a1) n (qb_up s (7 - n) false)) → qb_M (8 - n) (qb_up s (7 - n) false) a2' →
        wX_isWon_54 post (nI st) fu' (nI (8 - n)) 0 r (nI k') m (nI c) lo l' a1 a2' a3' := by
      intro fu' k' r l' a2' a3' q1 q2 q3 q4
      obtain ⟨g', rfl⟩ : ∃ g', fu' = g' + 1 := ⟨fu' - 1, by omega⟩
      have one : (qb_W (qb_mk m) (qb_S c lo a1) (n + 1) s ↔ qb_W (qb_mk m) (qb_S c lo a1) n (qb_up s (7 - n) true)) → ∀ (l'' : Int32) (a2'' a3'' : Nat → Int32), qb_M (8 - n) (qb_up s (7 - n) false) a2'' →
          wX_isWon_165 post (wX_isWon_54 post (nI st) g') (nI st) (nI (7 - n)) r (nI k') 1 m (nI c) lo l'' a1 a2'' a3'' := by
        intro hiff l'' a2'' a3'' q5
        refine br_f (by decide) ⟨pk_in (7 - n) 8 hv, nm_r (e' := upd a2'' (7 - n) 1) (by rw [hcl]) (br_f (by decide) (nm_r hup (nm_r (nI_1 k') ?_)))⟩
        exact ih (qb_up s (7 - n) true) g' (k' + 1) r l'' _ a3'' (by omega) (by omega) (by omega) (by omega) (qb_M_set true h8 q5) (fun fu3 k3 r3 l3 b2 b3 p1 p2 p3 p4 => ret1 hiff fu3 k3 r3 l3 b2 b3 p1 (by omega) p3 p4)
      refine pk_le 2000 k' (fun z => absurd z (by omega)) (fun _ => br_t rfl (br_f hns (nm_r hdn ⟨pk_in (7 - n) 8 hv, br_t ?_ (qb_isMakers (fun hm => br_c (fun e => ?_) (fun e => ?_)) (fun hm => br_c (fun e => ?_) (fun e => ?_)))⟩)))
      · rw [hcl, qb_M_at h8 q4]
        rfl
      · have hw : qb_W (qb_mk m) (qb_S c lo a1) n (qb_up s (7 - n) false) := q3.elim (fun z => z.1) (fun z => absurd (z.2.symm.trans e) (by decide))
        exact fin false g' k' r l' a2' a3' q1 (by omega) (Or.inl ⟨(qb_W_mk hm).mpr (Or.inl hw), e⟩) q4
      · have hw : ¬ qb_W (qb_mk m) (qb_S c lo a1) n (qb_up s (7 - n) false) ∧ r = 0 := q3.elim (fun z => absurd z.2 e) (fun z => z)
        refine qb_needs hc h8 q4 (fun rb l'' a2'' g'' q5 q6 => ?_)
        rcases q6 with q6 | ⟨q6, q7, _⟩
        · rw [q6]
          exact br_f (by decide) (one ((qb_W_mk hm).trans ⟨fun z => z.elim (fun y => absurd y hw.1) (fun y => y), fun z => Or.inr z⟩) l'' a2'' g'' q5)
        · rw [q6]
          exact br_t rfl (fin false g' k' r l'' a2'' g'' q1 (by omega) (Or.inr ⟨q7 hm hw.1, hw.2⟩) q5)
      · have hw : ¬ qb_W (qb_mk m) (qb_S c lo a1) n (qb_up s (7 - n) false) := q3.elim (fun z => absurd (z.2.symm.trans e) (by decide)) (fun z => z.1)
        exact fin false g' k' r l' a2' a3' q1 (by omega) (Or.inr ⟨fun z => hw ((qb_W_br hm).mp z).1, e⟩) q4
      · have hw : qb_W (qb_mk m) (qb_S c lo a1) n (qb_up s (7 - n) false) ∧ r = 1 := q3.elim (fun z => z) (fun z => absurd z.2 e)
        refine qb_needs hc h8 q4 (fun rb l'' a2'' g'' q5 q6 => ?_)
        rcases q6 with q6 | ⟨q6, _, q7⟩
        · rw [q6]
          exact br_f (by decide) (one ((qb_W_br hm).trans ⟨fun z => z.2, fun z => ⟨hw.1, z⟩⟩) l'' a2'' g'' q5)
        · rw [q6]
          exact br_t rfl (fin false g' k' r l'' a2'' g'' q1 (by omega) (Or.inl ⟨q7 hm hw.1, hw.2⟩) q5)
    refine pk_le 2000 k (fun z => absurd z (by omega)) (fun _ => br_f (by decide) (qb_derive hc hn hM (fun l' f hF hl => ?_)))
    rcases hl with ⟨e, hw⟩ | ⟨e, _⟩
    · rw [e]
      exact br_f (by decide) (br_f (by decide) (nm_r (nI_1 k) (H g (k + 1) 0 1 a2 f (by omega) (by omega) (Or.inr ⟨hw, rfl⟩) hM')))
    · rw [e]
      have n8 : ¬ nI (7 - n) = 8 := fun z => absurd ((nI_eq (a := 7 - n) (b := 8) (by omega) (by omega)).mp z) (by omega)
      refine br_t rfl (br_f n8 (qb_first hv (fun hm e1 => ?_) ?_))
      · refine ⟨pk_in (7 - n) 8 hv, nm_r (e' := upd a2 (7 - n) 1) (by rw [hcl]) (nm_r hup (nm_r (nI_1 k) ?_))⟩
        have hiff : qb_W (qb_mk m) (qb_S c lo a1) (n + 1) s ↔ qb_W (qb_mk m) (qb_S c lo a1) n (qb_up s (7 - n) true) :=
          ⟨fun hw => qb_must (T := qb_Ag f) h8 hm (fun t ht => (ht (7 - n) hv).1 e1) hF.2.2 hw, fun z => (qb_W_mk hm).mpr (Or.inr z)⟩
        exact ih (qb_up s (7 - n) true) g (k + 1) x5 0 _ f (by omega) (by omega) (by omega) (by omega) (qb_M_up true h8 hM') (fun fu3 k3 r3 l3 b2 b3 p1 p2 p3 p4 => ret1 hiff fu3 k3 r3 l3 b2 b3 p1 (by omega) p3 p4)
      · refine ⟨pk_in (7 - n) 8 hv, nm_r (e' := upd a2 (7 - n) 0) (by rw [hcl]) (nm_r hup (nm_r (nI_1 k) ?_))⟩
        exact ih (qb_up s (7 - n) false) g (k + 1) x5 0 _ f (by omega) (by omega) (by omega) (by omega) (qb_M_up false h8 hM') ret0
end
section
/-! ===== positions; isWon, won, choice, count, spare, drop, add ===== -/
/-- the values that position q fixes -/
def qb_pre (q : Nat) (u : Nat) : Bool := decide (u < Nat.log2 q) && q.testBit (Nat.log2 q - 1 - u)
/-- position q is won -/
def qb_Won (m : Int32) (c : Nat) (lo : Int32) (a1 : Nat → Int32) (q : Nat) : Prop := qb_W (qb_mk m) (qb_S c lo a1) (8 - Nat.log2 q) (qb_pre q)
theorem qb_lg2 : ∀ q, q < 256 → 1 ≤ q → Nat.log2 (2 * q) = Nat.log2 q + 1 ∧ Nat.log2 (2 * q + 1) = Nat.log2 q + 1 := by decide +kernel
theorem qb_lg8 : ∀ q, q < 256 → 1 ≤ q → Nat.log2 q < 8 := by decide +kernel
theorem qb_pre0 {q : Nat} (h1 : 1 ≤ q) (h2 : q < 256) : qb_pre (2 * q) = qb_up (qb_pre q) (Nat.log2 q) false := by
  funext u
  unfold qb_pre
  rw [(qb_lg2 q h2 h1).1]
  by_cases e : u = Nat.log2 q
  · rw [e, qb_up_s, show Nat.log2 q + 1 - 1 - Nat.log2 q = 0 by omega, Nat.testBit_zero, decide_eq_false (show ¬ 2 * q % 2 = 1 by omega), Bool.and_false]
  · rw [qb_up_n e]
    by_cases l : u < Nat.log2 q
    · rw [decide_eq_true l, decide_eq_true (show u < Nat.log2 q + 1 by omega), show Nat.log2 q + 1 - 1 - u = Nat.log2 q - 1 - u + 1 by omega, Nat.testBit_add_one, show 2 * q / 2 = q by omega]
    · rw [decide_eq_false l, decide_eq_false (show ¬ u < Nat.log2 q + 1 by omega), Bool.false_and, Bool.false_and]
theorem qb_pre1 {q : Nat} (h1 : 1 ≤ q) (h2 : q < 256) : qb_pre (2 * q + 1) = qb_up (qb_pre q) (Nat.log2 q) true := by
  funext u
  unfold qb_pre
  rw [(qb_lg2 q h2 h1).2]
  by_cases e : u = Nat.log2 q
  · rw [e, qb_up_s, show Nat.log2 q + 1 - 1 - Nat.log2 q = 0 by omega, Nat.testBit_zero, decide_eq_true (show (2 * q + 1) % 2 = 1 by omega), decide_eq_true (show Nat.log2 q < Nat.log2 q + 1 by omega), Bool.and_true]
  · rw [qb_up_n e]
    by_cases l : u < Nat.log2 q
    · rw [decide_eq_true l, decide_eq_true (show u < Nat.log2 q + 1 by omega), show Nat.log2 q + 1 - 1 - u = Nat.log2 q - 1 - u + 1 by omega, Nat.testBit_add_one, show (2 * q + 1) / 2 = q by omega]
    · rw [decide_eq_false l, decide_eq_false (show ¬ u < Nat.log2 q + 1 by omega), Bool.false_and, Bool.false_and]
theorem qb_Won_mk {m lo : Int32} {c q : Nat} {a1 : Nat → Int32} (h1 : 1 ≤ q) (h2 : q < 256) (hm : qb_mk m (Nat.log2 q)) : qb_Won m c lo a1 q ↔ (qb_Won m c lo a1 (2 * q) ∨ qb_Won m c lo a1 (2 * q + 1)) := by
  have hl := qb_lg8 q h2 h1
  have e : 7 - (7 - Nat.log2 q) = Nat.log2 q := by omega
  unfold qb_Won
  rw [qb_pre0 h1 h2, qb_pre1 h1 h2, (qb_lg2 q h2 h1).1, (qb_lg2 q h2 h1).2, show 8 - Nat.log2 q = 7 - Nat.log2 q + 1 by omega, show 8 - (Nat.log2 q + 1) = 7 - Nat.log2 q by omega, qb_W_mk (by rw [e]; exact hm), e]
theorem qb_Won_br {m lo : Int32} {c q : Nat} {a1 : Nat → Int32} (h1 : 1 ≤ q) (h2 : q < 256) (hm : ¬ qb_mk m (Nat.log2 q)) : qb_Won m c lo a1 q ↔ (qb_Won m c lo a1 (2 * q) ∧ qb_Won m c lo a1 (2 * q + 1)) := by
  have hl := qb_lg8 q h2 h1
  have e : 7 - (7 - Nat.log2 q) = Nat.log2 q := by omega
  unfold qb_Won
  rw [qb_pre0 h1 h2, qb_pre1 h1 h2, (qb_lg2 q h2 h1).1, (qb_lg2 q h2 h1).2, show 8 - Nat.log2 q = 7 - Nat.log2 q + 1 by omega, show 8 - (Nat.log2 q + 1) = 7 - Nat.log2 q by omega, qb_W_br (by rw [e]; exact hm), e]
/-- fewer clauses, more makers: more is won -/
theorem qb_Won_mono {m m' lo lo' : Int32} {c c' q : Nat} {a1 a1' : Nat → Int32} (hm : ∀ v, v < 8 → qb_mk m v → qb_mk m' v) (hS : ∀ t, qb_S c lo a1 t → qb_S c' lo' a1' t) (h : qb_Won m c lo a1 q) : qb_Won m' c' lo' a1' q :=
  qb_mono hm (8 - Nat.log2 q) (qb_pre q) (qb_pre q) (by omega) (fun _ _ => rfl) (fun t t' h1 h2 h3 hs => by
    have e : t = t' := by
      funext u
      rcases Nat.lt_or_ge u (8 - (8 - Nat.log2 q)) with z | z
      · rw [h1 u z, h2 u z]
      · exact h3 u z
    rw [← e]
    exact hS t hs) h
theorem qb_R_eq {a b : Int32} {p q : Prop} (ha : qb_R a p) (hb : qb_R b q) : a = b ↔ (p ↔ q) := by
  rcases ha with ⟨h1, e1⟩ | ⟨h1, e1⟩ <;> rcases hb with ⟨h2, e2⟩ | ⟨h2, e2⟩ <;> rw [e1, e2]
  · exact ⟨fun _ => ⟨fun _ => h2, fun _ => h1⟩, fun _ => rfl⟩
  · exact ⟨fun z => absurd z (by decide), fun z => absurd (z.mp h1) h2⟩
  · exact ⟨fun z => absurd z (by decide), fun z => absurd (z.mpr h2) h1⟩
  · exact ⟨fun _ => ⟨fun z => absurd z h1, fun z => absurd z h2⟩, fun _ => rfl⟩
theorem qb_R_le {a b : Int32} {p q : Prop} (ha : qb_R a p) (hb : qb_R b q) (h : p → q) : a ≤ b := by
  rcases ha with ⟨h1, e1⟩ | ⟨h1, e1⟩ <;> rcases hb with ⟨h2, e2⟩ | ⟨h2, e2⟩ <;> rw [e1, e2]
  · decide
  · exact absurd (h h1) h2
  · decide
  · decide
theorem qb_R_nlt {a b : Int32} {p q : Prop} (ha : qb_R a p) (hb : qb_R b q) (h : p → q) : ¬ b < a := by
  rcases ha with ⟨h1, e1⟩ | ⟨h1, e1⟩ <;> rcases hb with ⟨h2, e2⟩ | ⟨h2, e2⟩ <;> rw [e1, e2]
  · decide
  · exact absurd (h h1) h2
  · decide
  · decide
theorem qb_R_1 {a : Int32} {p : Prop} (ha : qb_R a p) : a ≤ 1 := by
  rcases ha with ⟨h1, e1⟩ | ⟨h1, e1⟩ <;> rw [e1] <;> decide
/-- the bit that isWon stores -/
theorem qb_bit {q i : Nat} (h2 : q < 512) (hi : i < Nat.log2 q) (hl : Nat.log2 q < 9) : ((nI q).toUInt32 >>> (((nI (Nat.log2 q) - 1) - nI i).toUInt32 &&& Int32.toUInt32 31)).toInt32 &&& 1 = qb_v (qb_pre q i) := by
  have e : (nI (Nat.log2 q) - 1) - nI i = nI (Nat.log2 q - 1 - i) := by
    rw [show (1 : Int32) = nI 1 from rfl, pk_sub (by omega), pk_sub (by omega)]
  have hd : q / 2 ^ (Nat.log2 q - 1 - i) ≤ q := Nat.div_le_self _ _
  rw [e, pk_ushrN (by omega) (nI (Nat.log2 q - 1 - i)) (Nat.log2 q - 1 - i) (qb_s_u _ (by omega)), pk_andN (by omega) 1 (by decide)]
  unfold qb_pre
  rw [decide_eq_true hi, Bool.true_and, Nat.testBit_eq_decide_div_mod_eq]
  generalize q / 2 ^ (Nat.log2 q - 1 - i) = w
  rw [show w % 2 ^ 1 = w % 2 from rfl]
  rcases Nat.mod_two_eq_zero_or_one w with z | z <;> rw [z] <;> decide
section
variable {m lo l : Int32} {c : Nat} {a1 a2 a3 : Nat → Int32}
theorem qb_isWon {post : Int32 → St1 → Prop} {p : Int32} {q : Nat} (hp : p = nI q) (hc : c ≤ 20) (h1 : 1 ≤ q) (h2 : q < 512)
    (h : ∀ (r l' : Int32) (a2' a3' : Nat → Int32), qb_R r (qb_Won m c lo a1 q) → post r (m, nI c, lo, l', a1, a2', a3')) : wpX_isWon post (m, nI c, lo, l, a1, a2, a3) p := by
  subst hp
  have hl := qb_lg h1 h2
  unfold wpX_isWon
  dsimp only
  refine qb_lengthOf h1 h2 ?_
  refine pk_loop (fun fu i f => wX_isWon_7 post (nI q) (nI (Nat.log2 q)) m (nI c) lo l fu (nI i) a1 f a3) (fun i f => ∀ v, v < i → f v = if v < Nat.log2 q then qb_v (qb_pre q v) else -1) 8 0 a2 (by omega) (fun v hv => absurd hv (by omega)) ?_ ?_
  · intro fu f hf
    refine pk_le 8 8 (fun _ => ⟨2001, ?_⟩) (fun y => absurd y (by omega))
    have hE := qb_E_le (8 - Nat.log2 q) (by omega)
    have hM : qb_M (8 - (8 - Nat.log2 q)) (qb_pre q) f := by
      rw [show 8 - (8 - Nat.log2 q) = Nat.log2 q by omega]
      exact ⟨fun v hv => by rw [hf v (by omega), if_pos hv], fun v hv h8 => by rw [hf v h8, if_neg (by omega)]⟩
    have key := qb_w54 (post := post) (m := m) (lo := lo) (c := c) (st := Nat.log2 q) (a1 := a1) hc (8 - Nat.log2 q) (qb_pre q) 2001 0 0 l f a3 (by omega) (by omega) (by omega) (by omega) hM
    rw [show 8 - (8 - Nat.log2 q) = Nat.log2 q by omega] at key
    refine key (fun fu' k' r l' a2' a3' q1 q2 q3 _ => ?_)
    obtain ⟨g', rfl⟩ : ∃ g', fu' = g' + 1 := ⟨fu' - 1, by omega⟩
    have hn : narrow .boolean (.int r) = .int r := by
      rcases q3 with ⟨_, e⟩ | ⟨_, e⟩ <;> rw [e]
      · exact qb_nar1.1
      · exact qb_nar0.1
    exact pk_le 2000 k' (fun z => absurd z (by omega)) (fun _ => br_t rfl (br_t rfl ⟨hn, h r l' a2' a3' q3⟩))
  · intro fu i f hi hf hw
    refine pk_le 8 i (fun y => absurd y (by omega)) (fun _ => pk_le (Nat.log2 q) i (fun z => ⟨pk_in i 8 hi, nm_e (nm_r (nI_1 i) (hw _ ?_))⟩) (fun z => ⟨pk_in i 8 hi, nm_e (nm_r (nI_1 i) (hw _ ?_))⟩))
    · exact qb_fill (f := fun v => if v < Nat.log2 q then qb_v (qb_pre q v) else -1) (nI_clamp (by omega)) hf (by rw [if_neg (by omega)])
    · exact qb_fill (f := fun v => if v < Nat.log2 q then qb_v (qb_pre q v) else -1) (nI_clamp (by omega)) hf (by rw [if_pos z]; exact qb_bit h2 z hl)
theorem qb_won {post : Int32 → St1 → Prop} {p : Int32} {q : Nat} (hp : p = nI q) (hc : c ≤ 20) (h1 : 1 ≤ q) (h2 : q < 512)
    (h : ∀ (r l' : Int32) (a2' a3' : Nat → Int32), qb_R r (qb_Won m c lo a1 q) → post r (m, nI c, lo, l', a1, a2', a3')) : wpX_won post (m, nI c, lo, l, a1, a2, a3) p := by
  subst hp
  refine pk_lt q 1 (fun z => absurd z (by omega)) (fun _ => pk_le q 511 (fun _ => qb_isWon rfl hc h1 h2 (fun r l' a2' a3' hr => ?_)) (fun z => absurd z (by omega)))
  rcases hr with ⟨h3, e⟩ | ⟨h3, e⟩ <;> rw [e]
  · exact br_f (by decide) (h 1 l' a2' a3' (Or.inl ⟨h3, rfl⟩))
  · exact br_t rfl (h 0 l' a2' a3' (Or.inr ⟨h3, rfl⟩))
theorem qb_ch25 {post : Int32 → St1 → Prop} {b : Int32} {B : Prop} {q : Nat} (hc : c ≤ 20) (h1 : 1 ≤ q) (h2 : q < 256) (hb : qb_R b B)
    (h : ∀ (r l' : Int32) (a2' a3' : Nat → Int32), ((r = 0 ∧ (qb_Won m c lo a1 (2 * q) ↔ B)) ∨ (r = 1 ∧ ¬ (qb_Won m c lo a1 (2 * q) ↔ B) ∧ (qb_Won m c lo a1 (2 * q + 1) ↔ B)) ∨ (r = 2 ∧ ¬ (qb_Won m c lo a1 (2 * q) ↔ B) ∧ ¬ (qb_Won m c lo a1 (2 * q + 1) ↔ B))) → post r (m, nI c, lo, l', a1, a2', a3')) :
    ∃ fu, wX_choice_25 post (nI q) b fu 0 m (nI c) lo l a1 a2 a3 := by
  have e0 : (2 * nI q) + 0 = nI (2 * q) := by
    rw [Int32.add_zero, show (2 : Int32) = nI 2 from rfl, pk_mul]
  have e1 : (2 * nI q) + 1 = nI (2 * q + 1) := by
    rw [show (2 : Int32) = nI 2 from rfl, pk_mul, nI_1]
  refine ⟨3, br_f (by decide) (qb_isWon e0 hc (by omega) (by omega) (fun r l' a2' a3' hr => ek_if (qb_R_eq hr hb) (fun z => h 0 l' a2' a3' (Or.inl ⟨rfl, z⟩)) (fun z => nm_r (e' := 1) (by decide) ?_)))⟩
  refine br_f (by decide) (qb_isWon e1 hc (by omega) (by omega) (fun r l' a2' a3' hr => ek_if (qb_R_eq hr hb) (fun y => h 1 l' a2' a3' (Or.inr (Or.inl ⟨rfl, z, y⟩))) (fun y => nm_r (e' := 2) (by decide) ?_)))
  exact br_t (by decide) (h 2 l' a2' a3' (Or.inr (Or.inr ⟨rfl, z, y⟩)))
theorem qb_choice {post : Int32 → St1 → Prop} {q : Nat} (hc : c ≤ 20) (h1 : 1 ≤ q) (h2 : q < 256)
    (h : ∀ (r l' : Int32) (a2' a3' : Nat → Int32), ((r = 0 ∧ (qb_Won m c lo a1 (2 * q) ↔ qb_mk m (Nat.log2 q))) ∨ (r = 1 ∧ ¬ (qb_Won m c lo a1 (2 * q) ↔ qb_mk m (Nat.log2 q)) ∧ (qb_Won m c lo a1 (2 * q + 1) ↔ qb_mk m (Nat.log2 q))) ∨ (r = 2 ∧ ¬ (qb_Won m c lo a1 (2 * q) ↔ qb_mk m (Nat.log2 q)) ∧ ¬ (qb_Won m c lo a1 (2 * q + 1) ↔ qb_mk m (Nat.log2 q)))) → post r (m, nI c, lo, l', a1, a2', a3')) :
    wpX_choice post (m, nI c, lo, l, a1, a2, a3) (nI q) :=
  pk_lt q 1 (fun z => absurd z (by omega)) (fun _ => pk_le q 255 (fun _ => qb_lengthOf h1 (by omega) (qb_isMakers (fun hm => qb_ch25 hc h1 h2 (Or.inl ⟨hm, rfl⟩) h) (fun hm => qb_ch25 hc h1 h2 (Or.inr ⟨hm, rfl⟩) h))) (fun z => absurd z (by omega)))
theorem qb_count {post : Int32 → St1 → Prop} (hc : c ≤ 20)
    (h : ∀ (r l' : Int32) (a2' a3' : Nat → Int32), qb_R r (qb_Won m c lo a1 1) → post r (m, nI c, lo, l', a1, a2', a3')) : wpX_count post (m, nI c, lo, l, a1, a2, a3) 0 := by
  refine br_f (by decide) (br_t (by decide) (nm_r (e' := nI 1) (by decide) ⟨2, br_f (by decide) (qb_isWon rfl hc (by omega) (by omega) (fun r l' a2' a3' hr => ?_))⟩))
  rcases hr with ⟨h3, e⟩ | ⟨h3, e⟩ <;> rw [e]
  · exact br_f (by decide) (nm_r (e' := 1) (by decide) (nm_r (e' := 2) (by decide) (br_t (by decide) (h 1 l' a2' a3' (Or.inl ⟨h3, rfl⟩)))))
  · exact br_t rfl (nm_r (e' := 0) (by decide) (nm_r (e' := 2) (by decide) (br_t (by decide) (h 0 l' a2' a3' (Or.inr ⟨h3, rfl⟩)))))
theorem qb_spare {post : Int32 → St1 → Prop} {p : Int32} {j : Nat} (hp : p = nI j) (hj : j < c) (hc : c ≤ 20)
    (h : ∀ (r l' : Int32) (a2' a3' : Nat → Int32), qb_R r (qb_Won m c (nI j) a1 1) → post r (m, nI c, -1, l', a1, a2', a3')) : wpX_spare post (m, nI c, lo, l, a1, a2, a3) p := by
  subst hp
  refine br_f (nI_pos (by omega)) (pk_lt j c (fun _ => qb_isWon (q := 1) rfl hc (by omega) (by omega) (fun r l' a2' a3' hr => ?_)) (fun z => absurd z (by omega)))
  rcases hr with ⟨h3, e⟩ | ⟨h3, e⟩ <;> rw [e]
  · exact br_f (by decide) (h 1 l' a2' a3' (Or.inl ⟨h3, rfl⟩))
  · exact br_t rfl (h 0 l' a2' a3' (Or.inr ⟨h3, rfl⟩))
theorem qb_drop {post : Int32 → St1 → Prop} {p : Int32} {j : Nat} (hp : p = nI j) (hj : j < c) (hc : c ≤ 20)
    (h : ∀ a1' : Nat → Int32, (∀ k, k < c - 1 → a1' k = a1 k ∨ a1' k = a1 (k + 1)) → post (nI (c - 1)) (m, nI (c - 1), lo, l, a1', a2, a3)) : wpX_drop post (m, nI c, lo, l, a1, a2, a3) p := by
  subst hp
  have e : nI c - 1 = nI (c - 1) := by
    rw [show (1 : Int32) = nI 1 from rfl, pk_sub (by omega)]
  refine br_f (nI_pos (by omega)) (pk_lt j c (fun _ => nm_r e ?_) (fun z => absurd z (by omega)))
  refine pk_loop (fun fu i f => wX_drop_26 post m (nI (c - 1)) lo l fu (nI i) f a2 a3) (fun i f => (∀ k, k < i → f k = a1 k ∨ f k = a1 (k + 1)) ∧ ∀ k, i ≤ k → f k = a1 k) (c - 1) j a1 (by omega) ⟨fun k _ => Or.inl rfl, fun k _ => rfl⟩ ?_ ?_
  · intro fu f hf
    exact pk_le (c - 1) (c - 1) (fun _ => h f hf.1) (fun z => absurd z (by omega))
  · intro fu i f hi hf hw
    refine pk_le (c - 1) i (fun z => absurd z (by omega)) (fun _ => ⟨pk_in (i + 1) 20 (by omega) (nI_1 i), pk_in i 20 (by omega), nm_r (e' := upd f i (f (i + 1))) (by rw [nI_1, nI_clamp (by omega), nI_clamp (by omega)]) (nm_r (nI_1 i) (hw _ ⟨fun k hk => ?_, fun k hk => ?_⟩))⟩)
    · by_cases ek : k = i
      · rw [ek, pk_us, hf.2 (i + 1) (by omega)]
        exact Or.inr rfl
      · rw [pk_un ek]
        exact hf.1 k (by omega)
    · rw [pk_un (show k ≠ i by omega)]
      exact hf.2 k (by omega)
theorem qb_add {post : Int32 → St1 → Prop} {p : Int32} (hc : c ≤ 20) (h1 : c < 20 → post (nI (c + 1)) (m, nI (c + 1), lo, l, upd a1 c (p &&& 65535), a2, a3)) (h2 : post (-1) (m, nI c, lo, l, a1, a2, a3)) : wpX_add post (m, nI c, lo, l, a1, a2, a3) p :=
  pk_lt c 20 (fun z => ⟨pk_in c 20 z, nm_r (e' := upd a1 c (p &&& 65535)) (by rw [nI_clamp (by omega)]) (nm_r (nI_1 c) (h1 z))⟩) (fun _ => h2)
end
end
section
/-! ===== the law ===== -/
theorem qb_length {post : Int32 → Prop} {q : Nat} (h1 : 1 ≤ q) (h2 : q < 256) (h : post (nI (Nat.log2 q))) : wpL_length post () (nI q) := by
  have hl := qb_lg8 q h2 h1
  have sh : ∀ i, i < 8 → (2 : Int32) <<< (nI i &&& 31) = nI (2 ^ (i + 1)) := by decide +kernel
  have pw : ∀ i, i < 8 → 2 ^ (i + 1) < 2 ^ 31 := fun i hi => Nat.lt_of_le_of_lt (Nat.pow_le_pow_right (by decide) (show i + 1 ≤ 8 by omega)) (by decide)
  refine pk_loop (σ := Unit) (fun fu i _ => wL_length_2 post (nI q) fu (nI i)) (fun _ _ => True) (Nat.log2 q) 0 () (by omega) trivial ?_ ?_
  · intro fu _ _
    refine pk_le 8 (Nat.log2 q) (fun z => absurd z (by omega)) (fun _ => br_t ?_ h)
    rw [sh _ hl]
    exact nI_lt ((Nat.log2_lt (by omega)).mp (by omega)) (pw _ hl)
  · intro fu i _ hi _ hw
    refine pk_le 8 i (fun z => absurd z (by omega)) (fun _ => br_f ?_ (nm_r (nI_1 i) (hw () trivial)))
    rw [sh i (by omega)]
    refine nI_nlt (Nat.le_of_not_lt (fun z => ?_)) (by omega)
    have := (Nat.log2_lt (show q ≠ 0 by omega)).mpr z
    omega
theorem qb_m1 {k : Nat} (h : k < 20) : ¬ nI k = -1 := by
  intro e
  have := nI_pos (show k < 2 ^ 31 by omega)
  rw [e] at this
  exact this (by decide)
theorem qb_S_spare {c : Nat} {x : Int32} {a1 : Nat → Int32} (hc : c ≤ 20) (t : Nat → Bool) (h : qb_S c (-1) a1 t) : qb_S c x a1 t := fun k hk _ => h k hk (qb_m1 (by omega))
theorem qb_S_drop {c : Nat} {a1 a1' : Nat → Int32} (hc : c ≤ 20) (ha : ∀ k, k < c - 1 → a1' k = a1 k ∨ a1' k = a1 (k + 1)) (t : Nat → Bool) (h : qb_S c (-1) a1 t) : qb_S (c - 1) (-1) a1' t := by
  intro k hk _
  rcases ha k hk with e | e <;> rw [e]
  · exact h k (by omega) (qb_m1 (by omega))
  · exact h (k + 1) (by omega) (qb_m1 (by omega))
theorem qb_S_add {c : Nat} {x : Int32} {a1 : Nat → Int32} (t : Nat → Bool) (h : qb_S (c + 1) (-1) (upd a1 c x) t) : qb_S c (-1) a1 t := by
  intro k hk hl
  have := h k (by omega) hl
  rw [pk_un (show k ≠ c by omega)] at this
  exact this
section
variable {L : Nat} {xs : Nat → Int32} {J : Int32 → Int32 → Int32 → Int32 → Int32 → Int32 → Int32 → (Nat → Int32) → (Nat → Int32) → (Nat → Int32) → Prop} {x4 x6 : Int32} {kc ks : Nat} {m l : Int32} {c q : Nat} {a1 a2 a3 : Nat → Int32}
theorem qb_lchoice {post : Int32 → St1 → Prop} {p2 : Int32} (hc : c ≤ 20) (h1 : 1 ≤ q) (h2 : q < 256) (hm : qb_R p2 (qb_mk m (Nat.log2 q)))
    (h : ∀ (l' : Int32) (a2' a3' : Nat → Int32), post 1 (m, nI c, -1, l', a1, a2', a3')) : wpL_choice post (m, nI c, -1, l, a1, a2, a3) (nI q) p2 := by
  have e0 : 2 * nI q = nI (2 * q) := by
    rw [show (2 : Int32) = nI 2 from rfl, pk_mul]
  have e1 : (2 * nI q) + 1 = nI (2 * q + 1) := by
    rw [show (2 : Int32) = nI 2 from rfl, pk_mul, nI_1]
  unfold wpL_choice
  dsimp only
  refine qb_won rfl hc h1 (by omega) (fun r _ _ _ hr => qb_choice hc h1 h2 (fun ch _ _ _ hch => qb_won e0 hc (by omega) (by omega) (fun z _ _ _ hz => qb_won e1 hc (by omega) (by omega) (fun o l' a2' a3' ho => ?_))))
  have H := h l' a2' a3'
  rcases hm with ⟨hm, rfl⟩ | ⟨hm, rfl⟩
  · have hW := qb_Won_mk (m := m) (lo := -1) (c := c) (a1 := a1) h1 h2 hm
    rcases hz with ⟨hA, rfl⟩ | ⟨hA, rfl⟩
    · have hr1 : r = 1 := hr.elim (fun y => y.2) (fun y => absurd (hW.mpr (Or.inl hA)) y.1)
      have hc1 : ch = 0 := hch.elim (fun y => y.1) (fun y => y.elim (fun y => absurd ⟨fun _ => hm, fun _ => hA⟩ y.2.1) (fun y => absurd ⟨fun _ => hm, fun _ => hA⟩ y.2.1))
      rw [hr1, hc1]
      exact br_f (by decide) (br_t rfl (br_t rfl (br_t rfl (br_f (by decide) (br_t rfl H)))))
    · rcases ho with ⟨hB, rfl⟩ | ⟨hB, rfl⟩
      · have hr1 : r = 1 := hr.elim (fun y => y.2) (fun y => absurd (hW.mpr (Or.inr hB)) y.1)
        have hc1 : ch = 1 := hch.elim (fun y => absurd (y.2.mpr hm) hA) (fun y => y.elim (fun y => y.1) (fun y => absurd ⟨fun _ => hm, fun _ => hB⟩ y.2.2))
        rw [hr1, hc1]
        exact br_f (by decide) (br_f (by decide) (br_t rfl (br_t rfl (br_t rfl (br_f (by decide) (br_t rfl H))))))
      · have hr1 : r = 0 := hr.elim (fun y => absurd (hW.mp y.1) (fun w => w.elim hA hB)) (fun y => y.2)
        have hc1 : ch = 2 := hch.elim (fun y => absurd (y.2.mpr hm) hA) (fun y => y.elim (fun y => absurd (y.2.2.mpr hm) hB) (fun y => y.1))
        rw [hr1, hc1]
        exact br_f (by decide) (br_f (by decide) (br_f (by decide) (br_t rfl (br_f (by decide) (br_t (by decide) (br_t rfl H))))))
  · have hW := qb_Won_br (m := m) (lo := -1) (c := c) (a1 := a1) h1 h2 hm
    rcases hz with ⟨hA, rfl⟩ | ⟨hA, rfl⟩
    · rcases ho with ⟨hB, rfl⟩ | ⟨hB, rfl⟩
      · have hr1 : r = 1 := hr.elim (fun y => y.2) (fun y => absurd (hW.mpr ⟨hA, hB⟩) y.1)
        have hc1 : ch = 2 := hch.elim (fun y => absurd (y.2.mp hA) hm) (fun y => y.elim (fun y => absurd (y.2.2.mp hB) hm) (fun y => y.1))
        rw [hr1, hc1]
        exact br_t rfl (br_f (by decide) (br_f (by decide) (br_t rfl (br_f (by decide) (br_t (by decide) (br_t rfl H))))))
      · have hr1 : r = 0 := hr.elim (fun y => absurd (hW.mp y.1).2 hB) (fun y => y.2)
        have hc1 : ch = 1 := hch.elim (fun y => absurd (y.2.mp hA) hm) (fun y => y.elim (fun y => y.1) (fun y => absurd ⟨fun w => absurd w hB, fun w => absurd w hm⟩ y.2.2))
        rw [hr1, hc1]
        exact br_t rfl (br_f (by decide) (br_t rfl (br_t rfl (br_t rfl (br_f (by decide) (br_t rfl H))))))
    · have hr1 : r = 0 := hr.elim (fun y => absurd (hW.mp y.1).1 hA) (fun y => y.2)
      have hc1 : ch = 0 := hch.elim (fun y => y.1) (fun y => y.elim (fun y => absurd ⟨fun w => absurd w hA, fun w => absurd w hm⟩ y.2.1) (fun y => absurd ⟨fun w => absurd w hA, fun w => absurd w hm⟩ y.2.1))
      rw [hr1, hc1]
      exact br_t rfl (br_t rfl (br_t rfl (br_t rfl (br_f (by decide) (br_t rfl H)))))
theorem qb_l398 {z0 : Int32} (hc : c ≤ 20) (hJ : ∀ (l' : Int32) (a2' a3' : Nat → Int32), J (nI c) m (x4 + 3) m (nI c) (-1) l' a1 a2' a3') (hz : 0 < c → ∃ x, qb_R z0 (qb_Won m c x a1 1)) :
    wL_law_398 (fun r => r = 1) L xs J (nI c) m x4 z0 kc ks m (nI c) (-1) l a1 a2 a3 := by
  refine pk_le c 0 (fun _ => nm_e (hJ l a2 a3)) (fun z => ?_)
  obtain ⟨x, hx⟩ := hz z
  exact qb_won (q := 1) rfl hc (by omega) (by omega) (fun r l' a2' a3' hr => br_f (qb_R_nlt hr hx (qb_Won_mono (fun _ _ w => w) (qb_S_spare hc))) (br_t (qb_R_1 hx) (nm_e (hJ l' a2' a3'))))
theorem qb_l350 {z0 : Int32} (hc : c ≤ 20) (h1 : 1 ≤ q) (h2 : q < 256) (hm : qb_R z0 (qb_mk m (Nat.log2 q))) (hJ : ∀ (l' : Int32) (a2' a3' : Nat → Int32), J (nI c) m (x4 + 3) m (nI c) (-1) l' a1 a2' a3') :
    wL_law_350 (fun r => r = 1) L xs J (nI c) m x4 x6 (nI q) z0 kc ks m (nI c) (-1) l a1 a2 a3 := by
  refine qb_lchoice hc h1 h2 hm (fun l1 b2 b3 => br_f (by decide) (qb_count hc (fun r1 _ _ _ hr1 => qb_won (q := 1) rfl hc (by omega) (by omega) (fun r2 _ _ _ hr2 => br_t ((qb_R_eq hr1 hr2).mpr Iff.rfl) ?_))))
  refine pk_eq c 0 (fun z => qb_l398 hc hJ (fun w => absurd w (by omega))) (fun z => ⟨nI_ne0 (by omega) (by omega), ?_⟩)
  obtain ⟨j, hj, e⟩ := pk_andE x6 (m := 255) 8 (by decide)
  have hlt : j % c < c := Nat.mod_lt _ (by omega)
  refine qb_spare (j := j % c) (by rw [e, pk_rem (by omega) (by omega) (by omega)]) hlt hc (fun r3 _ _ _ hr3 => qb_l398 hc hJ (fun _ => ⟨_, hr3⟩))
theorem qb_l328 (hc : c ≤ 20) (h1 : 1 ≤ q) (h2 : q < 256) (hJ : ∀ (l' : Int32) (a2' a3' : Nat → Int32), J (nI c) m (x4 + 3) m (nI c) (-1) l' a1 a2' a3') :
    wL_law_328 (fun r => r = 1) L xs J (nI c) m x4 x6 (nI q) kc ks m (nI c) (-1) l a1 a2 a3 :=
  qb_length h1 h2 (ek_if (qb_mk_sshr (qb_lg8 q h2 h1)) (fun z => qb_l350 hc h1 h2 (Or.inl ⟨z, rfl⟩) hJ) (fun z => qb_l350 hc h1 h2 (Or.inr ⟨z, rfl⟩) hJ))
theorem qb_l262 {m0 x8 x9 x11 x12 : Int32} (hc : c ≤ 20) (h1 : 1 ≤ q) (h2 : q < 256) (hJ : ∀ (l' : Int32) (a2' a3' : Nat → Int32), J (nI c) m (x4 + 3) m (nI c) (-1) l' a1 a2' a3')
    (h8 : qb_R x8 (qb_Won m0 c (-1) a1 1)) (h9 : qb_R x9 (qb_Won m0 c (-1) a1 q)) (hm : ¬ x11 = 0 → ∀ v, v < 8 → qb_mk m0 v → qb_mk m v) :
    wL_law_262 (fun r => r = 1) L xs J (nI c) x4 x6 (nI q) x8 x9 x11 x12 m kc ks m (nI c) (-1) l a1 a2 a3 :=
  br_c (fun _ => qb_l328 hc h1 h2 hJ) (fun z => br_c (fun _ => qb_won (q := 1) rfl hc (by omega) (by omega) (fun r1 _ _ _ hr1 => br_f (qb_R_nlt h8 hr1 (qb_Won_mono (hm z) (fun _ w => w)))
    (qb_won rfl hc h1 (by omega) (fun r2 _ _ _ hr2 => br_t (qb_R_le h9 hr2 (qb_Won_mono (hm z) (fun _ w => w))) (qb_l328 hc h1 h2 hJ))))) (fun _ => qb_l328 hc h1 h2 hJ))
theorem qb_l230 {x8 x9 x10 x11 z0 : Int32} (hc : c ≤ 20) (h1 : 1 ≤ q) (h2 : q < 256) (hJ : ∀ (m' l' : Int32) (a2' a3' : Nat → Int32), J (nI c) m' (x4 + 3) m' (nI c) (-1) l' a1 a2' a3')
    (h8 : qb_R x8 (qb_Won m c (-1) a1 1)) (h9 : qb_R x9 (qb_Won m c (-1) a1 q)) (hx : x10 &&& 7 = x10) :
    wL_law_230 (fun r => r = 1) L xs J (nI c) m x4 x6 (nI q) x8 x9 x10 x11 z0 kc ks m (nI c) (-1) l a1 a2 a3 := by
  refine nm_r (e' := (1 : Int32) <<< (x10 &&& 31)) (by rw [hx]) (br_c (fun z => nm_e (br_t z (qb_l262 hc h1 h2 (hJ _) h8 h9 (fun w => absurd z w)))) (fun z => nm_e (br_f z (qb_l262 hc h1 h2 (hJ _) h8 h9 (fun _ v hv => qb_mk_or hv)))))
theorem qb_l213 {x8 x9 x10 z0 : Int32} (hc : c ≤ 20) (h1 : 1 ≤ q) (h2 : q < 256) (hJ : ∀ (m' l' : Int32) (a2' a3' : Nat → Int32), J (nI c) m' (x4 + 3) m' (nI c) (-1) l' a1 a2' a3')
    (h8 : qb_R x8 (qb_Won m c (-1) a1 1)) (h9 : qb_R x9 (qb_Won m c (-1) a1 q)) (hx : x10 &&& 7 = x10) :
    wL_law_213 (fun r => r = 1) L xs J (nI c) m x4 x6 (nI q) x8 x9 x10 z0 kc ks m (nI c) (-1) l a1 a2 a3 :=
  br_c (fun _ => qb_l230 hc h1 h2 hJ h8 h9 hx) (fun _ => qb_l230 hc h1 h2 hJ h8 h9 hx)
theorem qb_l159 {x8 x9 : Int32} {c0 : Nat} {b1 : Nat → Int32} (hc : c ≤ 20) (h1 : 1 ≤ q) (h2 : q < 256) (hJ : ∀ (l' : Int32) (a2' a3' : Nat → Int32), J (nI c) m (x4 + 3) m (nI c) (-1) l' a1 a2' a3')
    (h8 : qb_R x8 (qb_Won m c0 (-1) b1 1)) (h9 : qb_R x9 (qb_Won m c0 (-1) b1 q)) (hS : ∀ t, qb_S c (-1) a1 t → qb_S c0 (-1) b1 t) :
    wL_law_159 (fun r => r = 1) L xs J m x4 x6 (nI q) x8 x9 (nI c) kc ks m (nI c) (-1) l a1 a2 a3 :=
  qb_won (q := 1) rfl hc (by omega) (by omega) (fun r1 _ _ _ hr1 => br_f (qb_R_nlt hr1 h8 (qb_Won_mono (fun _ _ w => w) hS))
    (qb_won rfl hc h1 (by omega) (fun r2 _ _ _ hr2 => br_t (qb_R_le hr2 h9 (qb_Won_mono (fun _ _ w => w) hS)) (qb_l328 hc h1 h2 hJ))))
theorem qb_l137 {x8 x9 z0 z1 : Int32} (hc : c ≤ 20) (h1 : 1 ≤ q) (h2 : q < 256) (hJ : ∀ (c' : Nat) (m' l' : Int32) (a1' a2' a3' : Nat → Int32), c' ≤ 20 → J (nI c') m' (x4 + 3) m' (nI c') (-1) l' a1' a2' a3')
    (h8 : qb_R x8 (qb_Won m c (-1) a1 1)) (h9 : qb_R x9 (qb_Won m c (-1) a1 q)) :
    wL_law_137 (fun r => r = 1) L xs J (nI c) m x4 x6 (nI q) x8 x9 z0 z1 kc ks m (nI c) (-1) l a1 a2 a3 :=
  nm_e (qb_add hc (fun z => br_f (nI_pos (by omega)) (qb_l159 (by omega) h1 h2 (fun l' a2' a3' => hJ _ _ _ _ _ _ (by omega)) h8 h9 qb_S_add))
    (br_t (by decide) (qb_l159 hc h1 h2 (fun l' a2' a3' => hJ _ _ _ _ _ _ hc) h8 h9 (fun _ w => w))))
theorem qb_l73 {x5 : Int32} (hc : c ≤ 20) (h1 : 1 ≤ q) (h2 : q < 256) (hJ : ∀ (c' : Nat) (m' l' : Int32) (a1' a2' a3' : Nat → Int32), c' ≤ 20 → J (nI c') m' (x4 + 3) m' (nI c') (-1) l' a1' a2' a3') :
    wL_law_73 (fun r => r = 1) L xs J (nI c) m x4 x5 x6 (nI q) kc ks m (nI c) (-1) l a1 a2 a3 := by
  refine qb_won (q := 1) rfl hc (by omega) (by omega) (fun r1 _ _ _ h8 => qb_won rfl hc h1 (by omega) (fun r2 l' a2' a3' h9 => br_c (fun _ => br_c (fun _ => ?_) (fun _ => ?_)) (fun _ => ?_)))
  · refine pk_le c 0 (fun _ => qb_l328 hc h1 h2 (fun l' a2' a3' => hJ _ _ _ _ _ _ hc)) (fun z => ⟨nI_ne0 (by omega) (by omega), ?_⟩)
    obtain ⟨j, hj, e⟩ := pk_andE x6 (m := 255) 8 (by decide)
    have hlt : j % c < c := Nat.mod_lt _ (by omega)
    refine qb_drop (j := j % c) (by rw [e, pk_rem (by omega) (by omega) (by omega)]) hlt hc (fun a1' ha => ?_)
    exact qb_won (q := 1) rfl (by omega) (by omega) (by omega) (fun r3 _ _ _ h3 => br_t (qb_R_le h8 h3 (qb_Won_mono (fun _ _ w => w) (qb_S_drop hc ha))) (qb_l328 (by omega) h1 h2 (fun l' a2' a3' => hJ _ _ _ _ _ _ (by omega))))
  · have hx : (x6 &&& 7) &&& 7 = x6 &&& 7 := by
      rw [Int32.and_assoc, show (7 : Int32) &&& 7 = 7 from by decide]
    exact nm_e (br_c (fun _ => qb_l213 hc h1 h2 (fun m' l' a2' a3' => hJ _ _ _ _ _ _ hc) h8 h9 hx) (fun _ => qb_l213 hc h1 h2 (fun m' l' a2' a3' => hJ _ _ _ _ _ _ hc) h8 h9 hx))
  · exact br_c (fun _ => qb_l137 hc h1 h2 hJ h8 h9) (fun _ => qb_l137 hc h1 h2 hJ h8 h9)
end
theorem qb_l17 (xs : Nat → Int32) (L : Nat) (hL : L ≤ 260) (kc ks : Nat) : ∀ (fu i c : Nat) (m l : Int32) (a1 a2 a3 : Nat → Int32), c ≤ 20 → i ≤ L → L < i + fu → wL_law_17 (fun r => r = 1) L xs kc ks fu (nI c) m (nI i) m (nI c) (-1) l a1 a2 a3 := by
  intro fu
  induction fu with
  | zero => exact fun i c m l a1 a2 a3 _ h1 h2 => absurd h2 (by omega)
  | succ fu ih =>
    intro i c m l a1 a2 a3 hc hi hf
    have e3 : nI i + 3 = nI (i + 3) := nI_add i 3
    refine pk_lt L (i + 3) (fun _ => rfl) (fun z => ⟨pk_in i L (by omega), nm_e ⟨pk_in (i + 1) L (by omega) (nI_1 i), nm_e ⟨pk_in (i + 2) L (by omega) (nI_add i 2), ?_⟩⟩⟩) rfl e3
    have hJ : ∀ (c' : Nat) (m' l' : Int32) (a1' a2' a3' : Nat → Int32), c' ≤ 20 → wL_law_17 (fun r => r = 1) L xs kc ks fu (nI c') m' (nI i + 3) m' (nI c') (-1) l' a1' a2' a3' := by
      intro c' m' l' a1' a2' a3' hc'
      rw [e3]
      exact ih (i + 3) c' m' l' a1' a2' a3' hc' (by omega) (by omega)
    obtain ⟨j, hj, e⟩ := pk_andE (xs (nI i + 2).toNatClampNeg) (m := 255) 8 (by decide)
    refine nm_r (e' := nI (j + 1)) (by rw [e, show (1 : Int32) = nI 1 from rfl, nI_add, Nat.add_comm]) ?_
    exact pk_le (j + 1) 255 (fun w => qb_l73 hc (by omega) (by omega) hJ) (fun w => qb_l73 (q := 255) hc (by omega) (by omega) hJ)
theorem i_vc (xs : Nat → Int32) (L : Nat) (hL : L ≤ 260) : wpL_law (fun r => r = 1) L xs :=
  ⟨3, 36, by omega, by omega, by omega, by omega, by omega, by omega, by omega, by omega, ⟨L + 1, qb_l17 xs L hL _ _ (L + 1) 0 0 255 0 _ _ _ (by omega) (by omega) (by omega)⟩⟩
end
