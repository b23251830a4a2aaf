section
/-! rows of kit/rows/PURE-ROWS (starting text), and a few of our own -/
theorem pk_us {f : Nat → Int32} {k : Nat} {x : Int32} : upd f k x k = x := if_pos rfl
theorem pk_un {f : Nat → Int32} {k j : Nat} {x : Int32} (h : j ≠ k) : upd f k x j = f j := if_neg h
theorem pk_sub {a b : Nat} (h : b ≤ a) : nI a - nI b = nI (a - b) := by
  obtain ⟨c, rfl⟩ : ∃ c, a = c + b := ⟨a - b, by omega⟩
  rw [← nI_add, Int32.add_sub_cancel, Nat.add_sub_cancel]
theorem pk_m1 (n : Nat) : nI (n + 1) + (-1) = nI n := by
  rw [← nI_1, Int32.add_assoc, show (1 : Int32) + (-1) = 0 from rfl, Int32.add_zero]
theorem pk_mul (a b : Nat) : nI a * nI b = nI (a * b) := (Int32.ofNat_mul a b).symm
theorem pk_div {a d : Nat} (ha : a < 2 ^ 31) (h0 : 0 < d) (hd : d < 2 ^ 31) : nI a / nI d = nI (a / d) := by
  apply Int32.toInt_inj.mp
  rw [lg_idiv_nonneg (by rw [nI_toInt ha]; omega) (by rw [nI_toInt hd]; omega), nI_toInt ha, nI_toInt hd, nI_toInt (Nat.lt_of_le_of_lt (Nat.div_le_self a d) ha)]
  first | rfl | exact (Int.natCast_ediv _ _).symm
theorem pk_rem {a d : Nat} (ha : a < 2 ^ 31) (h0 : 0 < d) (hd : d < 2 ^ 31) : nI a - nI a / nI d * nI d = nI (a % d) := by
  rw [pk_div ha h0 hd, pk_mul, pk_sub (Nat.div_mul_le_self a d)]
  exact congrArg nI (by have := Nat.div_add_mod' a d; omega)
theorem pk_le {x y : Int32} {A B : Prop} (a b : Nat) (f : a ≤ b → A) (g : b < a → B) (hx : x = nI a := by rfl) (hy : y = nI b := by rfl) (ha : a < 2 ^ 31 := by omega) (hb : b < 2 ^ 31 := by omega) : (x ≤ y → A) ∧ (¬ x ≤ y → B) := by
  subst hx hy
  rw [nI_leI ha hb]
  exact ⟨f, fun z => g (by omega)⟩
theorem pk_lt {x y : Int32} {A B : Prop} (a b : Nat) (f : a < b → A) (g : b ≤ a → B) (hx : x = nI a := by rfl) (hy : y = nI b := by rfl) (ha : a < 2 ^ 31 := by omega) (hb : b < 2 ^ 31 := by omega) : (x < y → A) ∧ (¬ x < y → B) := by
  subst hx hy
  rw [nI_ltI ha hb]
  exact ⟨f, fun z => g (by omega)⟩
theorem pk_eq {x y : Int32} {A B : Prop} (a b : Nat) (f : a = b → A) (g : a ≠ b → B) (hx : x = nI a := by rfl) (hy : y = nI b := by rfl) (ha : a < 2 ^ 31 := by omega) (hb : b < 2 ^ 31 := by omega) : (x = y → A) ∧ (¬ x = y → B) := by
  subst hx hy
  rw [nI_eq ha hb]
  exact ⟨f, g⟩
theorem pk_in {x : Int32} (n N : Nat) (h : n < N) (hx : x = nI n := by rfl) (hN : N < 2 ^ 31 := by omega) : vp_in x N := by
  subst hx
  exact vp_in_nI h hN
theorem pk_cl {x : Int32} (n : Nat) (hx : x = nI n := by rfl) (h : n < 2 ^ 31 := by omega) : x.toNatClampNeg = n := by
  subst hx
  exact nI_clamp h
theorem fa_ix {f : Nat → Int32} {v : Nat} (h : v < 2 ^ 31) : f (nI v).toNatClampNeg = f v := by rw [nI_clamp h]
theorem fa_ux {f : Nat → Int32} {v : Nat} {x : Int32} (h : v < 2 ^ 31) : upd f (nI v).toNatClampNeg x = upd f v x := by rw [nI_clamp h]
theorem fa_uxe {f : Nat → Int32} {v : Nat} {x y : Int32} (h : v < 2 ^ 31) (e : x = y) : upd f (nI v).toNatClampNeg x = upd f v y := by rw [nI_clamp h, e]
theorem fa_s1 {a : Nat} : nI (a + 1) - 1 = nI a := nI_pred a
theorem fa_s2 {a : Nat} : nI (a + 2) - 2 = nI a := pk_sub (a := a + 2) (b := 2) (by omega)
theorem fa_ne {a b : Nat} (h : a ≠ b) (ha : a < 2 ^ 31) (hb : b < 2 ^ 31) : ¬ nI a = nI b := fun e => h ((nI_eq ha hb).mp e)
theorem fa_uu {f : Nat → Int32} {k j : Nat} {x : Int32} : upd f k x j = if j = k then x else f j := rfl
end
section
/-! The meaning of a program of terms, in plain Lean -/
def fa_cmb (op : Nat) (x y : Int32) : Int32 := if op = 0 then x + y else if op = 1 then x - y else if op = 2 then x * y else if y ≤ x then 0 else 1
abbrev fa_S : Type := Nat × (Nat → Int32)
abbrev fa_R : Type := Option Int32 × fa_S
/-- a program: kind, three parts, number, root, size -/
abbrev fa_P : Type := (Nat → Nat → Nat) × (Nat → Nat → Nat) × (Nat → Nat → Nat) × (Nat → Nat → Nat) × (Nat → Nat → Int32) × (Nat → Nat) × (Nat → Nat → Nat)
def fa_kd (P : fa_P) : Nat → Nat → Nat := P.1
def fa_pa (P : fa_P) : Nat → Nat → Nat := P.2.1
def fa_pb (P : fa_P) : Nat → Nat → Nat := P.2.2.1
def fa_pc (P : fa_P) : Nat → Nat → Nat := P.2.2.2.1
def fa_nm (P : fa_P) : Nat → Nat → Int32 := P.2.2.2.2.1
def fa_rt (P : fa_P) : Nat → Nat := P.2.2.2.2.2.1
def fa_sz (P : fa_P) : Nat → Nat → Nat := P.2.2.2.2.2.2
def fa_TW (P : fa_P) (f t : Nat) : Prop :=
  (fa_kd P f t = 9 ∧ fa_sz P f t = 1) ∨
  (fa_kd P f t = 10 ∧ (fa_nm P f t = 0 ∨ fa_nm P f t = 1) ∧ fa_sz P f t = 1) ∨
  (fa_kd P f t < 8 ∧ fa_pa P f t < t ∧ fa_pb P f t < t ∧ fa_sz P f t = 1 + fa_sz P f (fa_pa P f t) + fa_sz P f (fa_pb P f t)) ∨
  (fa_kd P f t = 8 ∧ fa_pa P f t < t ∧ fa_pb P f t < t ∧ fa_pc P f t < t ∧ fa_sz P f t = 1 + fa_sz P f (fa_pa P f t) + fa_sz P f (fa_pb P f t) + fa_sz P f (fa_pc P f t))
def fa_PW (P : fa_P) : Prop := ∀ f, f < 4 → fa_rt P f < 14 ∧ fa_sz P f (fa_rt P f) ≤ 14 ∧ ∀ t, t ≤ fa_rt P f → fa_TW P f t
theorem fa_sz1 {P : fa_P} {f t : Nat} (h : fa_TW P f t) : 1 ≤ fa_sz P f t := by
  rcases h with h | h | h | h
  · omega
  · omega
  · omega
  · omega
def fa_bd (r : fa_R) (k : Int32 → fa_S → fa_R) : fa_R := match r.1 with
  | none => (none, r.2)
  | some x => k x r.2
theorem fa_bdN {r : fa_R} {s : fa_S} {k : Int32 → fa_S → fa_R} (h : r = (none, s)) : fa_bd r k = (none, s) := by rw [h]; rfl
theorem fa_bdS {r : fa_R} {x : Int32} {s : fa_S} {k : Int32 → fa_S → fa_R} (h : r = (some x, s)) : fa_bd r k = k x s := by rw [h]; rfl
theorem fa_rc (r : fa_R) : (∃ s, r = (none, s)) ∨ (∃ x s, r = (some x, s)) := by
  obtain ⟨o, s⟩ := r
  cases o with
  | none => exact Or.inl ⟨s, rfl⟩
  | some x => exact Or.inr ⟨x, s, rfl⟩
def fa_sd (P : fa_P) (f t : Nat) (x : Int32) : Nat := if x = 0 then fa_pc P f t else fa_pb P f t
def fa_evT (P : fa_P) (C : Nat → Int32 → Int32 → fa_S → fa_R) (f : Nat) (a b : Int32) : Nat → Nat → fa_S → fa_R
  | 0 => fun _ s => (none, s)
  | n + 1 => fun t s =>
    if fa_kd P f t = 9 then (some (fa_nm P f t), s)
    else if fa_kd P f t = 10 then (some (if fa_nm P f t = 0 then a else b), s)
    else if fa_kd P f t = 8 then fa_bd (fa_evT P C f a b n (fa_pa P f t) s) (fun x s1 => fa_evT P C f a b n (fa_sd P f t x) s1)
    else fa_bd (fa_evT P C f a b n (fa_pa P f t) s) (fun x s1 => fa_bd (fa_evT P C f a b n (fa_pb P f t) s1) (fun y s2 =>
      if fa_kd P f t < 4 then (some (fa_cmb (fa_kd P f t) x y), s2) else C (fa_kd P f t - 4) x y s2))
def fa_evC (P : fa_P) : Nat → Nat → Int32 → Int32 → fa_S → fa_R
  | 0 => fun _ _ _ s => (none, s)
  | d + 1 => fun g x y s => if s.1 = 60 then (none, s) else fa_evT P (fa_evC P d) g x y 14 (fa_rt P g) (s.1 + 1, upd s.2 g (s.2 g + 1))
section
variable {P : fa_P} {C : Nat → Int32 → Int32 → fa_S → fa_R} {f : Nat} {a b : Int32} {n t : Nat} {s : fa_S}
theorem fa_ev9 (h : fa_kd P f t = 9) : fa_evT P C f a b (n + 1) t s = (some (fa_nm P f t), s) := by
  simp only [fa_evT, h, if_true]
theorem fa_ev10 (h : fa_kd P f t = 10) : fa_evT P C f a b (n + 1) t s = (some (if fa_nm P f t = 0 then a else b), s) := by
  have h9 : ¬ (10 : Nat) = 9 := by decide
  simp only [fa_evT, h, if_true, if_neg h9]
theorem fa_ev8 (h : fa_kd P f t = 8) : fa_evT P C f a b (n + 1) t s = fa_bd (fa_evT P C f a b n (fa_pa P f t) s) (fun x s1 => fa_evT P C f a b n (fa_sd P f t x) s1) := by
  have h9 : ¬ (8 : Nat) = 9 := by decide
  have h10 : ¬ (8 : Nat) = 10 := by decide
  simp only [fa_evT, h, if_true, if_neg h9, if_neg h10]
theorem fa_ev4 (h : fa_kd P f t < 4) : fa_evT P C f a b (n + 1) t s = fa_bd (fa_evT P C f a b n (fa_pa P f t) s) (fun x s1 => fa_bd (fa_evT P C f a b n (fa_pb P f t) s1) (fun y s2 => (some (fa_cmb (fa_kd P f t) x y), s2))) := by
  have h9 : ¬ fa_kd P f t = 9 := by omega
  have h10 : ¬ fa_kd P f t = 10 := by omega
  have h8 : ¬ fa_kd P f t = 8 := by omega
  simp only [fa_evT, if_neg h9, if_neg h10, if_neg h8, if_pos h]
theorem fa_ev7 (h : 4 ≤ fa_kd P f t) (hh : fa_kd P f t < 8) : fa_evT P C f a b (n + 1) t s = fa_bd (fa_evT P C f a b n (fa_pa P f t) s) (fun x s1 => fa_bd (fa_evT P C f a b n (fa_pb P f t) s1) (fun y s2 => C (fa_kd P f t - 4) x y s2)) := by
  have h9 : ¬ fa_kd P f t = 9 := by omega
  have h10 : ¬ fa_kd P f t = 10 := by omega
  have h8 : ¬ fa_kd P f t = 8 := by omega
  have h4 : ¬ fa_kd P f t < 4 := by omega
  simp only [fa_evT, if_neg h9, if_neg h10, if_neg h8, if_neg h4]
end
/-- what never goes back -/
def fa_MN (s s' : fa_S) : Prop := s.1 ≤ s'.1 ∧ s'.1 ≤ 60 ∧ ∀ j, 4 ≤ j → s'.2 j = s.2 j
theorem fa_MN_rf {s : fa_S} (h : s.1 ≤ 60) : fa_MN s s := ⟨Nat.le_refl _, h, fun _ _ => rfl⟩
theorem fa_MN_tr {s1 s2 s3 : fa_S} (h : fa_MN s1 s2) (k : fa_MN s2 s3) : fa_MN s1 s3 :=
  ⟨Nat.le_trans h.1 k.1, k.2.1, fun j hj => (k.2.2 j hj).trans (h.2.2 j hj)⟩
def fa_OKC (C : Nat → Int32 → Int32 → fa_S → fa_R) : Prop := ∀ g x y s, g < 4 → s.1 ≤ 60 → fa_MN s (C g x y s).2
theorem fa_mnB {r : fa_R} {k : Int32 → fa_S → fa_R} {s : fa_S} (h : fa_MN s r.2) (hk : ∀ x s1, r = (some x, s1) → fa_MN s1 (k x s1).2) : fa_MN s (fa_bd r k).2 := by
  rcases fa_rc r with ⟨s1, e⟩ | ⟨x, s1, e⟩
  · rw [fa_bdN e]; rw [e] at h; exact h
  · rw [fa_bdS e]
    have h2 := hk x s1 e
    rw [e] at h
    exact fa_MN_tr h h2
theorem fa_mnT {P : fa_P} (hP : fa_PW P) {C : Nat → Int32 → Int32 → fa_S → fa_R} (hC : fa_OKC C) {f : Nat} (hf : f < 4) {a b : Int32} :
    ∀ (n t : Nat) (s : fa_S), t ≤ fa_rt P f → s.1 ≤ 60 → fa_MN s (fa_evT P C f a b n t s).2 := by
  intro n
  induction n with
  | zero => intro t s _ hs; exact fa_MN_rf hs
  | succ n ih =>
    intro t s ht hs
    rcases (hP f hf).2.2 t ht with h | h | h | h
    · rw [fa_ev9 h.1]; exact fa_MN_rf hs
    · rw [fa_ev10 h.1]; exact fa_MN_rf hs
    · have hA := ih (fa_pa P f t) s (by omega) hs
      by_cases h4 : fa_kd P f t < 4
      · rw [fa_ev4 h4]
        refine fa_mnB hA (fun x s1 e => ?_)
        rw [e] at hA
        have hB := ih (fa_pb P f t) s1 (by omega) hA.2.1
        refine fa_mnB hB (fun y s2 e2 => ?_)
        rw [e2] at hB
        exact fa_MN_rf hB.2.1
      · rw [fa_ev7 (by omega) h.1]
        refine fa_mnB hA (fun x s1 e => ?_)
        rw [e] at hA
        have hB := ih (fa_pb P f t) s1 (by omega) hA.2.1
        refine fa_mnB hB (fun y s2 e2 => ?_)
        rw [e2] at hB
        exact hC _ _ _ _ (by omega) hB.2.1
    · have hA := ih (fa_pa P f t) s (by omega) hs
      rw [fa_ev8 h.1]
      refine fa_mnB hA (fun x s1 e => ?_)
      rw [e] at hA
      refine ih _ s1 ?_ hA.2.1
      unfold fa_sd
      split <;> omega
theorem fa_mnC {P : fa_P} (hP : fa_PW P) : ∀ d, fa_OKC (fa_evC P d) := by
  intro d
  induction d with
  | zero => intro g x y s _ hs; exact fa_MN_rf hs
  | succ d ih =>
    intro g x y s hg hs
    by_cases h : s.1 = 60
    · have e : fa_evC P (d + 1) g x y s = (none, s) := if_pos h
      rw [e]; exact fa_MN_rf hs
    · have e : fa_evC P (d + 1) g x y s = fa_evT P (fa_evC P d) g x y 14 (fa_rt P g) (s.1 + 1, upd s.2 g (s.2 g + 1)) := if_neg h
      rw [e]
      have h2 := fa_mnT hP ih hg (a := x) (b := y) 14 (fa_rt P g) (s.1 + 1, upd s.2 g (s.2 g + 1)) (Nat.le_refl _) (by show s.1 + 1 ≤ 60; omega)
      have h3 : fa_MN s (s.1 + 1, upd s.2 g (s.2 g + 1)) := ⟨by show s.1 ≤ s.1 + 1; omega, by show s.1 + 1 ≤ 60; omega, fun j hj => pk_un (by omega)⟩
      exact fa_MN_tr h3 h2
/-- what is known of a term, from what is known of its parts -/
def fa_FE (P : fa_P) (f : Nat) (kn kA kB : Int32) (fv : Nat → Option Int32) (t : Nat) : Prop :=
  (fa_kd P f t = 9 → fv t = some (fa_nm P f t)) ∧
  (fa_kd P f t = 10 → fa_nm P f t = 0 → kn &&& 1 = 0 → fv t = none) ∧
  (fa_kd P f t = 10 → fa_nm P f t = 0 → ¬ kn &&& 1 = 0 → fv t = some kA) ∧
  (fa_kd P f t = 10 → ¬ fa_nm P f t = 0 → kn &&& 2 = 0 → fv t = none) ∧
  (fa_kd P f t = 10 → ¬ fa_nm P f t = 0 → ¬ kn &&& 2 = 0 → fv t = some kB) ∧
  (fa_kd P f t < 4 → fv t = (fv (fa_pa P f t)).bind (fun x => (fv (fa_pb P f t)).bind (fun y => some (fa_cmb (fa_kd P f t) x y)))) ∧
  (4 ≤ fa_kd P f t → fa_kd P f t < 8 → fv t = none) ∧
  (fa_kd P f t = 8 → fv t = (fv (fa_pa P f t)).bind (fun x => fv (fa_sd P f t x)))
theorem fa_evV {P : fa_P} (hP : fa_PW P) {C : Nat → Int32 → Int32 → fa_S → fa_R} {f : Nat} (hf : f < 4) {a b kn kA kB : Int32} {fv : Nat → Option Int32}
    (hv : ∀ t, t ≤ fa_rt P f → fa_FE P f kn kA kB fv t) (hA : ¬ kn &&& 1 = 0 → a = kA) (hB : ¬ kn &&& 2 = 0 → b = kB) :
    ∀ (n t : Nat) (s : fa_S) (x : Int32), t < n → t ≤ fa_rt P f → fv t = some x → fa_evT P C f a b n t s = (some x, s) := by
  intro n
  induction n with
  | zero => intro t s x h; omega
  | succ n ih =>
    intro t s x hn ht hx
    obtain ⟨v9, v10, v11, v12, v13, v4, v7, v8⟩ := hv t ht
    rcases (hP f hf).2.2 t ht with h | h | h | h
    · rw [fa_ev9 h.1]
      rw [v9 h.1] at hx
      rw [Option.some.inj hx]
    · rw [fa_ev10 h.1]
      by_cases hz : fa_nm P f t = 0
      · by_cases hk : kn &&& 1 = 0
        · rw [v10 h.1 hz hk] at hx; exact nomatch hx
        · rw [v11 h.1 hz hk] at hx
          rw [if_pos hz, hA hk, Option.some.inj hx]
      · by_cases hk : kn &&& 2 = 0
        · rw [v12 h.1 hz hk] at hx; exact nomatch hx
        · rw [v13 h.1 hz hk] at hx
          rw [if_neg hz, hB hk, Option.some.inj hx]
    · by_cases h4 : fa_kd P f t < 4
      · rw [v4 h4] at hx
        cases ea : fv (fa_pa P f t) with
        | none => rw [ea] at hx; exact nomatch hx
        | some xa =>
          rw [ea] at hx
          cases eb : fv (fa_pb P f t) with
          | none => rw [eb] at hx; exact nomatch hx
          | some xb =>
            rw [eb] at hx
            rw [fa_ev4 h4, fa_bdS (ih _ s xa (by omega) (by omega) ea), fa_bdS (ih _ s xb (by omega) (by omega) eb)]
            have e : fa_cmb (fa_kd P f t) xa xb = x := Option.some.inj hx
            rw [e]
      · rw [v7 (by omega) h.1] at hx; exact nomatch hx
    · rw [v8 h.1] at hx
      cases ea : fv (fa_pa P f t) with
      | none => rw [ea] at hx; exact nomatch hx
      | some xa =>
        rw [ea] at hx
        have hs : fa_sd P f t xa < t := by unfold fa_sd; split <;> omega
        rw [fa_ev8 h.1, fa_bdS (ih _ s xa (by omega) (by omega) ea)]
        exact ih _ s x (by omega) (by omega) hx
end
section
/-! What it means that a piece of code is made for a term -/
/-- the table of versions: how many, of which function, what is known, and the known values -/
abbrev fa_V : Type := Nat × (Nat → Int32) × (Nat → Int32) × (Nat → Int32) × (Nat → Int32)
def fa_vo (T : fa_V) : Nat → Int32 := T.2.1
def fa_kn (T : fa_V) : Nat → Int32 := T.2.2.1
def fa_kA (T : fa_V) : Nat → Int32 := T.2.2.2.1
def fa_kB (T : fa_V) : Nat → Int32 := T.2.2.2.2
def fa_VX (T T' : fa_V) : Prop := T.1 ≤ T'.1 ∧ ∀ j, j < T.1 → fa_vo T' j = fa_vo T j ∧ fa_kn T' j = fa_kn T j ∧ fa_kA T' j = fa_kA T j ∧ fa_kB T' j = fa_kB T j
theorem fa_VX_rf (T : fa_V) : fa_VX T T := ⟨Nat.le_refl _, fun _ _ => ⟨rfl, rfl, rfl, rfl⟩⟩
theorem fa_VX_tr {T1 T2 T3 : fa_V} (h : fa_VX T1 T2) (k : fa_VX T2 T3) : fa_VX T1 T3 :=
  ⟨Nat.le_trans h.1 k.1, fun j hj => by
    have a := h.2 j hj
    have b := k.2 j (Nat.lt_of_lt_of_le hj h.1)
    exact ⟨b.1.trans a.1, b.2.1.trans a.2.1, b.2.2.1.trans a.2.2.1, b.2.2.2.trans a.2.2.2⟩⟩
def fa_CF (P : fa_P) (f : Nat) (fv : Nat → Option Int32) (T : fa_V) (cd ex : Nat → Int32) : Nat → Nat → Nat → Nat → Prop
  | 0 => fun _ _ _ => False
  | n + 1 => fun t p q => p < q ∧
    (∀ x, fv t = some x → q = p + 1 ∧ cd p = 5 ∧ ex p = x) ∧
    (fv t = none →
      (fa_kd P f t = 10 → q = p + 1 ∧ cd p = 6 ∧ ex p = fa_nm P f t) ∧
      (fa_kd P f t < 4 → ∃ m e, fa_CF P f fv T cd ex n (fa_pa P f t) p m ∧ fa_CF P f fv T cd ex n (fa_pb P f t) m e ∧ cd e = nI (fa_kd P f t) ∧ q = e + 1) ∧
      (4 ≤ fa_kd P f t → fa_kd P f t < 8 → ∃ v m e, v < T.1 ∧ fa_vo T v = nI (fa_kd P f t - 4) ∧
        (fa_kn T v &&& 1 = 0 → fa_CF P f fv T cd ex n (fa_pa P f t) p m) ∧ (¬ fa_kn T v &&& 1 = 0 → m = p ∧ fv (fa_pa P f t) = some (fa_kA T v)) ∧
        (fa_kn T v &&& 2 = 0 → fa_CF P f fv T cd ex n (fa_pb P f t) m e) ∧ (¬ fa_kn T v &&& 2 = 0 → e = m ∧ fv (fa_pb P f t) = some (fa_kB T v)) ∧
        cd e = 4 ∧ ex e = nI v ∧ q = e + 1) ∧
      (fa_kd P f t = 8 → (∀ x, fv (fa_pa P f t) = some x → fa_CF P f fv T cd ex n (fa_sd P f t x) p q) ∧
        (fv (fa_pa P f t) = none → ∃ m1 m2, fa_CF P f fv T cd ex n (fa_pa P f t) p m1 ∧ cd m1 = 7 ∧ ex m1 = nI (m2 + 1) ∧
          fa_CF P f fv T cd ex n (fa_pb P f t) (m1 + 1) m2 ∧ cd m2 = 8 ∧ ex m2 = nI q ∧ fa_CF P f fv T cd ex n (fa_pc P f t) (m2 + 1) q)))
section
variable {P : fa_P} {f : Nat} {fv : Nat → Option Int32} {T T' : fa_V} {cd ex cd' ex' : Nat → Int32}
theorem fa_CF_lt {n t p q : Nat} (h : fa_CF P f fv T cd ex n t p q) : p < q := by
  cases n with
  | zero => exact h.elim
  | succ n => exact h.1
theorem fa_CF_ext (hT : fa_VX T T') : ∀ n t p q, (∀ j, p ≤ j → j < q → cd' j = cd j ∧ ex' j = ex j) → fa_CF P f fv T cd ex n t p q → fa_CF P f fv T' cd' ex' n t p q := by
  intro n
  induction n with
  | zero => intro t p q _ h; exact h.elim
  | succ n ih =>
    intro t p q ha h
    obtain ⟨h0, h1, h2⟩ := h
    refine ⟨h0, fun x hx => ?_, fun hn => ?_⟩
    · obtain ⟨e, c, d⟩ := h1 x hx
      exact ⟨e, (ha p (by omega) (by omega)).1.trans c, (ha p (by omega) (by omega)).2.trans d⟩
    · obtain ⟨g10, g4, g7, g8⟩ := h2 hn
      refine ⟨fun k => ?_, fun k => ?_, fun k k2 => ?_, fun k => ?_⟩
      · obtain ⟨e, c, d⟩ := g10 k
        exact ⟨e, (ha p (by omega) (by omega)).1.trans c, (ha p (by omega) (by omega)).2.trans d⟩
      · obtain ⟨m, e, cA, cB, hc, hq⟩ := g4 k
        have lA := fa_CF_lt cA
        have lB := fa_CF_lt cB
        exact ⟨m, e, ih _ _ _ (fun j hi hj => ha j (by omega) (by omega)) cA, ih _ _ _ (fun j hi hj => ha j (by omega) (by omega)) cB, (ha e (by omega) (by omega)).1.trans hc, hq⟩
      · obtain ⟨v, m, e, hv, ho, cA, kA, cB, kB, hc, hx, hq⟩ := g7 k k2
        have w := hT.2 v hv
        have hpm : p ≤ m := by
          by_cases z : fa_kn T v &&& 1 = 0
          · exact Nat.le_of_lt (fa_CF_lt (cA z))
          · exact Nat.le_of_eq (kA z).1.symm
        have hme : m ≤ e := by
          by_cases z : fa_kn T v &&& 2 = 0
          · exact Nat.le_of_lt (fa_CF_lt (cB z))
          · exact Nat.le_of_eq (kB z).1.symm
        refine ⟨v, m, e, Nat.lt_of_lt_of_le hv hT.1, w.1.trans ho, ?_, ?_, ?_, ?_, (ha e (by omega) (by omega)).1.trans hc, (ha e (by omega) (by omega)).2.trans hx, hq⟩
        · rw [w.2.1]; exact fun z => ih _ _ _ (fun j hi hj => ha j (by omega) (by omega)) (cA z)
        · rw [w.2.1, w.2.2.1]; exact kA
        · rw [w.2.1]; exact fun z => ih _ _ _ (fun j hi hj => ha j (by omega) (by omega)) (cB z)
        · rw [w.2.1, w.2.2.2]; exact kB
      · obtain ⟨r1, r2⟩ := g8 k
        refine ⟨fun x hx => ih _ _ _ ha (r1 x hx), fun hx => ?_⟩
        obtain ⟨m1, m2, cA, c1, x1, cB, c2, x2, cC⟩ := r2 hx
        have lA := fa_CF_lt cA
        have lB := fa_CF_lt cB
        have lC := fa_CF_lt cC
        exact ⟨m1, m2, ih _ _ _ (fun j hi hj => ha j (by omega) (by omega)) cA, (ha m1 (by omega) (by omega)).1.trans c1, (ha m1 (by omega) (by omega)).2.trans x1,
          ih _ _ _ (fun j hi hj => ha j (by omega) (by omega)) cB, (ha m2 (by omega) (by omega)).1.trans c2, (ha m2 (by omega) (by omega)).2.trans x2, ih _ _ _ (fun j hi hj => ha j (by omega) (by omega)) cC⟩
theorem fa_CF_len (hP : fa_PW P) (hf : f < 4) {kn kA kB : Int32} (hv : ∀ t, t ≤ fa_rt P f → fa_FE P f kn kA kB fv t) :
    ∀ n t p q, t ≤ fa_rt P f → fa_CF P f fv T cd ex n t p q → q ≤ p + 2 * fa_sz P f t := by
  intro n
  induction n with
  | zero => intro t p q _ h; exact h.elim
  | succ n ih =>
    intro t p q ht h
    obtain ⟨h0, h1, h2⟩ := h
    have hw := (hP f hf).2.2 t ht
    have hz := fa_sz1 hw
    cases ev : fv t with
    | some x => have := (h1 x ev).1; omega
    | none =>
      obtain ⟨g10, g4, g7, g8⟩ := h2 ev
      rcases hw with h | h | h | h
      · rw [(hv t ht).1 h.1] at ev; exact nomatch ev
      · have := (g10 h.1).1; omega
      · by_cases h4 : fa_kd P f t < 4
        · obtain ⟨m, e, cA, cB, hc, hq⟩ := g4 h4
          have lA := ih _ _ _ (by omega) cA
          have lB := ih _ _ _ (by omega) cB
          omega
        · obtain ⟨v, m, e, hv', ho, cA, kA, cB, kB, hc, hx, hq⟩ := g7 (by omega) h.1
          have lA : m ≤ p + 2 * fa_sz P f (fa_pa P f t) := by
            by_cases z : fa_kn T v &&& 1 = 0
            · exact ih _ _ _ (by omega) (cA z)
            · have := (kA z).1; omega
          have lB : e ≤ m + 2 * fa_sz P f (fa_pb P f t) := by
            by_cases z : fa_kn T v &&& 2 = 0
            · exact ih _ _ _ (by omega) (cB z)
            · have := (kB z).1; omega
          omega
      · obtain ⟨r1, r2⟩ := g8 h.1
        cases ea : fv (fa_pa P f t) with
        | some x =>
          have hs : fa_sd P f t x < t := by unfold fa_sd; split <;> omega
          have hl := ih _ _ _ (by omega) (r1 x ea)
          have hs2 : fa_sz P f (fa_sd P f t x) ≤ fa_sz P f t := by unfold fa_sd; split <;> omega
          omega
        | none =>
          obtain ⟨m1, m2, cA, c1, x1, cB, c2, x2, cC⟩ := r2 ea
          have lA := ih _ _ _ (by omega) cA
          have lB := ih _ _ _ (by omega) cB
          have lC := ih _ _ _ (by omega) cC
          omega
end
end
section
/-! The component's run: one instruction at a time -/
section
variable {f_made f_height f_versions f_codeSize f_tasks f_values f_frames f_called f_ended : Int32} {a_kind a_partA a_partB a_partC a_number a_size a_stack a_versionOf a_known a_knownA a_knownB a_entry a_fixed a_value a_code a_extra a_task a_phase a_hole a_pile a_frameA a_frameB a_back a_calledOf : Nat → Int32}
theorem xp_push {post : SX → Prop} {h : Nat} {x y : Int32} (hh : h < 1000) (e : x = y) (H : post (f_made, f_height, f_versions, f_codeSize, f_tasks, nI (h + 1), f_frames, f_called, f_ended, a_kind, a_partA, a_partB, a_partC, a_number, a_size, a_stack, a_versionOf, a_known, a_knownA, a_knownB, a_entry, a_fixed, a_value, a_code, a_extra, a_task, a_phase, a_hole, upd a_pile h y, a_frameA, a_frameB, a_back, a_calledOf)) : wpX_push post (f_made, f_height, f_versions, f_codeSize, f_tasks, nI h, f_frames, f_called, f_ended, a_kind, a_partA, a_partB, a_partC, a_number, a_size, a_stack, a_versionOf, a_known, a_knownA, a_knownB, a_entry, a_fixed, a_value, a_code, a_extra, a_task, a_phase, a_hole, a_pile, a_frameA, a_frameB, a_back, a_calledOf) x := by
  subst e
  exact And.intro (vp_in_nI hh (by omega)) (nm_r (fa_ux (by omega)) (nm_r (nI_1 h) H))
theorem fa_cmb3t {x y : Int32} (h : y ≤ x) : fa_cmb 3 x y = 0 := by simp [fa_cmb, h]
theorem fa_cmb3f {x y : Int32} (h : ¬ y ≤ x) : fa_cmb 3 x y = 1 := by simp [fa_cmb, h]
theorem xp_comb {post : Int32 → Prop} {op : Nat} {x y : Int32} (ho : op < 4) (H : post (fa_cmb op x y)) : wpX_combined post (f_made, f_height, f_versions, f_codeSize, f_tasks, f_values, f_frames, f_called, f_ended, a_kind, a_partA, a_partB, a_partC, a_number, a_size, a_stack, a_versionOf, a_known, a_knownA, a_knownB, a_entry, a_fixed, a_value, a_code, a_extra, a_task, a_phase, a_hole, a_pile, a_frameA, a_frameB, a_back, a_calledOf) (nI op) x y := by
  match op, ho with
  | 0, _ => exact br_t nI_0 H
  | 1, _ => exact br_f (by decide) (br_t (by decide) H)
  | 2, _ => exact br_f (by decide) (br_f (by decide) (br_t (by decide) H))
  | 3, _ =>
    refine br_f (by decide) (br_f (by decide) (br_f (by decide) (br_c (fun h => ?_) (fun h => ?_))))
    · rw [fa_cmb3t h] at H; exact H
    · rw [fa_cmb3f h] at H; exact H
theorem xs_op {post : Int32 → SX → Prop} {at' h op : Nat} (ha : at' < 640) (hh : h + 2 ≤ 1000) (ho : op < 4) (hc : a_code at' = nI op)
    (H : post (nI (at' + 1)) (f_made, f_height, f_versions, f_codeSize, f_tasks, nI (h + 1), f_frames, f_called, f_ended, a_kind, a_partA, a_partB, a_partC, a_number, a_size, a_stack, a_versionOf, a_known, a_knownA, a_knownB, a_entry, a_fixed, a_value, a_code, a_extra, a_task, a_phase, a_hole, upd a_pile h (fa_cmb op (a_pile h) (a_pile (h + 1))), a_frameA, a_frameB, a_back, a_calledOf)) : wpX_step post (f_made, f_height, f_versions, f_codeSize, f_tasks, nI (h + 2), f_frames, f_called, f_ended, a_kind, a_partA, a_partB, a_partC, a_number, a_size, a_stack, a_versionOf, a_known, a_knownA, a_knownB, a_entry, a_fixed, a_value, a_code, a_extra, a_task, a_phase, a_hole, a_pile, a_frameA, a_frameB, a_back, a_calledOf) (nI at') := by
  refine And.intro (vp_in_nI ha (by omega)) (nm_r ((fa_ix (by omega)).trans hc) (br_f (nI_ge (b := 4) ho (by omega)) (nm_r fa_s2 (And.intro (vp_in_nI (by omega) (by omega)) (And.intro ?_ ?_)))))
  · rw [nI_1]; exact vp_in_nI (by omega) (by omega)
  · refine xp_comb ho (xp_push (by omega) (y := fa_cmb op (a_pile h) (a_pile (h + 1))) ?_ ?_)
    · rw [nI_1, nI_clamp (by omega), nI_clamp (by omega)]
    · show post (nI at' + 1) _
      rw [nI_1]; exact H
theorem xs_load {post : Int32 → SX → Prop} {at' h : Nat} (ha : at' < 640) (hh : h < 1000) (hc : a_code at' = 5)
    (H : post (nI (at' + 1)) (f_made, f_height, f_versions, f_codeSize, f_tasks, nI (h + 1), f_frames, f_called, f_ended, a_kind, a_partA, a_partB, a_partC, a_number, a_size, a_stack, a_versionOf, a_known, a_knownA, a_knownB, a_entry, a_fixed, a_value, a_code, a_extra, a_task, a_phase, a_hole, upd a_pile h (a_extra at'), a_frameA, a_frameB, a_back, a_calledOf)) : wpX_step post (f_made, f_height, f_versions, f_codeSize, f_tasks, nI h, f_frames, f_called, f_ended, a_kind, a_partA, a_partB, a_partC, a_number, a_size, a_stack, a_versionOf, a_known, a_knownA, a_knownB, a_entry, a_fixed, a_value, a_code, a_extra, a_task, a_phase, a_hole, a_pile, a_frameA, a_frameB, a_back, a_calledOf) (nI at') := by
  refine And.intro (vp_in_nI ha (by omega)) (nm_r ((fa_ix (by omega)).trans hc) (br_t (by decide) (br_f (by decide) (br_t rfl (And.intro (vp_in_nI ha (by omega)) (xp_push hh (fa_ix (by omega)) ?_))))))
  show post (nI at' + 1) _
  rw [nI_1]; exact H
theorem xs_takeA {post : Int32 → SX → Prop} {at' h fr : Nat} (ha : at' < 640) (hh : h < 1000) (hf : fr < 61) (hc : a_code at' = 6) (hx : a_extra at' = 0)
    (H : post (nI (at' + 1)) (f_made, f_height, f_versions, f_codeSize, f_tasks, nI (h + 1), nI (fr + 1), f_called, f_ended, a_kind, a_partA, a_partB, a_partC, a_number, a_size, a_stack, a_versionOf, a_known, a_knownA, a_knownB, a_entry, a_fixed, a_value, a_code, a_extra, a_task, a_phase, a_hole, upd a_pile h (a_frameA fr), a_frameA, a_frameB, a_back, a_calledOf)) : wpX_step post (f_made, f_height, f_versions, f_codeSize, f_tasks, nI h, nI (fr + 1), f_called, f_ended, a_kind, a_partA, a_partB, a_partC, a_number, a_size, a_stack, a_versionOf, a_known, a_knownA, a_knownB, a_entry, a_fixed, a_value, a_code, a_extra, a_task, a_phase, a_hole, a_pile, a_frameA, a_frameB, a_back, a_calledOf) (nI at') := by
  refine And.intro (vp_in_nI ha (by omega)) (nm_r ((fa_ix (by omega)).trans hc) (br_t (by decide) (br_f (by decide) (br_f (by decide) (br_t rfl (And.intro (vp_in_nI ha (by omega)) (br_t ((fa_ix (by omega)).trans hx) (And.intro ?_ ?_))))))))
  · rw [nI_pred]; exact vp_in_nI hf (by omega)
  · unfold wX_step_134
    refine xp_push hh (y := a_frameA fr) ?_ ?_
    · rw [nI_pred]; exact fa_ix (by omega)
    · show post (nI at' + 1) _
      rw [nI_1]; exact H
theorem xs_takeB {post : Int32 → SX → Prop} {at' h fr : Nat} (ha : at' < 640) (hh : h < 1000) (hf : fr < 61) (hc : a_code at' = 6) (hx : ¬ a_extra at' = 0)
    (H : post (nI (at' + 1)) (f_made, f_height, f_versions, f_codeSize, f_tasks, nI (h + 1), nI (fr + 1), f_called, f_ended, a_kind, a_partA, a_partB, a_partC, a_number, a_size, a_stack, a_versionOf, a_known, a_knownA, a_knownB, a_entry, a_fixed, a_value, a_code, a_extra, a_task, a_phase, a_hole, upd a_pile h (a_frameB fr), a_frameA, a_frameB, a_back, a_calledOf)) : wpX_step post (f_made, f_height, f_versions, f_codeSize, f_tasks, nI h, nI (fr + 1), f_called, f_ended, a_kind, a_partA, a_partB, a_partC, a_number, a_size, a_stack, a_versionOf, a_known, a_knownA, a_knownB, a_entry, a_fixed, a_value, a_code, a_extra, a_task, a_phase, a_hole, a_pile, a_frameA, a_frameB, a_back, a_calledOf) (nI at') := by
  have hx' : ¬ a_extra (nI at').toNatClampNeg = 0 := by rw [nI_clamp (by omega)]; exact hx
  refine And.intro (vp_in_nI ha (by omega)) (nm_r ((fa_ix (by omega)).trans hc) (br_t (by decide) (br_f (by decide) (br_f (by decide) (br_t rfl (And.intro (vp_in_nI ha (by omega)) (br_f hx' (And.intro ?_ ?_))))))))
  · rw [nI_pred]; exact vp_in_nI hf (by omega)
  · unfold wX_step_134
    refine xp_push hh (y := a_frameB fr) ?_ ?_
    · rw [nI_pred]; exact fa_ix (by omega)
    · show post (nI at' + 1) _
      rw [nI_1]; exact H
theorem xs_jz0 {post : Int32 → SX → Prop} {at' h q : Nat} (ha : at' < 640) (hh : h < 1000) (hc : a_code at' = 7) (hx : a_extra at' = nI q) (hz : a_pile h = 0)
    (H : post (nI q) (f_made, f_height, f_versions, f_codeSize, f_tasks, nI h, f_frames, f_called, f_ended, a_kind, a_partA, a_partB, a_partC, a_number, a_size, a_stack, a_versionOf, a_known, a_knownA, a_knownB, a_entry, a_fixed, a_value, a_code, a_extra, a_task, a_phase, a_hole, a_pile, a_frameA, a_frameB, a_back, a_calledOf)) : wpX_step post (f_made, f_height, f_versions, f_codeSize, f_tasks, nI (h + 1), f_frames, f_called, f_ended, a_kind, a_partA, a_partB, a_partC, a_number, a_size, a_stack, a_versionOf, a_known, a_knownA, a_knownB, a_entry, a_fixed, a_value, a_code, a_extra, a_task, a_phase, a_hole, a_pile, a_frameA, a_frameB, a_back, a_calledOf) (nI at') := by
  refine And.intro (vp_in_nI ha (by omega)) (nm_r ((fa_ix (by omega)).trans hc) (br_t (by decide) (br_f (by decide) (br_f (by decide) (br_f (by decide) (br_t rfl (nm_r fa_s1 (And.intro (vp_in_nI hh (by omega)) (br_t ((fa_ix (by omega)).trans hz) (And.intro (vp_in_nI ha (by omega)) ?_))))))))))
  rw [nI_clamp (show at' < 2 ^ 31 by omega), hx]; exact H
theorem xs_jz1 {post : Int32 → SX → Prop} {at' h : Nat} (ha : at' < 640) (hh : h < 1000) (hc : a_code at' = 7) (hz : ¬ a_pile h = 0)
    (H : post (nI (at' + 1)) (f_made, f_height, f_versions, f_codeSize, f_tasks, nI h, f_frames, f_called, f_ended, a_kind, a_partA, a_partB, a_partC, a_number, a_size, a_stack, a_versionOf, a_known, a_knownA, a_knownB, a_entry, a_fixed, a_value, a_code, a_extra, a_task, a_phase, a_hole, a_pile, a_frameA, a_frameB, a_back, a_calledOf)) : wpX_step post (f_made, f_height, f_versions, f_codeSize, f_tasks, nI (h + 1), f_frames, f_called, f_ended, a_kind, a_partA, a_partB, a_partC, a_number, a_size, a_stack, a_versionOf, a_known, a_knownA, a_knownB, a_entry, a_fixed, a_value, a_code, a_extra, a_task, a_phase, a_hole, a_pile, a_frameA, a_frameB, a_back, a_calledOf) (nI at') := by
  have hz' : ¬ a_pile (nI h).toNatClampNeg = 0 := by rw [nI_clamp (by omega)]; exact hz
  refine And.intro (vp_in_nI ha (by omega)) (nm_r ((fa_ix (by omega)).trans hc) (br_t (by decide) (br_f (by decide) (br_f (by decide) (br_f (by decide) (br_t rfl (nm_r fa_s1 (And.intro (vp_in_nI hh (by omega)) (br_f hz' ?_)))))))))
  rw [nI_1]; exact H
theorem xs_jump {post : Int32 → SX → Prop} {at' q : Nat} (ha : at' < 640) (hc : a_code at' = 8) (hx : a_extra at' = nI q)
    (H : post (nI q) (f_made, f_height, f_versions, f_codeSize, f_tasks, f_values, f_frames, f_called, f_ended, a_kind, a_partA, a_partB, a_partC, a_number, a_size, a_stack, a_versionOf, a_known, a_knownA, a_knownB, a_entry, a_fixed, a_value, a_code, a_extra, a_task, a_phase, a_hole, a_pile, a_frameA, a_frameB, a_back, a_calledOf)) : wpX_step post (f_made, f_height, f_versions, f_codeSize, f_tasks, f_values, f_frames, f_called, f_ended, a_kind, a_partA, a_partB, a_partC, a_number, a_size, a_stack, a_versionOf, a_known, a_knownA, a_knownB, a_entry, a_fixed, a_value, a_code, a_extra, a_task, a_phase, a_hole, a_pile, a_frameA, a_frameB, a_back, a_calledOf) (nI at') := by
  refine And.intro (vp_in_nI ha (by omega)) (nm_r ((fa_ix (by omega)).trans hc) (br_t (by decide) (br_f (by decide) (br_f (by decide) (br_f (by decide) (br_f (by decide) (br_t rfl (And.intro (vp_in_nI ha (by omega)) ?_))))))))
  rw [nI_clamp (show at' < 2 ^ 31 by omega), hx]; exact H
theorem xs_ret {post : Int32 → SX → Prop} {at' fr q : Nat} (ha : at' < 640) (hf : fr + 1 < 61) (hc : a_code at' = 9) (hb : a_back (fr + 1) = nI q)
    (H : post (nI q) (f_made, f_height, f_versions, f_codeSize, f_tasks, f_values, nI (fr + 1), f_called, f_ended, a_kind, a_partA, a_partB, a_partC, a_number, a_size, a_stack, a_versionOf, a_known, a_knownA, a_knownB, a_entry, a_fixed, a_value, a_code, a_extra, a_task, a_phase, a_hole, a_pile, a_frameA, a_frameB, a_back, a_calledOf)) : wpX_step post (f_made, f_height, f_versions, f_codeSize, f_tasks, f_values, nI (fr + 2), f_called, f_ended, a_kind, a_partA, a_partB, a_partC, a_number, a_size, a_stack, a_versionOf, a_known, a_knownA, a_knownB, a_entry, a_fixed, a_value, a_code, a_extra, a_task, a_phase, a_hole, a_pile, a_frameA, a_frameB, a_back, a_calledOf) (nI at') := by
  refine And.intro (vp_in_nI ha (by omega)) (nm_r ((fa_ix (by omega)).trans hc) (br_t (by decide) (br_f (by decide) (br_f (by decide) (br_f (by decide) (br_f (by decide) (br_f (by decide) (nm_r (nI_pred (fr + 1)) (br_f (nI_ne0 (by omega) (by omega)) (And.intro (vp_in_nI hf (by omega)) ?_)))))))))) 
  rw [nI_clamp (show fr + 1 < 2 ^ 31 by omega), hb]; exact H
theorem xs_end {post : Int32 → SX → Prop} {at' : Nat} (ha : at' < 640) (hc : a_code at' = 9)
    (H : post (a_back 0) (f_made, f_height, f_versions, f_codeSize, f_tasks, f_values, nI 0, f_called, 0, a_kind, a_partA, a_partB, a_partC, a_number, a_size, a_stack, a_versionOf, a_known, a_knownA, a_knownB, a_entry, a_fixed, a_value, a_code, a_extra, a_task, a_phase, a_hole, a_pile, a_frameA, a_frameB, a_back, a_calledOf)) : wpX_step post (f_made, f_height, f_versions, f_codeSize, f_tasks, f_values, nI 1, f_called, f_ended, a_kind, a_partA, a_partB, a_partC, a_number, a_size, a_stack, a_versionOf, a_known, a_knownA, a_knownB, a_entry, a_fixed, a_value, a_code, a_extra, a_task, a_phase, a_hole, a_pile, a_frameA, a_frameB, a_back, a_calledOf) (nI at') := by
  refine And.intro (vp_in_nI ha (by omega)) (nm_r ((fa_ix (by omega)).trans hc) (br_t (by decide) (br_f (by decide) (br_f (by decide) (br_f (by decide) (br_f (by decide) (br_f (by decide) (nm_r (nI_pred 0) (br_t nI_0 (And.intro (vp_in_nI (by omega) (by omega)) ?_)))))))))) 
  rw [nI_clamp (show 0 < 2 ^ 31 by omega)]; exact H
/-- the arguments that are not known are taken from the pile: how many -/
theorem xv_tired {post : Int32 → SX → Prop} {p0 p1 : Int32} (H : post p1 (f_made, f_height, f_versions, f_codeSize, f_tasks, f_values, f_frames, nI 60, 1, a_kind, a_partA, a_partB, a_partC, a_number, a_size, a_stack, a_versionOf, a_known, a_knownA, a_knownB, a_entry, a_fixed, a_value, a_code, a_extra, a_task, a_phase, a_hole, a_pile, a_frameA, a_frameB, a_back, a_calledOf)) : wpX_callVersion post (f_made, f_height, f_versions, f_codeSize, f_tasks, f_values, f_frames, nI 60, f_ended, a_kind, a_partA, a_partB, a_partC, a_number, a_size, a_stack, a_versionOf, a_known, a_knownA, a_knownB, a_entry, a_fixed, a_value, a_code, a_extra, a_task, a_phase, a_hole, a_pile, a_frameA, a_frameB, a_back, a_calledOf) p0 p1 := br_t rfl H
theorem xv_128 {post : Int32 → SX → Prop} {v fr e : Nat} {p1 : Int32} (hv : v < 16) (hf : fr < 61) (he : a_entry v = nI e)
    (H : post (nI e) (f_made, f_height, f_versions, f_codeSize, f_tasks, f_values, nI (fr + 1), f_called, f_ended, a_kind, a_partA, a_partB, a_partC, a_number, a_size, a_stack, a_versionOf, a_known, a_knownA, a_knownB, a_entry, a_fixed, a_value, a_code, a_extra, a_task, a_phase, a_hole, a_pile, a_frameA, a_frameB, upd a_back fr p1, a_calledOf)) : wX_callVersion_128 post (nI v) p1 f_made f_height f_versions f_codeSize f_tasks f_values (nI fr) f_called f_ended a_kind a_partA a_partB a_partC a_number a_size a_stack a_versionOf a_known a_knownA a_knownB a_entry a_fixed a_value a_code a_extra a_task a_phase a_hole a_pile a_frameA a_frameB a_back a_calledOf := by
  unfold wX_callVersion_128
  refine And.intro (vp_in_nI hf (by omega)) (nm_r (fa_ux (by omega)) (nm_r (nI_1 fr) (And.intro (vp_in_nI hv (by omega)) ?_)))
  rw [nI_clamp (show v < 2 ^ 31 by omega), he]; exact H
theorem xv_89t {post : Int32 → SX → Prop} {v fr e h : Nat} {p1 : Int32} (hv : v < 16) (hf : fr < 61) (hh : h < 1000) (he : a_entry v = nI e) (hk : a_known v &&& 1 = 0)
    (H : post (nI e) (f_made, f_height, f_versions, f_codeSize, f_tasks, nI h, nI (fr + 1), f_called, f_ended, a_kind, a_partA, a_partB, a_partC, a_number, a_size, a_stack, a_versionOf, a_known, a_knownA, a_knownB, a_entry, a_fixed, a_value, a_code, a_extra, a_task, a_phase, a_hole, a_pile, upd a_frameA fr (a_pile h), a_frameB, upd a_back fr p1, a_calledOf)) : wX_callVersion_89 post (nI v) p1 f_made f_height f_versions f_codeSize f_tasks (nI (h + 1)) (nI fr) f_called f_ended a_kind a_partA a_partB a_partC a_number a_size a_stack a_versionOf a_known a_knownA a_knownB a_entry a_fixed a_value a_code a_extra a_task a_phase a_hole a_pile a_frameA a_frameB a_back a_calledOf := by
  have hk' : a_known (nI v).toNatClampNeg &&& 1 = 0 := by rw [nI_clamp (by omega)]; exact hk
  unfold wX_callVersion_89
  exact And.intro (vp_in_nI hv (by omega)) (br_t hk' (nm_r fa_s1 (And.intro (vp_in_nI hh (by omega)) (And.intro (vp_in_nI hf (by omega)) (nm_r (fa_uxe (by omega) (fa_ix (by omega))) (xv_128 hv hf he H))))))
theorem xv_89f {post : Int32 → SX → Prop} {v fr e : Nat} {p1 : Int32} (hv : v < 16) (hf : fr < 61) (he : a_entry v = nI e) (hk : ¬ a_known v &&& 1 = 0)
    (H : post (nI e) (f_made, f_height, f_versions, f_codeSize, f_tasks, f_values, nI (fr + 1), f_called, f_ended, a_kind, a_partA, a_partB, a_partC, a_number, a_size, a_stack, a_versionOf, a_known, a_knownA, a_knownB, a_entry, a_fixed, a_value, a_code, a_extra, a_task, a_phase, a_hole, a_pile, a_frameA, a_frameB, upd a_back fr p1, a_calledOf)) : wX_callVersion_89 post (nI v) p1 f_made f_height f_versions f_codeSize f_tasks f_values (nI fr) f_called f_ended a_kind a_partA a_partB a_partC a_number a_size a_stack a_versionOf a_known a_knownA a_knownB a_entry a_fixed a_value a_code a_extra a_task a_phase a_hole a_pile a_frameA a_frameB a_back a_calledOf := by
  have hk' : ¬ a_known (nI v).toNatClampNeg &&& 1 = 0 := by rw [nI_clamp (by omega)]; exact hk
  unfold wX_callVersion_89
  exact And.intro (vp_in_nI hv (by omega)) (br_f hk' (xv_128 hv hf he H))
theorem xv_B {post : Int32 → SX → Prop} {v fr c g h : Nat} {p1 : Int32} (hv : v < 16) (hf : fr < 61) (hc : c < 60) (hg : g < 4) (hh : h < 1000) (ho : a_versionOf v = nI g) (hk : a_known v &&& 2 = 0)
    (H : wX_callVersion_89 post (nI v) p1 f_made f_height f_versions f_codeSize f_tasks (nI h) (nI fr) (nI (c + 1)) f_ended a_kind a_partA a_partB a_partC a_number a_size a_stack a_versionOf a_known a_knownA a_knownB a_entry a_fixed a_value a_code a_extra a_task a_phase a_hole a_pile a_frameA (upd a_frameB fr (a_pile h)) a_back (upd a_calledOf g (a_calledOf g + 1))) :
    wpX_callVersion post (f_made, f_height, f_versions, f_codeSize, f_tasks, nI (h + 1), nI fr, nI c, f_ended, a_kind, a_partA, a_partB, a_partC, a_number, a_size, a_stack, a_versionOf, a_known, a_knownA, a_knownB, a_entry, a_fixed, a_value, a_code, a_extra, a_task, a_phase, a_hole, a_pile, a_frameA, a_frameB, a_back, a_calledOf) (nI v) p1 := by
  have hk' : a_known (nI v).toNatClampNeg &&& 2 = 0 := by rw [nI_clamp (by omega)]; exact hk
  have ho' : a_versionOf (nI v).toNatClampNeg = nI g := by rw [nI_clamp (by omega)]; exact ho
  have hi : vp_in (a_versionOf (nI v).toNatClampNeg) 4 := by rw [ho']; exact vp_in_nI hg (by omega)
  have hu : upd a_calledOf (a_versionOf (nI v).toNatClampNeg).toNatClampNeg ((a_calledOf (a_versionOf (nI v).toNatClampNeg).toNatClampNeg) + 1) = upd a_calledOf g (a_calledOf g + 1) := by
    rw [ho', nI_clamp (show g < 2 ^ 31 by omega)]
  exact br_f (fa_ne (b := 60) (by omega) (by omega) (by omega)) (nm_r (nI_1 c) (And.intro (vp_in_nI hv (by omega)) (And.intro (vp_in_nI hv (by omega)) (And.intro hi (And.intro hi (nm_r hu
    (And.intro (vp_in_nI hv (by omega)) (br_t hk' (nm_r fa_s1 (And.intro (vp_in_nI hh (by omega)) (And.intro (vp_in_nI hf (by omega)) (nm_r (fa_uxe (by omega) (fa_ix (by omega))) H))))))))))))
theorem xv_nB {post : Int32 → SX → Prop} {v fr c g : Nat} {p1 : Int32} (hv : v < 16) (hf : fr < 61) (hc : c < 60) (hg : g < 4) (ho : a_versionOf v = nI g) (hk : ¬ a_known v &&& 2 = 0)
    (H : wX_callVersion_89 post (nI v) p1 f_made f_height f_versions f_codeSize f_tasks f_values (nI fr) (nI (c + 1)) f_ended a_kind a_partA a_partB a_partC a_number a_size a_stack a_versionOf a_known a_knownA a_knownB a_entry a_fixed a_value a_code a_extra a_task a_phase a_hole a_pile a_frameA a_frameB a_back (upd a_calledOf g (a_calledOf g + 1))) :
    wpX_callVersion post (f_made, f_height, f_versions, f_codeSize, f_tasks, f_values, nI fr, nI c, f_ended, a_kind, a_partA, a_partB, a_partC, a_number, a_size, a_stack, a_versionOf, a_known, a_knownA, a_knownB, a_entry, a_fixed, a_value, a_code, a_extra, a_task, a_phase, a_hole, a_pile, a_frameA, a_frameB, a_back, a_calledOf) (nI v) p1 := by
  have hk' : ¬ a_known (nI v).toNatClampNeg &&& 2 = 0 := by rw [nI_clamp (by omega)]; exact hk
  have ho' : a_versionOf (nI v).toNatClampNeg = nI g := by rw [nI_clamp (by omega)]; exact ho
  have hi : vp_in (a_versionOf (nI v).toNatClampNeg) 4 := by rw [ho']; exact vp_in_nI hg (by omega)
  have hu : upd a_calledOf (a_versionOf (nI v).toNatClampNeg).toNatClampNeg ((a_calledOf (a_versionOf (nI v).toNatClampNeg).toNatClampNeg) + 1) = upd a_calledOf g (a_calledOf g + 1) := by
    rw [ho', nI_clamp (show g < 2 ^ 31 by omega)]
  exact br_f (fa_ne (b := 60) (by omega) (by omega) (by omega)) (nm_r (nI_1 c) (And.intro (vp_in_nI hv (by omega)) (And.intro (vp_in_nI hv (by omega)) (And.intro hi (And.intro hi (nm_r hu
    (And.intro (vp_in_nI hv (by omega)) (br_f hk' H))))))))
theorem xs_call {post : Int32 → SX → Prop} {at' v : Nat} (ha : at' < 640) (hc : a_code at' = 4) (hx : a_extra at' = nI v)
    (H : ∀ post' : Int32 → SX → Prop, (∀ r u, post r u → post' r u) → wpX_callVersion post' (f_made, f_height, f_versions, f_codeSize, f_tasks, f_values, f_frames, f_called, f_ended, a_kind, a_partA, a_partB, a_partC, a_number, a_size, a_stack, a_versionOf, a_known, a_knownA, a_knownB, a_entry, a_fixed, a_value, a_code, a_extra, a_task, a_phase, a_hole, a_pile, a_frameA, a_frameB, a_back, a_calledOf) (nI v) (nI (at' + 1))) : wpX_step post (f_made, f_height, f_versions, f_codeSize, f_tasks, f_values, f_frames, f_called, f_ended, a_kind, a_partA, a_partB, a_partC, a_number, a_size, a_stack, a_versionOf, a_known, a_knownA, a_knownB, a_entry, a_fixed, a_value, a_code, a_extra, a_task, a_phase, a_hole, a_pile, a_frameA, a_frameB, a_back, a_calledOf) (nI at') := by
  refine And.intro (vp_in_nI ha (by omega)) (nm_r ((fa_ix (by omega)).trans hc) (br_t (by decide) (br_t rfl (And.intro (vp_in_nI ha (by omega)) ?_))))
  rw [nI_clamp (show at' < 2 ^ 31 by omega), hx, nI_1]
  exact H _ (fun r u h => by obtain ⟨f_made, f_height, f_versions, f_codeSize, f_tasks, f_values, f_frames, f_called, f_ended, a_kind, a_partA, a_partB, a_partC, a_number, a_size, a_stack, a_versionOf, a_known, a_knownA, a_knownB, a_entry, a_fixed, a_value, a_code, a_extra, a_task, a_phase, a_hole, a_pile, a_frameA, a_frameB, a_back, a_calledOf⟩ := u; exact h)
end
end
section
/-! Runs of the component's code: steps in a row -/
def xu_cd (u : SX) : Nat → Int32 := u.2.2.2.2.2.2.2.2.2.2.2.2.2.2.2.2.2.2.2.2.2.2.2.1
def xu_ex (u : SX) : Nat → Int32 := u.2.2.2.2.2.2.2.2.2.2.2.2.2.2.2.2.2.2.2.2.2.2.2.2.1
def xu_vo (u : SX) : Nat → Int32 := u.2.2.2.2.2.2.2.2.2.2.2.2.2.2.2.2.1
def xu_kn (u : SX) : Nat → Int32 := u.2.2.2.2.2.2.2.2.2.2.2.2.2.2.2.2.2.1
def xu_kA (u : SX) : Nat → Int32 := u.2.2.2.2.2.2.2.2.2.2.2.2.2.2.2.2.2.2.1
def xu_kB (u : SX) : Nat → Int32 := u.2.2.2.2.2.2.2.2.2.2.2.2.2.2.2.2.2.2.2.1
def xu_en (u : SX) : Nat → Int32 := u.2.2.2.2.2.2.2.2.2.2.2.2.2.2.2.2.2.2.2.2.1
def fa_Tu (V : Nat) (u : SX) : fa_V := (V, xu_vo u, xu_kn u, xu_kA u, xu_kB u)
/-- a run's state: place, height, frames, called, pile, frames' arguments, returns, counts, ended -/
abbrev fa_XS : Type := Nat × Nat × Nat × Nat × (Nat → Int32) × (Nat → Int32) × (Nat → Int32) × (Nat → Int32) × (Nat → Int32) × Int32
def fa_WX (post : SX → Prop) (u : SX) (n i : Nat) (s : fa_XS) : Prop := match u with
  | (f_made, f_height, f_versions, f_codeSize, f_tasks, f_values, f_frames, f_called, f_ended, a_kind, a_partA, a_partB, a_partC, a_number, a_size, a_stack, a_versionOf, a_known, a_knownA, a_knownB, a_entry, a_fixed, a_value, a_code, a_extra, a_task, a_phase, a_hole, a_pile, a_frameA, a_frameB, a_back, a_calledOf) => match s with
    | (x_at, x_h, x_fr, x_c, x_pile, x_fA, x_fB, x_bk, x_co, x_e) => wX_execute_55 post n (nI x_at) (nI i) f_made f_height f_versions f_codeSize f_tasks (nI x_h) (nI x_fr) (nI x_c) x_e a_kind a_partA a_partB a_partC a_number a_size a_stack a_versionOf a_known a_knownA a_knownB a_entry a_fixed a_value a_code a_extra a_task a_phase a_hole x_pile x_fA x_fB x_bk x_co
def fa_GX (u : SX) (k : Nat) (s s' : fa_XS) : Prop := ∀ post n i, i + k ≤ 2500 → fa_WX post u n (i + k) s' → fa_WX post u (n + k) i s
theorem fa_GX_rf {u : SX} {s : fa_XS} : fa_GX u 0 s s := fun _ _ _ _ h => h
theorem fa_GX_tr {u : SX} {k1 k2 : Nat} {s1 s2 s3 : fa_XS} (h : fa_GX u k1 s1 s2) (g : fa_GX u k2 s2 s3) : fa_GX u (k1 + k2) s1 s3 := by
  intro post n i hi w
  have w2 : fa_WX post u n (i + k1 + k2) s3 := by rw [Nat.add_assoc]; exact w
  have w1 := g post n (i + k1) (by omega) w2
  have w0 := h post (n + k2) i (by omega) w1
  have e : n + (k1 + k2) = n + k2 + k1 := by omega
  rw [e]; exact w0
section
variable {f_made f_height f_versions f_codeSize f_tasks f_values f_frames f_called f_ended : Int32} {a_kind a_partA a_partB a_partC a_number a_size a_stack a_versionOf a_known a_knownA a_knownB a_entry a_fixed a_value a_code a_extra a_task a_phase a_hole a_pile a_frameA a_frameB a_back a_calledOf : Nat → Int32}
theorem gx_1 {at1 h1 fr1 c1 at2 h2 fr2 c2 : Nat} {pile1 fA1 fB1 bk1 co1 pile2 fA2 fB2 bk2 co2 : Nat → Int32} {e2 : Int32}
    (H : ∀ post' : Int32 → SX → Prop, post' (nI at2) (f_made, f_height, f_versions, f_codeSize, f_tasks, nI h2, nI fr2, nI c2, e2, a_kind, a_partA, a_partB, a_partC, a_number, a_size, a_stack, a_versionOf, a_known, a_knownA, a_knownB, a_entry, a_fixed, a_value, a_code, a_extra, a_task, a_phase, a_hole, pile2, fA2, fB2, bk2, co2) →
      wpX_step post' (f_made, f_height, f_versions, f_codeSize, f_tasks, nI h1, nI fr1, nI c1, -1, a_kind, a_partA, a_partB, a_partC, a_number, a_size, a_stack, a_versionOf, a_known, a_knownA, a_knownB, a_entry, a_fixed, a_value, a_code, a_extra, a_task, a_phase, a_hole, pile1, fA1, fB1, bk1, co1) (nI at1)) :
    fa_GX (f_made, f_height, f_versions, f_codeSize, f_tasks, f_values, f_frames, f_called, f_ended, a_kind, a_partA, a_partB, a_partC, a_number, a_size, a_stack, a_versionOf, a_known, a_knownA, a_knownB, a_entry, a_fixed, a_value, a_code, a_extra, a_task, a_phase, a_hole, a_pile, a_frameA, a_frameB, a_back, a_calledOf) 1 (at1, h1, fr1, c1, pile1, fA1, fB1, bk1, co1, -1) (at2, h2, fr2, c2, pile2, fA2, fB2, bk2, co2, e2) := by
  intro post n i hi w
  show wX_execute_55 post (n + 1) (nI at1) (nI i) f_made f_height f_versions f_codeSize f_tasks (nI h1) (nI fr1) (nI c1) (-1) a_kind a_partA a_partB a_partC a_number a_size a_stack a_versionOf a_known a_knownA a_knownB a_entry a_fixed a_value a_code a_extra a_task a_phase a_hole pile1 fA1 fB1 bk1 co1
  exact br_f (nI_ge (b := 2500) (by omega) (by omega)) (br_f (by decide) (H _ (nm_r (nI_1 i) w)))
end
section
variable {u : SX} {p h fr c : Nat} {pile fA fB bk co : Nat → Int32}
theorem gx_op {op : Nat} (ha : p < 640) (hh : h + 2 ≤ 1000) (ho : op < 4) (hc : xu_cd u p = nI op) :
    fa_GX u 1 (p, h + 2, fr, c, pile, fA, fB, bk, co, -1) (p + 1, h + 1, fr, c, upd pile h (fa_cmb op (pile h) (pile (h + 1))), fA, fB, bk, co, -1) := by
  obtain ⟨f_made, f_height, f_versions, f_codeSize, f_tasks, f_values, f_frames, f_called, f_ended, a_kind, a_partA, a_partB, a_partC, a_number, a_size, a_stack, a_versionOf, a_known, a_knownA, a_knownB, a_entry, a_fixed, a_value, a_code, a_extra, a_task, a_phase, a_hole, a_pile, a_frameA, a_frameB, a_back, a_calledOf⟩ := u
  exact gx_1 (fun post' H => xs_op ha hh ho hc H)
theorem gx_load (ha : p < 640) (hh : h < 1000) (hc : xu_cd u p = 5) :
    fa_GX u 1 (p, h, fr, c, pile, fA, fB, bk, co, -1) (p + 1, h + 1, fr, c, upd pile h (xu_ex u p), fA, fB, bk, co, -1) := by
  obtain ⟨f_made, f_height, f_versions, f_codeSize, f_tasks, f_values, f_frames, f_called, f_ended, a_kind, a_partA, a_partB, a_partC, a_number, a_size, a_stack, a_versionOf, a_known, a_knownA, a_knownB, a_entry, a_fixed, a_value, a_code, a_extra, a_task, a_phase, a_hole, a_pile, a_frameA, a_frameB, a_back, a_calledOf⟩ := u
  exact gx_1 (fun post' H => xs_load ha hh hc H)
theorem gx_takeA (ha : p < 640) (hh : h < 1000) (hf : fr < 61) (hc : xu_cd u p = 6) (hx : xu_ex u p = 0) :
    fa_GX u 1 (p, h, fr + 1, c, pile, fA, fB, bk, co, -1) (p + 1, h + 1, fr + 1, c, upd pile h (fA fr), fA, fB, bk, co, -1) := by
  obtain ⟨f_made, f_height, f_versions, f_codeSize, f_tasks, f_values, f_frames, f_called, f_ended, a_kind, a_partA, a_partB, a_partC, a_number, a_size, a_stack, a_versionOf, a_known, a_knownA, a_knownB, a_entry, a_fixed, a_value, a_code, a_extra, a_task, a_phase, a_hole, a_pile, a_frameA, a_frameB, a_back, a_calledOf⟩ := u
  exact gx_1 (fun post' H => xs_takeA ha hh hf hc hx H)
theorem gx_takeB (ha : p < 640) (hh : h < 1000) (hf : fr < 61) (hc : xu_cd u p = 6) (hx : ¬ xu_ex u p = 0) :
    fa_GX u 1 (p, h, fr + 1, c, pile, fA, fB, bk, co, -1) (p + 1, h + 1, fr + 1, c, upd pile h (fB fr), fA, fB, bk, co, -1) := by
  obtain ⟨f_made, f_height, f_versions, f_codeSize, f_tasks, f_values, f_frames, f_called, f_ended, a_kind, a_partA, a_partB, a_partC, a_number, a_size, a_stack, a_versionOf, a_known, a_knownA, a_knownB, a_entry, a_fixed, a_value, a_code, a_extra, a_task, a_phase, a_hole, a_pile, a_frameA, a_frameB, a_back, a_calledOf⟩ := u
  exact gx_1 (fun post' H => xs_takeB ha hh hf hc hx H)
theorem gx_jz0 {q : Nat} (ha : p < 640) (hh : h < 1000) (hc : xu_cd u p = 7) (hx : xu_ex u p = nI q) (hz : pile h = 0) :
    fa_GX u 1 (p, h + 1, fr, c, pile, fA, fB, bk, co, -1) (q, h, fr, c, pile, fA, fB, bk, co, -1) := by
  obtain ⟨f_made, f_height, f_versions, f_codeSize, f_tasks, f_values, f_frames, f_called, f_ended, a_kind, a_partA, a_partB, a_partC, a_number, a_size, a_stack, a_versionOf, a_known, a_knownA, a_knownB, a_entry, a_fixed, a_value, a_code, a_extra, a_task, a_phase, a_hole, a_pile, a_frameA, a_frameB, a_back, a_calledOf⟩ := u
  exact gx_1 (fun post' H => xs_jz0 ha hh hc hx hz H)
theorem gx_jz1 (ha : p < 640) (hh : h < 1000) (hc : xu_cd u p = 7) (hz : ¬ pile h = 0) :
    fa_GX u 1 (p, h + 1, fr, c, pile, fA, fB, bk, co, -1) (p + 1, h, fr, c, pile, fA, fB, bk, co, -1) := by
  obtain ⟨f_made, f_height, f_versions, f_codeSize, f_tasks, f_values, f_frames, f_called, f_ended, a_kind, a_partA, a_partB, a_partC, a_number, a_size, a_stack, a_versionOf, a_known, a_knownA, a_knownB, a_entry, a_fixed, a_value, a_code, a_extra, a_task, a_phase, a_hole, a_pile, a_frameA, a_frameB, a_back, a_calledOf⟩ := u
  exact gx_1 (fun post' H => xs_jz1 ha hh hc hz H)
theorem gx_jump {q : Nat} (ha : p < 640) (hc : xu_cd u p = 8) (hx : xu_ex u p = nI q) :
    fa_GX u 1 (p, h, fr, c, pile, fA, fB, bk, co, -1) (q, h, fr, c, pile, fA, fB, bk, co, -1) := by
  obtain ⟨f_made, f_height, f_versions, f_codeSize, f_tasks, f_values, f_frames, f_called, f_ended, a_kind, a_partA, a_partB, a_partC, a_number, a_size, a_stack, a_versionOf, a_known, a_knownA, a_knownB, a_entry, a_fixed, a_value, a_code, a_extra, a_task, a_phase, a_hole, a_pile, a_frameA, a_frameB, a_back, a_calledOf⟩ := u
  exact gx_1 (fun post' H => xs_jump ha hc hx H)
theorem gx_ret {q : Nat} (ha : p < 640) (hf : fr + 1 < 61) (hc : xu_cd u p = 9) (hb : bk (fr + 1) = nI q) :
    fa_GX u 1 (p, h, fr + 2, c, pile, fA, fB, bk, co, -1) (q, h, fr + 1, c, pile, fA, fB, bk, co, -1) := by
  obtain ⟨f_made, f_height, f_versions, f_codeSize, f_tasks, f_values, f_frames, f_called, f_ended, a_kind, a_partA, a_partB, a_partC, a_number, a_size, a_stack, a_versionOf, a_known, a_knownA, a_knownB, a_entry, a_fixed, a_value, a_code, a_extra, a_task, a_phase, a_hole, a_pile, a_frameA, a_frameB, a_back, a_calledOf⟩ := u
  exact gx_1 (fun post' H => xs_ret ha hf hc hb H)
theorem gx_tired {v : Nat} (ha : p < 640) (hc : xu_cd u p = 4) (hx : xu_ex u p = nI v) :
    fa_GX u 1 (p, h, fr, 60, pile, fA, fB, bk, co, -1) (p + 1, h, fr, 60, pile, fA, fB, bk, co, 1) := by
  obtain ⟨f_made, f_height, f_versions, f_codeSize, f_tasks, f_values, f_frames, f_called, f_ended, a_kind, a_partA, a_partB, a_partC, a_number, a_size, a_stack, a_versionOf, a_known, a_knownA, a_knownB, a_entry, a_fixed, a_value, a_code, a_extra, a_task, a_phase, a_hole, a_pile, a_frameA, a_frameB, a_back, a_calledOf⟩ := u
  exact gx_1 (fun post' H => xs_call ha hc hx (fun post2 hp => xv_tired (hp _ _ H)))
/-- a call's arguments, as they lie on the pile or are known -/
def fa_AR (kn kA kB : Int32) (H h : Nat) (pile : Nat → Int32) (x y : Int32) : Prop :=
  (kn &&& 1 = 0 ∧ kn &&& 2 = 0 ∧ H = h + 2 ∧ pile h = x ∧ pile (h + 1) = y) ∨
  (kn &&& 1 = 0 ∧ ¬ kn &&& 2 = 0 ∧ H = h + 1 ∧ pile h = x ∧ y = kB) ∨
  (¬ kn &&& 1 = 0 ∧ kn &&& 2 = 0 ∧ H = h + 1 ∧ pile h = y ∧ x = kA) ∨
  (¬ kn &&& 1 = 0 ∧ ¬ kn &&& 2 = 0 ∧ H = h ∧ x = kA ∧ y = kB)
theorem gx_call {v g e H : Nat} {x y : Int32} (ha : p < 640) (hc : xu_cd u p = 4) (hx : xu_ex u p = nI v) (hv : v < 16) (hf : fr < 61) (hcc : c < 60) (hg : g < 4) (hh : h + 2 ≤ 1000)
    (ho : xu_vo u v = nI g) (he : xu_en u v = nI e) (hA : fa_AR (xu_kn u v) (xu_kA u v) (xu_kB u v) H h pile x y) :
    ∃ fA1 fB1, fa_GX u 1 (p, H, fr, c, pile, fA, fB, bk, co, -1) (e, h, fr + 1, c + 1, pile, fA1, fB1, upd bk fr (nI (p + 1)), upd co g (co g + 1), -1) ∧
      (xu_kn u v &&& 1 = 0 → fA1 fr = x) ∧ (xu_kn u v &&& 2 = 0 → fB1 fr = y) ∧ ∀ j, j < fr → fA1 j = fA j ∧ fB1 j = fB j := by
  obtain ⟨f_made, f_height, f_versions, f_codeSize, f_tasks, f_values, f_frames, f_called, f_ended, a_kind, a_partA, a_partB, a_partC, a_number, a_size, a_stack, a_versionOf, a_known, a_knownA, a_knownB, a_entry, a_fixed, a_value, a_code, a_extra, a_task, a_phase, a_hole, a_pile, a_frameA, a_frameB, a_back, a_calledOf⟩ := u
  rcases hA with ⟨k1, k2, rfl, rfl, rfl⟩ | ⟨k1, k2, rfl, rfl, rfl⟩ | ⟨k1, k2, rfl, rfl, rfl⟩ | ⟨k1, k2, rfl, rfl, rfl⟩
  · exact ⟨upd fA fr (pile h), upd fB fr (pile (h + 1)),
      gx_1 (fun post' H => xs_call ha hc hx (fun post2 hp => xv_B (h := h + 1) hv hf hcc hg (by omega) ho k2 (xv_89t hv hf (by omega) he k1 (hp _ _ H)))),
      fun _ => pk_us, fun _ => pk_us, fun j hj => ⟨pk_un (by omega), pk_un (by omega)⟩⟩
  · exact ⟨upd fA fr (pile h), fB,
      gx_1 (fun post' H => xs_call ha hc hx (fun post2 hp => xv_nB hv hf hcc hg ho k2 (xv_89t hv hf (by omega) he k1 (hp _ _ H)))),
      fun _ => pk_us, fun z => absurd z k2, fun j hj => ⟨pk_un (by omega), rfl⟩⟩
  · exact ⟨fA, upd fB fr (pile h),
      gx_1 (fun post' H => xs_call ha hc hx (fun post2 hp => xv_B hv hf hcc hg (by omega) ho k2 (xv_89f hv hf he k1 (hp _ _ H)))),
      fun z => absurd z k1, fun _ => pk_us, fun j hj => ⟨rfl, pk_un (by omega)⟩⟩
  · exact ⟨fA, fB,
      gx_1 (fun post' H => xs_call ha hc hx (fun post2 hp => xv_nB hv hf hcc hg ho k2 (xv_89f hv hf he k1 (hp _ _ H)))),
      fun z => absurd z k1, fun z => absurd z k2, fun j hj => ⟨rfl, rfl⟩⟩
end
end
section
/-! The code of a term, run, gives the term's value -/
def fa_VOK (P : fa_P) (u : SX) (V j : Nat) : Prop := ∃ g fv e q, g < 4 ∧ xu_vo u j = nI g ∧
  (∀ t, t ≤ fa_rt P g → fa_FE P g (xu_kn u j) (xu_kA u j) (xu_kB u j) fv t) ∧ xu_en u j = nI e ∧
  fa_CF P g fv (fa_Tu V u) (xu_cd u) (xu_ex u) 14 (fa_rt P g) e q ∧ xu_cd u q = 9 ∧ q < 640
def fa_XD (u : SX) (B : Nat) (s0 : fa_XS) (q h fr : Nat) (pile fA fB bk : Nat → Int32) (x : Int32) (s' : fa_S) : Prop :=
  ∃ k pile' fA' fB' bk', k ≤ B ∧ fa_GX u k s0 (q, h + 1, fr + 1, s'.1, pile', fA', fB', bk', s'.2, -1) ∧ pile' h = x ∧ (∀ j, j < h → pile' j = pile j) ∧
    (∀ j, j ≤ fr → fA' j = fA j ∧ fB' j = fB j ∧ bk' j = bk j)
def fa_XI (u : SX) (B : Nat) (s0 : fa_XS) (s' : fa_S) : Prop :=
  ∃ k at' h' fr' pile' fA' fB' bk', k ≤ B ∧ fa_GX u k s0 (at', h', fr', s'.1, pile', fA', fB', bk', s'.2, 1)
def fa_XO (u : SX) (r : fa_R) (L : Nat) (s0 : fa_XS) (c q h fr : Nat) (pile fA fB bk : Nat → Int32) : Prop :=
  (∀ x s', r = (some x, s') → fa_XD u (L + 40 * (s'.1 - c)) s0 q h fr pile fA fB bk x s') ∧ (∀ s', r = (none, s') → fa_XI u (L + 40 * (s'.1 - c)) s0 s')
theorem fa_XIp {u : SX} {k B B' : Nat} {s0 s1 : fa_XS} {s' : fa_S} (g : fa_GX u k s0 s1) (h : fa_XI u B s1 s') (hb : k + B ≤ B') : fa_XI u B' s0 s' := by
  obtain ⟨k2, at', h', fr', pile', fA', fB', bk', hk, g2⟩ := h
  exact ⟨k + k2, at', h', fr', pile', fA', fB', bk', by omega, fa_GX_tr g g2⟩
theorem fa_XDp {u : SX} {k B B' : Nat} {s0 s1 : fa_XS} {q h fr : Nat} {pile fA fB bk pile1 fA1 fB1 bk1 : Nat → Int32} {x : Int32} {s' : fa_S} (g : fa_GX u k s0 s1)
    (H : fa_XD u B s1 q h fr pile1 fA1 fB1 bk1 x s') (hb : k + B ≤ B') (hp : ∀ j, j < h → pile1 j = pile j) (hf : ∀ j, j ≤ fr → fA1 j = fA j ∧ fB1 j = fB j ∧ bk1 j = bk j) :
    fa_XD u B' s0 q h fr pile fA fB bk x s' := by
  obtain ⟨k2, pile', fA', fB', bk', hk, g2, hx, hp2, hf2⟩ := H
  refine ⟨k + k2, pile', fA', fB', bk', by omega, fa_GX_tr g g2, hx, fun j hj => (hp2 j hj).trans (hp j hj), fun j hj => ?_⟩
  have w := hf2 j hj
  have w2 := hf j hj
  exact ⟨w.1.trans w2.1, w.2.1.trans w2.2.1, w.2.2.trans w2.2.2⟩
theorem fa_XOs {u : SX} {r : fa_R} {L c q h fr : Nat} {s0 : fa_XS} {pile fA fB bk : Nat → Int32} {x : Int32} {s' : fa_S} (e : r = (some x, s')) (H : fa_XD u (L + 40 * (s'.1 - c)) s0 q h fr pile fA fB bk x s') : fa_XO u r L s0 c q h fr pile fA fB bk := by
  subst e
  refine ⟨fun x2 s2 e2 => ?_, fun s2 e2 => nomatch e2⟩
  cases e2; exact H
theorem fa_XOn {u : SX} {r : fa_R} {L c q h fr : Nat} {s0 : fa_XS} {pile fA fB bk : Nat → Int32} {s' : fa_S} (e : r = (none, s')) (H : fa_XI u (L + 40 * (s'.1 - c)) s0 s') : fa_XO u r L s0 c q h fr pile fA fB bk := by
  subst e
  refine ⟨fun x2 s2 e2 => (by cases e2), fun s2 e2 => ?_⟩
  cases e2; exact H
/-- what is asked of calls -/
def fa_XC (u : SX) (V d : Nat) (C : Nat → Int32 → Int32 → fa_S → fa_R) : Prop :=
  ∀ (v g p H h fr c : Nat) (x y : Int32) (pile fA fB bk co : Nat → Int32), v < V → g < 4 → xu_vo u v = nI g → xu_cd u p = 4 → xu_ex u p = nI v → p < 640 → fr + 1 ≤ c → c ≤ 60 → 61 ≤ c + d →
    2 * h + 14 * (60 - c) + 5 ≤ 2000 → fa_AR (xu_kn u v) (xu_kA u v) (xu_kB u v) H h pile x y →
    fa_XO u (C g x y (c, co)) 1 (p, H, fr + 1, c, pile, fA, fB, bk, co, -1) c (p + 1) h fr pile fA fB bk
section
variable {u : SX} {P : fa_P} {V d : Nat} {C : Nat → Int32 → Int32 → fa_S → fa_R} {f : Nat} {fv : Nat → Option Int32} {kn kA kB a b : Int32}
/-- an operand: made by code, or known -/
theorem xr_opd {n t p m h fr c w : Nat} {kb kV : Int32} {pile fA fB bk co : Nat → Int32}
    (hk : kb &&& nI w = 0 → fa_XO u (fa_evT P C f a b n t (c, co)) (m - p) (p, h, fr + 1, c, pile, fA, fB, bk, co, -1) c m h fr pile fA fB bk)
    (hn : ¬ kb &&& nI w = 0 → m = p ∧ fa_evT P C f a b n t (c, co) = (some kV, (c, co))) :
    (∃ s1, fa_evT P C f a b n t (c, co) = (none, s1) ∧ fa_XI u (m - p + 40 * (s1.1 - c)) (p, h, fr + 1, c, pile, fA, fB, bk, co, -1) s1) ∨
    (∃ x s1 k1 hA pile1 fA1 fB1 bk1, fa_evT P C f a b n t (c, co) = (some x, s1) ∧ k1 ≤ m - p + 40 * (s1.1 - c) ∧
      fa_GX u k1 (p, h, fr + 1, c, pile, fA, fB, bk, co, -1) (m, hA, fr + 1, s1.1, pile1, fA1, fB1, bk1, s1.2, -1) ∧
      (kb &&& nI w = 0 → hA = h + 1 ∧ pile1 h = x) ∧ (¬ kb &&& nI w = 0 → hA = h ∧ x = kV) ∧ (∀ j, j < h → pile1 j = pile j) ∧
      (∀ j, j ≤ fr → fA1 j = fA j ∧ fB1 j = fB j ∧ bk1 j = bk j)) := by
  by_cases z : kb &&& nI w = 0
  · have hX := hk z
    rcases fa_rc (fa_evT P C f a b n t (c, co)) with ⟨s1, e⟩ | ⟨x, s1, e⟩
    · exact Or.inl ⟨s1, e, hX.2 s1 e⟩
    · obtain ⟨k1, pile1, fA1, fB1, bk1, hb, g, hx, hp, hf⟩ := hX.1 x s1 e
      exact Or.inr ⟨x, s1, k1, h + 1, pile1, fA1, fB1, bk1, e, hb, g, fun _ => ⟨rfl, hx⟩, fun z2 => absurd z z2, hp, hf⟩
  · obtain ⟨rfl, e⟩ := hn z
    exact Or.inr ⟨kV, (c, co), 0, h, pile, fA, fB, bk, e, Nat.zero_le _, fa_GX_rf, fun z2 => absurd z2 z, fun _ => ⟨rfl, rfl⟩, fun _ _ => rfl, fun _ _ => ⟨rfl, rfl, rfl⟩⟩
theorem xr_term (hP : fa_PW P) (hOK : fa_OKC C) (hC : fa_XC u V d C) (hf : f < 4)
    (hv : ∀ t, t ≤ fa_rt P f → fa_FE P f kn kA kB fv t) (hA : ¬ kn &&& 1 = 0 → a = kA) (hB : ¬ kn &&& 2 = 0 → b = kB) :
    ∀ (n t p q h fr c : Nat) (pile fA fB bk co : Nat → Int32), t < n → t ≤ fa_rt P f → fa_CF P f fv (fa_Tu V u) (xu_cd u) (xu_ex u) n t p q → q ≤ 640 →
      2 * h + fa_sz P f t + 14 * (60 - c) + 2 ≤ 2000 → fr + 1 ≤ c → c ≤ 60 → 61 ≤ c + d → (kn &&& 1 = 0 → fA fr = a) → (kn &&& 2 = 0 → fB fr = b) →
      fa_XO u (fa_evT P C f a b n t (c, co)) (q - p) (p, h, fr + 1, c, pile, fA, fB, bk, co, -1) c q h fr pile fA fB bk := by
  intro n
  induction n with
  | zero => intro t p q h fr c pile fA fB bk co hn; omega
  | succ n ih =>
    intro t p q h fr c pile fA fB bk co hn ht hcf hq hb hfr hc hd hfA hfB
    have hw := (hP f hf).2.2 t ht
    have hz := fa_sz1 hw
    obtain ⟨h0, h1, h2⟩ := hcf
    cases ev : fv t with
    | some x =>
      obtain ⟨e, hc5, hx⟩ := h1 x ev
      clear h2
      refine fa_XOs (fa_evV hP hf hv hA hB (n + 1) t (c, co) x hn ht ev) ?_
      refine ⟨1, upd pile h x, fA, fB, bk, by omega, ?_, pk_us, fun j hj => pk_un (by omega), fun _ _ => ⟨rfl, rfl, rfl⟩⟩
      have g := gx_load (u := u) (p := p) (h := h) (fr := fr + 1) (c := c) (pile := pile) (fA := fA) (fB := fB) (bk := bk) (co := co) (by omega) (by omega) hc5
      rw [hx] at g
      rw [e]; exact g
    | none =>
      obtain ⟨g10, g4, g7, g8⟩ := h2 ev
      obtain ⟨v9, v10, v11, v12, v13, v4, v7, v8⟩ := hv t ht
      clear h1 h2
      rcases hw with hw | hw | hw | hw
      · rw [v9 hw.1] at ev; exact nomatch ev
      · obtain ⟨e, hc6, hx⟩ := g10 hw.1
        clear g10 g4 g7 g8
        by_cases hnm : fa_nm P f t = 0
        · have hk : kn &&& 1 = 0 := Classical.byContradiction (fun z => by rw [v11 hw.1 hnm z] at ev; exact nomatch ev)
          have g := gx_takeA (u := u) (p := p) (h := h) (fr := fr) (c := c) (pile := pile) (fA := fA) (fB := fB) (bk := bk) (co := co) (by omega) (by omega) (by omega) hc6 (hx.trans hnm)
          refine fa_XOs (x := a) (s' := (c, co)) (by rw [fa_ev10 hw.1, if_pos hnm]) ?_
          refine ⟨1, upd pile h (fA fr), fA, fB, bk, by omega, by rw [e]; exact g, pk_us.trans (hfA hk), fun j hj => pk_un (by omega), fun _ _ => ⟨rfl, rfl, rfl⟩⟩
        · have hk : kn &&& 2 = 0 := Classical.byContradiction (fun z => by rw [v13 hw.1 hnm z] at ev; exact nomatch ev)
          have g := gx_takeB (u := u) (p := p) (h := h) (fr := fr) (c := c) (pile := pile) (fA := fA) (fB := fB) (bk := bk) (co := co) (by omega) (by omega) (by omega) hc6 (by rw [hx]; exact hnm)
          refine fa_XOs (x := b) (s' := (c, co)) (by rw [fa_ev10 hw.1, if_neg hnm]) ?_
          refine ⟨1, upd pile h (fB fr), fA, fB, bk, by omega, by rw [e]; exact g, pk_us.trans (hfB hk), fun j hj => pk_un (by omega), fun _ _ => ⟨rfl, rfl, rfl⟩⟩
      · clear g10 g8 v9 v10 v11 v12 v13 v4 v7 v8
        have szA := fa_sz1 ((hP f hf).2.2 (fa_pa P f t) (Nat.le_trans (Nat.le_of_lt hw.2.1) ht))
        have szB := fa_sz1 ((hP f hf).2.2 (fa_pb P f t) (Nat.le_trans (Nat.le_of_lt hw.2.2.1) ht))
        have mA := fa_mnT hP hOK hf (a := a) (b := b) n (fa_pa P f t) (c, co) (Nat.le_trans (Nat.le_of_lt hw.2.1) ht) hc
        by_cases h4 : fa_kd P f t < 4
        · obtain ⟨m, e, cA, cB, hce, rfl⟩ := g4 h4
          clear g4 g7
          have lA := fa_CF_lt cA
          have lB := fa_CF_lt cB
          have hXA := ih (fa_pa P f t) p m h fr c pile fA fB bk co (by omega) (by omega) cA (by omega) (by omega) hfr hc hd hfA hfB
          rw [fa_ev4 h4]
          rcases fa_rc (fa_evT P C f a b n (fa_pa P f t) (c, co)) with ⟨s1, eA⟩ | ⟨xA, s1, eA⟩
          · rw [eA] at mA
            have m1 : c ≤ s1.1 := mA.1
            exact fa_XOn (fa_bdN eA) (fa_XIp fa_GX_rf (hXA.2 s1 eA) (by omega))
          · rw [eA] at mA
            have m1 : c ≤ s1.1 := mA.1
            have m1' : s1.1 ≤ 60 := mA.2.1
            rw [fa_bdS eA]
            obtain ⟨k1, pile1, fA1, fB1, bk1, hk1, gA, hx1, hp1, hf1⟩ := hXA.1 xA s1 eA
            have mB := fa_mnT hP hOK hf (a := a) (b := b) n (fa_pb P f t) s1 (by omega) m1'
            have hXB := ih (fa_pb P f t) m e (h + 1) fr s1.1 pile1 fA1 fB1 bk1 s1.2 (by omega) (by omega) cB (by omega) (by omega) (by omega) m1' (by omega)
              (fun z => (hf1 fr (Nat.le_refl _)).1.trans (hfA z)) (fun z => (hf1 fr (Nat.le_refl _)).2.1.trans (hfB z))
            rcases fa_rc (fa_evT P C f a b n (fa_pb P f t) s1) with ⟨s2, eB⟩ | ⟨xB, s2, eB⟩
            · rw [eB] at mB
              have m2 : s1.1 ≤ s2.1 := mB.1
              exact fa_XOn (fa_bdN eB) (fa_XIp gA (hXB.2 s2 eB) (by omega))
            · rw [eB] at mB
              have m2 : s1.1 ≤ s2.1 := mB.1
              rw [fa_bdS eB]
              obtain ⟨k2, pile2, fA2, fB2, bk2, hk2, gB, hx2, hp2, hf2⟩ := hXB.1 xB s2 eB
              have g := gx_op (u := u) (p := e) (h := h) (fr := fr + 1) (c := s2.1) (pile := pile2) (fA := fA2) (fB := fB2) (bk := bk2) (co := s2.2) (by omega) (by omega) h4 hce
              refine fa_XOs rfl ⟨k1 + k2 + 1, _, fA2, fB2, bk2, by omega, fa_GX_tr (fa_GX_tr gA gB) g, ?_, fun j hj => ?_, fun j hj => ?_⟩
              · rw [pk_us, hp2 h (by omega), hx1, hx2]
              · rw [pk_un (by omega), hp2 j (by omega), hp1 j hj]
              · have w := hf2 j hj
                have w2 := hf1 j hj
                exact ⟨w.1.trans w2.1, w.2.1.trans w2.2.1, w.2.2.trans w2.2.2⟩
        · obtain ⟨v, m, e, hvV, ho, cA, kA', cB, kB', hce, hxe, rfl⟩ := g7 (Nat.le_of_not_lt h4) hw.1
          clear g4 g7
          have lA : p ≤ m := by
            by_cases z : fa_kn (fa_Tu V u) v &&& 1 = 0
            · exact Nat.le_of_lt (fa_CF_lt (cA z))
            · exact Nat.le_of_eq (kA' z).1.symm
          have lB : m ≤ e := by
            by_cases z : fa_kn (fa_Tu V u) v &&& 2 = 0
            · exact Nat.le_of_lt (fa_CF_lt (cB z))
            · exact Nat.le_of_eq (kB' z).1.symm
          rw [fa_ev7 (by omega) hw.1]
          have sA := xr_opd (u := u) (P := P) (C := C) (f := f) (a := a) (b := b) (n := n) (t := fa_pa P f t) (p := p) (m := m) (h := h) (fr := fr) (c := c) (w := 1) (kb := fa_kn (fa_Tu V u) v) (kV := fa_kA (fa_Tu V u) v) (pile := pile) (fA := fA) (fB := fB) (bk := bk) (co := co)
            (fun z => ih (fa_pa P f t) p m h fr c pile fA fB bk co (by omega) (by omega) (cA z) (by omega) (by omega) hfr hc hd hfA hfB)
            (fun z => ⟨(kA' z).1, fa_evV hP hf hv hA hB n (fa_pa P f t) (c, co) _ (by omega) (by omega) (kA' z).2⟩)
          rcases sA with ⟨s1, eA, hI⟩ | ⟨xA, s1, k1, hhA, pile1, fA1, fB1, bk1, eA, hk1, gA, b1, b2, hp1, hf1⟩
          · rw [eA] at mA
            have m1 : c ≤ s1.1 := mA.1
            exact fa_XOn (fa_bdN eA) (fa_XIp fa_GX_rf hI (by omega))
          · rw [eA] at mA
            have m1 : c ≤ s1.1 := mA.1
            have m1' : s1.1 ≤ 60 := mA.2.1
            rw [fa_bdS eA]
            have mB := fa_mnT hP hOK hf (a := a) (b := b) n (fa_pb P f t) s1 (by omega) m1'
            have hhA' : hhA ≤ h + 1 ∧ h ≤ hhA := by
              by_cases z : fa_kn (fa_Tu V u) v &&& nI 1 = 0
              · have := (b1 z).1; omega
              · have := (b2 z).1; omega
            have sB := xr_opd (u := u) (P := P) (C := C) (f := f) (a := a) (b := b) (n := n) (t := fa_pb P f t) (p := m) (m := e) (h := hhA) (fr := fr) (c := s1.1) (w := 2) (kb := fa_kn (fa_Tu V u) v) (kV := fa_kB (fa_Tu V u) v) (pile := pile1) (fA := fA1) (fB := fB1) (bk := bk1) (co := s1.2)
              (fun z => ih (fa_pb P f t) m e hhA fr s1.1 pile1 fA1 fB1 bk1 s1.2 (by omega) (by omega) (cB z) (by omega) (by omega) (by omega) m1' (by omega)
                (fun z => (hf1 fr (Nat.le_refl _)).1.trans (hfA z)) (fun z => (hf1 fr (Nat.le_refl _)).2.1.trans (hfB z)))
              (fun z => ⟨(kB' z).1, fa_evV hP hf hv hA hB n (fa_pb P f t) s1 _ (by omega) (by omega) (kB' z).2⟩)
            rcases sB with ⟨s2, eB, hI⟩ | ⟨xB, s2, k2, hhB, pile2, fA2, fB2, bk2, eB, hk2, gB, b3, b4, hp2, hf2⟩
            · have eB' : fa_evT P C f a b n (fa_pb P f t) s1 = (none, s2) := eB
              rw [eB'] at mB
              have m2 : s1.1 ≤ s2.1 := mB.1
              exact fa_XOn (fa_bdN eB') (fa_XIp gA hI (by omega))
            · have eB' : fa_evT P C f a b n (fa_pb P f t) s1 = (some xB, s2) := eB
              rw [eB'] at mB
              have m2 : s1.1 ≤ s2.1 := mB.1
              have m2' : s2.1 ≤ 60 := mB.2.1
              rw [fa_bdS eB']
              have hAR : fa_AR (xu_kn u v) (xu_kA u v) (xu_kB u v) hhB h pile2 xA xB := by
                by_cases z1 : xu_kn u v &&& 1 = 0
                · obtain ⟨rfl, y1⟩ := b1 z1
                  have y1' : pile2 h = xA := (hp2 h (by omega)).trans y1
                  by_cases z2 : xu_kn u v &&& 2 = 0
                  · obtain ⟨rfl, y2⟩ := b3 z2
                    exact Or.inl ⟨z1, z2, rfl, y1', y2⟩
                  · obtain ⟨rfl, y2⟩ := b4 z2
                    exact Or.inr (Or.inl ⟨z1, z2, rfl, y1', y2⟩)
                · obtain ⟨rfl, y1⟩ := b2 z1
                  by_cases z2 : xu_kn u v &&& 2 = 0
                  · obtain ⟨rfl, y2⟩ := b3 z2
                    exact Or.inr (Or.inr (Or.inl ⟨z1, z2, rfl, y2, y1⟩))
                  · obtain ⟨rfl, y2⟩ := b4 z2
                    exact Or.inr (Or.inr (Or.inr ⟨z1, z2, rfl, y1, y2⟩))
              have hcall := hC v (fa_kd P f t - 4) e hhB h fr s2.1 xA xB pile2 fA2 fB2 bk2 s2.2 hvV (by omega) ho hce hxe (by omega) (by omega) m2' (by omega) (by omega) hAR
              have mC := hOK (fa_kd P f t - 4) xA xB s2 (by omega) m2'
              have hpp : ∀ j, j < h → pile2 j = pile j := fun j hj => (hp2 j (by omega)).trans (hp1 j hj)
              have hff : ∀ j, j ≤ fr → fA2 j = fA j ∧ fB2 j = fB j ∧ bk2 j = bk j := fun j hj => by
                have w := hf2 j hj
                have w2 := hf1 j hj
                exact ⟨w.1.trans w2.1, w.2.1.trans w2.2.1, w.2.2.trans w2.2.2⟩
              rcases fa_rc (C (fa_kd P f t - 4) xA xB s2) with ⟨s3, eC⟩ | ⟨xC, s3, eC⟩
              · rw [eC] at mC
                have m3 : s2.1 ≤ s3.1 := mC.1
                exact fa_XOn eC (fa_XIp (fa_GX_tr gA gB) (hcall.2 s3 eC) (by omega))
              · rw [eC] at mC
                have m3 : s2.1 ≤ s3.1 := mC.1
                exact fa_XOs eC (fa_XDp (fa_GX_tr gA gB) (hcall.1 xC s3 eC) (by omega) hpp hff)
      · obtain ⟨r1, r2⟩ := g8 hw.1
        clear g10 g4 g7 g8 v9 v10 v11 v12 v13 v4 v7 v8
        rw [fa_ev8 hw.1]
        have szA := fa_sz1 ((hP f hf).2.2 (fa_pa P f t) (by omega))
        have szB := fa_sz1 ((hP f hf).2.2 (fa_pb P f t) (by omega))
        have szC := fa_sz1 ((hP f hf).2.2 (fa_pc P f t) (by omega))
        have mA := fa_mnT hP hOK hf (a := a) (b := b) n (fa_pa P f t) (c, co) (by omega) hc
        cases ea : fv (fa_pa P f t) with
        | some x =>
          have r1' := r1 x ea
          clear r1 r2
          have hs : fa_sd P f t x < t := by unfold fa_sd; split <;> omega
          have hs2 : fa_sz P f (fa_sd P f t x) ≤ fa_sz P f t := by unfold fa_sd; split <;> omega
          rw [fa_bdS (fa_evV hP hf hv hA hB n (fa_pa P f t) (c, co) x (by omega) (by omega) ea)]
          exact ih (fa_sd P f t x) p q h fr c pile fA fB bk co (by omega) (by omega) r1' hq (by omega) hfr hc hd hfA hfB
        | none =>
          obtain ⟨m1, m2, cA, c1, x1, cB, c2, x2, cC⟩ := r2 ea
          clear r1 r2
          have lA := fa_CF_lt cA
          have lB := fa_CF_lt cB
          have lC := fa_CF_lt cC
          have hXA := ih (fa_pa P f t) p m1 h fr c pile fA fB bk co (by omega) (by omega) cA (by omega) (by omega) hfr hc hd hfA hfB
          rcases fa_rc (fa_evT P C f a b n (fa_pa P f t) (c, co)) with ⟨s1, eA⟩ | ⟨xA, s1, eA⟩
          · rw [eA] at mA
            have m1 : c ≤ s1.1 := mA.1
            exact fa_XOn (fa_bdN eA) (fa_XIp fa_GX_rf (hXA.2 s1 eA) (by omega))
          · rw [eA] at mA
            have n1 : c ≤ s1.1 := mA.1
            have n1' : s1.1 ≤ 60 := mA.2.1
            rw [fa_bdS eA]
            obtain ⟨k1, pile1, fA1, fB1, bk1, hk1, gA, hx1, hp1, hf1⟩ := hXA.1 xA s1 eA
            by_cases z : xA = 0
            · have es : fa_sd P f t xA = fa_pc P f t := if_pos z
              rw [es]
              have g := gx_jz0 (u := u) (p := m1) (h := h) (fr := fr + 1) (c := s1.1) (pile := pile1) (fA := fA1) (fB := fB1) (bk := bk1) (co := s1.2) (q := m2 + 1) (by omega) (by omega) c1 x1 (hx1.trans z)
              have hXC := ih (fa_pc P f t) (m2 + 1) q h fr s1.1 pile1 fA1 fB1 bk1 s1.2 (by omega) (by omega) cC hq (by omega) (by omega) n1' (by omega)
                (fun z => (hf1 fr (Nat.le_refl _)).1.trans (hfA z)) (fun z => (hf1 fr (Nat.le_refl _)).2.1.trans (hfB z))
              have mC := fa_mnT hP hOK hf (a := a) (b := b) n (fa_pc P f t) s1 (by omega) n1'
              rcases fa_rc (fa_evT P C f a b n (fa_pc P f t) s1) with ⟨s2, eC⟩ | ⟨xC, s2, eC⟩
              · rw [eC] at mC
                have n2 : s1.1 ≤ s2.1 := mC.1
                exact fa_XOn eC (fa_XIp (fa_GX_tr gA g) (hXC.2 s2 eC) (by omega))
              · rw [eC] at mC
                have n2 : s1.1 ≤ s2.1 := mC.1
                exact fa_XOs eC (fa_XDp (fa_GX_tr gA g) (hXC.1 xC s2 eC) (by omega) hp1 hf1)
            · have es : fa_sd P f t xA = fa_pb P f t := if_neg z
              rw [es]
              have g := gx_jz1 (u := u) (p := m1) (h := h) (fr := fr + 1) (c := s1.1) (pile := pile1) (fA := fA1) (fB := fB1) (bk := bk1) (co := s1.2) (by omega) (by omega) c1 (by rw [hx1]; exact z)
              have hXB := ih (fa_pb P f t) (m1 + 1) m2 h fr s1.1 pile1 fA1 fB1 bk1 s1.2 (by omega) (by omega) cB (by omega) (by omega) (by omega) n1' (by omega)
                (fun z => (hf1 fr (Nat.le_refl _)).1.trans (hfA z)) (fun z => (hf1 fr (Nat.le_refl _)).2.1.trans (hfB z))
              have mB := fa_mnT hP hOK hf (a := a) (b := b) n (fa_pb P f t) s1 (by omega) n1'
              rcases fa_rc (fa_evT P C f a b n (fa_pb P f t) s1) with ⟨s2, eB⟩ | ⟨xB, s2, eB⟩
              · rw [eB] at mB
                have n2 : s1.1 ≤ s2.1 := mB.1
                exact fa_XOn eB (fa_XIp (fa_GX_tr gA g) (hXB.2 s2 eB) (by omega))
              · rw [eB] at mB
                have n2 : s1.1 ≤ s2.1 := mB.1
                obtain ⟨k2, pile2, fA2, fB2, bk2, hk2, gB, hx2, hp2, hf2⟩ := hXB.1 xB s2 eB
                have gj := gx_jump (u := u) (p := m2) (h := h + 1) (fr := fr + 1) (c := s2.1) (pile := pile2) (fA := fA2) (fB := fB2) (bk := bk2) (co := s2.2) (q := q) (by omega) c2 x2
                refine fa_XOs eB ⟨k1 + 1 + k2 + 1, pile2, fA2, fB2, bk2, by omega, fa_GX_tr (fa_GX_tr (fa_GX_tr gA g) gB) gj, hx2, fun j hj => (hp2 j hj).trans (hp1 j hj), fun j hj => ?_⟩
                have w := hf2 j hj
                have w2 := hf1 j hj
                exact ⟨w.1.trans w2.1, w.2.1.trans w2.2.1, w.2.2.trans w2.2.2⟩
end
theorem xr_call {u : SX} {P : fa_P} {V : Nat} (hP : fa_PW P) (hV : V ≤ 16) (hO : ∀ j, j < V → fa_VOK P u V j) : ∀ d, fa_XC u V d (fa_evC P d) := by
  intro d
  induction d with
  | zero => intro v g p H h fr c x y pile fA fB bk co _ _ _ _ _ _ _ hc hd; omega
  | succ d ih =>
    intro v g p H h fr c x y pile fA fB bk co hv hg ho hcd hex hp hfr hc hd hb hAR
    by_cases h60 : c = 60
    · subst h60
      have e : fa_evC P (d + 1) g x y (60, co) = (none, (60, co)) := by
        rw [fa_evC]; exact if_pos rfl
      exact fa_XOn e ⟨1, _, _, _, _, _, _, _, by omega, gx_tired hp hcd hex⟩
    · have e : fa_evC P (d + 1) g x y (c, co) = fa_evT P (fa_evC P d) g x y 14 (fa_rt P g) (c + 1, upd co g (co g + 1)) := if_neg h60
      rw [e]
      obtain ⟨g', fv, en, q, hg', ho', hFE, hen, hCF, hq9, hq⟩ := hO v hv
      have eg : g' = g := by
        have := ho'.symm.trans ho
        exact (nI_eq (by omega) (by omega)).mp this
      subst eg
      obtain ⟨hr1, hr2, hr3⟩ := hP g' hg
      have hlen := fa_CF_len hP hg hFE 14 _ _ _ (Nat.le_refl _) hCF
      have hlt := fa_CF_lt hCF
      obtain ⟨fA1, fB1, gc, wA, wB, wj⟩ := gx_call (u := u) (p := p) (h := h) (fr := fr + 1) (c := c) (pile := pile) (fA := fA) (fB := fB) (bk := bk) (co := co) hp hcd hex (by omega) (by omega) (by omega) hg (by omega) ho hen hAR
      have hkA : ¬ xu_kn u v &&& 1 = 0 → x = xu_kA u v := by
        intro z
        rcases hAR with w | w | w | w
        · exact absurd w.1 z
        · exact absurd w.1 z
        · exact w.2.2.2.2
        · exact w.2.2.2.1
      have hkB : ¬ xu_kn u v &&& 2 = 0 → y = xu_kB u v := by
        intro z
        rcases hAR with w | w | w | w
        · exact absurd w.2.1 z
        · exact w.2.2.2.2
        · exact absurd w.2.1 z
        · exact w.2.2.2.2
      have hX := xr_term hP (fa_mnC hP d) ih hg hFE hkA hkB 14 (fa_rt P g') en q h (fr + 1) (c + 1) pile fA1 fB1 (upd bk (fr + 1) (nI (p + 1))) (upd co g' (co g' + 1)) hr1 (Nat.le_refl _) hCF (by omega) (by omega) (by omega) (by omega) (by omega) wA wB
      have mT := fa_mnT hP (fa_mnC hP d) hg (a := x) (b := y) 14 (fa_rt P g') (c + 1, upd co g' (co g' + 1)) (Nat.le_refl _) (by show c + 1 ≤ 60; omega)
      rcases fa_rc (fa_evT P (fa_evC P d) g' x y 14 (fa_rt P g') (c + 1, upd co g' (co g' + 1))) with ⟨s1, eT⟩ | ⟨xT, s1, eT⟩
      · rw [eT] at mT
        have m1 : c + 1 ≤ s1.1 := mT.1
        exact fa_XOn eT (fa_XIp gc (hX.2 s1 eT) (by omega))
      · rw [eT] at mT
        have m1 : c + 1 ≤ s1.1 := mT.1
        obtain ⟨k1, pile1, fA2, fB2, bk2, hk1, gT, hx1, hp1, hf1⟩ := hX.1 xT s1 eT
        have gr := gx_ret (u := u) (p := q) (h := h + 1) (fr := fr) (c := s1.1) (pile := pile1) (fA := fA2) (fB := fB2) (bk := bk2) (co := s1.2) (q := p + 1) hq (by omega) hq9 ((hf1 (fr + 1) (Nat.le_refl _)).2.2.trans pk_us)
        refine fa_XOs eT ⟨1 + k1 + 1, pile1, fA2, fB2, bk2, by omega, fa_GX_tr (fa_GX_tr gc gT) gr, hx1, hp1, fun j hj => ?_⟩
        have w := hf1 j (by omega)
        have w2 := wj j (by omega)
        exact ⟨w.1.trans w2.1, w.2.1.trans w2.2, w.2.2.trans (pk_un (by omega))⟩
end
section
/-! The component's small methods for making code: emit, begin, versions -/
/-- version j is the one asked for -/
def fa_mt (vo kn kA kB : Nat → Int32) (g w a b : Int32) (j : Nat) : Prop := vo j = g ∧ kn j = w ∧ (w &&& 1 = 0 ∨ kA j = a) ∧ (w &&& 2 = 0 ∨ kB j = b)
section
variable {f_made f_height f_versions f_codeSize f_tasks f_values f_frames f_called f_ended : Int32} {a_kind a_partA a_partB a_partC a_number a_size a_stack a_versionOf a_known a_knownA a_knownB a_entry a_fixed a_value a_code a_extra a_task a_phase a_hole a_pile a_frameA a_frameB a_back a_calledOf : Nat → Int32}
theorem xp_emit {post : SX → Prop} {cs : Nat} {x y : Int32} (h : cs < 640) (H : post (f_made, f_height, f_versions, nI (cs + 1), f_tasks, f_values, f_frames, f_called, f_ended, a_kind, a_partA, a_partB, a_partC, a_number, a_size, a_stack, a_versionOf, a_known, a_knownA, a_knownB, a_entry, a_fixed, a_value, upd a_code cs x, upd a_extra cs y, a_task, a_phase, a_hole, a_pile, a_frameA, a_frameB, a_back, a_calledOf)) : wpX_emit post (f_made, f_height, f_versions, nI cs, f_tasks, f_values, f_frames, f_called, f_ended, a_kind, a_partA, a_partB, a_partC, a_number, a_size, a_stack, a_versionOf, a_known, a_knownA, a_knownB, a_entry, a_fixed, a_value, a_code, a_extra, a_task, a_phase, a_hole, a_pile, a_frameA, a_frameB, a_back, a_calledOf) x y :=
  And.intro (vp_in_nI h (by omega)) (nm_r (fa_ux (by omega)) (And.intro (vp_in_nI h (by omega)) (nm_r (fa_ux (by omega)) (nm_r (nI_1 cs) H))))
theorem xp_begin {post : SX → Prop} {k : Nat} {x : Int32} (h : k < 20) (H : post (f_made, f_height, f_versions, f_codeSize, nI (k + 1), f_values, f_frames, f_called, f_ended, a_kind, a_partA, a_partB, a_partC, a_number, a_size, a_stack, a_versionOf, a_known, a_knownA, a_knownB, a_entry, a_fixed, a_value, a_code, a_extra, upd a_task k x, upd a_phase k 0, a_hole, a_pile, a_frameA, a_frameB, a_back, a_calledOf)) : wpX_begin post (f_made, f_height, f_versions, f_codeSize, nI k, f_values, f_frames, f_called, f_ended, a_kind, a_partA, a_partB, a_partC, a_number, a_size, a_stack, a_versionOf, a_known, a_knownA, a_knownB, a_entry, a_fixed, a_value, a_code, a_extra, a_task, a_phase, a_hole, a_pile, a_frameA, a_frameB, a_back, a_calledOf) x :=
  And.intro (vp_in_nI h (by omega)) (nm_r (fa_ux (by omega)) (And.intro (vp_in_nI h (by omega)) (nm_r (fa_ux (by omega)) (nm_r (nI_1 k) H))))
theorem xp_addV {post : Int32 → SX → Prop} {V : Nat} {p0 p1 p2 p3 : Int32} (h : V < 16)
    (H : post (nI V) (f_made, f_height, nI (V + 1), f_codeSize, f_tasks, f_values, f_frames, f_called, f_ended, a_kind, a_partA, a_partB, a_partC, a_number, a_size, a_stack, upd a_versionOf V p0, upd a_known V p1, upd a_knownA V p2, upd a_knownB V p3, upd a_entry V (-1), a_fixed, a_value, a_code, a_extra, a_task, a_phase, a_hole, a_pile, a_frameA, a_frameB, a_back, a_calledOf)) :
    wpX_addVersion post (f_made, f_height, nI V, f_codeSize, f_tasks, f_values, f_frames, f_called, f_ended, a_kind, a_partA, a_partB, a_partC, a_number, a_size, a_stack, a_versionOf, a_known, a_knownA, a_knownB, a_entry, a_fixed, a_value, a_code, a_extra, a_task, a_phase, a_hole, a_pile, a_frameA, a_frameB, a_back, a_calledOf) p0 p1 p2 p3 := by
  refine And.intro (vp_in_nI h (by omega)) (nm_r (fa_ux (by omega)) (And.intro (vp_in_nI h (by omega)) (nm_r (fa_ux (by omega)) (And.intro (vp_in_nI h (by omega)) (nm_r (fa_ux (by omega)) (And.intro (vp_in_nI h (by omega)) (nm_r (fa_ux (by omega)) (And.intro (vp_in_nI h (by omega)) (nm_r (fa_ux (by omega)) (nm_r (nI_1 V) ?_))))))))))
  rw [nI_pred]; exact H
theorem vf_59 {post : Int32 → SX → Prop} {J3 : Int32 → Prop} {x1 x2 x3 x4 x6 z0 : Int32} {i : Nat} (hi : i < 16)
    (yes : a_versionOf i = x1 → a_known i = x2 → ¬ x6 = 0 → ¬ z0 = 0 → post (nI i) (f_made, f_height, f_versions, f_codeSize, f_tasks, f_values, f_frames, f_called, f_ended, a_kind, a_partA, a_partB, a_partC, a_number, a_size, a_stack, a_versionOf, a_known, a_knownA, a_knownB, a_entry, a_fixed, a_value, a_code, a_extra, a_task, a_phase, a_hole, a_pile, a_frameA, a_frameB, a_back, a_calledOf))
    (no : ¬ (a_versionOf i = x1 ∧ a_known i = x2 ∧ ¬ x6 = 0 ∧ ¬ z0 = 0) → J3 (nI (i + 1))) : wX_versionFor_59 post J3 x1 x2 x3 x4 (nI i) x6 z0 f_made f_height f_versions f_codeSize f_tasks f_values f_frames f_called f_ended a_kind a_partA a_partB a_partC a_number a_size a_stack a_versionOf a_known a_knownA a_knownB a_entry a_fixed a_value a_code a_extra a_task a_phase a_hole a_pile a_frameA a_frameB a_back a_calledOf := by
  unfold wX_versionFor_59
  rw [nI_clamp (show i < 2 ^ 31 by omega), nI_1]
  refine And.intro (vp_in_nI hi (by omega)) (br_c (fun h1 => And.intro (vp_in_nI hi (by omega)) (br_c (fun h2 => br_c (fun h3 => nm_e (no (fun w => w.2.2.1 h3))) (fun h3 => br_c (fun h4 => nm_e (no (fun w => w.2.2.2 h4))) (fun h4 => yes h1 h2 h3 h4))) (fun h2 => nm_e (no (fun w => h2 w.2.1))))) (fun h1 => nm_e (no (fun w => h1 w.1))))
theorem vf_34 {post : Int32 → SX → Prop} {J3 : Int32 → Prop} {x1 x2 x3 x4 z0 : Int32} {i : Nat} (hi : i < 16)
    (yes : a_versionOf i = x1 → a_known i = x2 → ¬ z0 = 0 → (x2 &&& 2 = 0 ∨ a_knownB i = x4) → post (nI i) (f_made, f_height, f_versions, f_codeSize, f_tasks, f_values, f_frames, f_called, f_ended, a_kind, a_partA, a_partB, a_partC, a_number, a_size, a_stack, a_versionOf, a_known, a_knownA, a_knownB, a_entry, a_fixed, a_value, a_code, a_extra, a_task, a_phase, a_hole, a_pile, a_frameA, a_frameB, a_back, a_calledOf))
    (no : ¬ (a_versionOf i = x1 ∧ a_known i = x2 ∧ ¬ z0 = 0 ∧ (x2 &&& 2 = 0 ∨ a_knownB i = x4)) → J3 (nI (i + 1))) : wX_versionFor_34 post J3 x1 x2 x3 x4 (nI i) z0 f_made f_height f_versions f_codeSize f_tasks f_values f_frames f_called f_ended a_kind a_partA a_partB a_partC a_number a_size a_stack a_versionOf a_known a_knownA a_knownB a_entry a_fixed a_value a_code a_extra a_task a_phase a_hole a_pile a_frameA a_frameB a_back a_calledOf := by
  have n10 : ¬ (1 : Int32) = 0 := by decide
  have eb : a_knownB (nI i).toNatClampNeg = a_knownB i := fa_ix (by omega)
  unfold wX_versionFor_34 wX_versionFor_54
  refine br_c (fun h1 => vf_59 hi (fun a b c _ => yes a b c (Or.inl h1)) (fun w => no (fun w2 => w ⟨w2.1, w2.2.1, w2.2.2.1, n10⟩)))
    (fun h1 => And.intro (vp_in_nI hi (by omega)) (br_c (fun h2 => vf_59 hi (fun a b c _ => yes a b c (Or.inr (eb.symm.trans h2))) (fun w => no (fun w2 => w ⟨w2.1, w2.2.1, w2.2.2.1, n10⟩)))
      (fun h2 => vf_59 hi (fun _ _ _ d => absurd rfl d) (fun _ => no (fun w2 => ?_)))))
  rcases w2.2.2.2 with e | e
  · exact h1 e
  · exact h2 (eb.trans e)
theorem vf_bd {post : Int32 → SX → Prop} {J3 : Int32 → Prop} {x1 x2 x3 x4 : Int32} {i : Nat} (hi : i < 16)
    (yes : fa_mt a_versionOf a_known a_knownA a_knownB x1 x2 x3 x4 i → post (nI i) (f_made, f_height, f_versions, f_codeSize, f_tasks, f_values, f_frames, f_called, f_ended, a_kind, a_partA, a_partB, a_partC, a_number, a_size, a_stack, a_versionOf, a_known, a_knownA, a_knownB, a_entry, a_fixed, a_value, a_code, a_extra, a_task, a_phase, a_hole, a_pile, a_frameA, a_frameB, a_back, a_calledOf))
    (no : ¬ fa_mt a_versionOf a_known a_knownA a_knownB x1 x2 x3 x4 i → J3 (nI (i + 1))) :
    (((x2 &&& 1) = 0 → (wX_versionFor_29 post J3 x1 x2 x3 x4 (nI i) f_made f_height f_versions f_codeSize f_tasks f_values f_frames f_called f_ended a_kind a_partA a_partB a_partC a_number a_size a_stack a_versionOf a_known a_knownA a_knownB a_entry a_fixed a_value a_code a_extra a_task a_phase a_hole a_pile a_frameA a_frameB a_back a_calledOf)) ∧ (¬ (x2 &&& 1) = 0 → (vp_in (nI i) 16 ∧ ((((a_knownA (nI i).toNatClampNeg) = x3 → (wX_versionFor_29 post J3 x1 x2 x3 x4 (nI i) f_made f_height f_versions f_codeSize f_tasks f_values f_frames f_called f_ended a_kind a_partA a_partB a_partC a_number a_size a_stack a_versionOf a_known a_knownA a_knownB a_entry a_fixed a_value a_code a_extra a_task a_phase a_hole a_pile a_frameA a_frameB a_back a_calledOf)) ∧ (¬ (a_knownA (nI i).toNatClampNeg) = x3 → (wX_versionFor_34 post J3 x1 x2 x3 x4 (nI i) 0 f_made f_height f_versions f_codeSize f_tasks f_values f_frames f_called f_ended a_kind a_partA a_partB a_partC a_number a_size a_stack a_versionOf a_known a_knownA a_knownB a_entry a_fixed a_value a_code a_extra a_task a_phase a_hole a_pile a_frameA a_frameB a_back a_calledOf))))))) := by
  have n10 : ¬ (1 : Int32) = 0 := by decide
  have eb : a_knownA (nI i).toNatClampNeg = a_knownA i := fa_ix (by omega)
  unfold wX_versionFor_29
  refine br_c (fun h1 => vf_34 hi (fun a b _ d => yes ⟨a, b, Or.inl h1, d⟩) (fun w => no (fun w2 => w ⟨w2.1, w2.2.1, n10, w2.2.2.2⟩)))
    (fun h1 => And.intro (vp_in_nI hi (by omega)) (br_c (fun h2 => vf_34 hi (fun a b _ d => yes ⟨a, b, Or.inr (eb.symm.trans h2), d⟩) (fun w => no (fun w2 => w ⟨w2.1, w2.2.1, n10, w2.2.2.2⟩)))
      (fun h2 => vf_34 hi (fun _ _ c _ => absurd rfl c) (fun _ => no (fun w2 => ?_)))))
  rcases w2.2.2.1 with e | e
  · exact h1 e
  · exact h2 (eb.trans e)
theorem vf_st {post : Int32 → SX → Prop} {x1 x2 x3 x4 : Int32} {n i V : Nat} (hV : V ≤ 16) (hi : i < V)
    (yes : fa_mt a_versionOf a_known a_knownA a_knownB x1 x2 x3 x4 i → post (nI i) (f_made, f_height, nI V, f_codeSize, f_tasks, f_values, f_frames, f_called, f_ended, a_kind, a_partA, a_partB, a_partC, a_number, a_size, a_stack, a_versionOf, a_known, a_knownA, a_knownB, a_entry, a_fixed, a_value, a_code, a_extra, a_task, a_phase, a_hole, a_pile, a_frameA, a_frameB, a_back, a_calledOf))
    (no : ¬ fa_mt a_versionOf a_known a_knownA a_knownB x1 x2 x3 x4 i → wX_versionFor_3 post x1 x2 x3 x4 f_made f_height (nI V) f_codeSize f_tasks f_values f_frames f_called f_ended a_kind a_partA a_partB a_partC a_number a_size a_stack a_versionOf a_known a_knownA a_knownB a_entry a_fixed a_value a_code a_extra a_task a_phase a_hole a_pile a_frameA a_frameB a_back a_calledOf n (nI (i + 1))) :
    wX_versionFor_3 post x1 x2 x3 x4 f_made f_height (nI V) f_codeSize f_tasks f_values f_frames f_called f_ended a_kind a_partA a_partB a_partC a_number a_size a_stack a_versionOf a_known a_knownA a_knownB a_entry a_fixed a_value a_code a_extra a_task a_phase a_hole a_pile a_frameA a_frameB a_back a_calledOf (n + 1) (nI i) := by
  rw [wX_versionFor_3]
  exact br_f (nI_ge hi (by omega)) (vf_bd (by omega) yes no)
theorem vf_sel {post : Int32 → SX → Prop} {x1 x2 x3 x4 : Int32} {v V : Nat} (hV : V ≤ 16) (hv : v < V) (hm : fa_mt a_versionOf a_known a_knownA a_knownB x1 x2 x3 x4 v)
    (hn : ∀ j, j < v → ¬ fa_mt a_versionOf a_known a_knownA a_knownB x1 x2 x3 x4 j) (H : post (nI v) (f_made, f_height, nI V, f_codeSize, f_tasks, f_values, f_frames, f_called, f_ended, a_kind, a_partA, a_partB, a_partC, a_number, a_size, a_stack, a_versionOf, a_known, a_knownA, a_knownB, a_entry, a_fixed, a_value, a_code, a_extra, a_task, a_phase, a_hole, a_pile, a_frameA, a_frameB, a_back, a_calledOf)) :
    ∀ k i, i + k = v → wX_versionFor_3 post x1 x2 x3 x4 f_made f_height (nI V) f_codeSize f_tasks f_values f_frames f_called f_ended a_kind a_partA a_partB a_partC a_number a_size a_stack a_versionOf a_known a_knownA a_knownB a_entry a_fixed a_value a_code a_extra a_task a_phase a_hole a_pile a_frameA a_frameB a_back a_calledOf (k + 1) (nI i) := by
  intro k
  induction k with
  | zero => intro i hi; have e : i = v := hi; subst e; exact vf_st hV hv (fun _ => H) (fun w => absurd hm w)
  | succ k ih => intro i hi; exact vf_st hV (by omega) (fun w => absurd w (hn i (by omega))) (fun _ => ih (i + 1) (by omega))
theorem vf_non {post : Int32 → SX → Prop} {x1 x2 x3 x4 : Int32} {V : Nat} (hV : V ≤ 16)
    (hn : ∀ j, j < V → ¬ fa_mt a_versionOf a_known a_knownA a_knownB x1 x2 x3 x4 j) (H : wX_versionFor_3 post x1 x2 x3 x4 f_made f_height (nI V) f_codeSize f_tasks f_values f_frames f_called f_ended a_kind a_partA a_partB a_partC a_number a_size a_stack a_versionOf a_known a_knownA a_knownB a_entry a_fixed a_value a_code a_extra a_task a_phase a_hole a_pile a_frameA a_frameB a_back a_calledOf 1 (nI V)) :
    ∀ k i, i + k = V → wX_versionFor_3 post x1 x2 x3 x4 f_made f_height (nI V) f_codeSize f_tasks f_values f_frames f_called f_ended a_kind a_partA a_partB a_partC a_number a_size a_stack a_versionOf a_known a_knownA a_knownB a_entry a_fixed a_value a_code a_extra a_task a_phase a_hole a_pile a_frameA a_frameB a_back a_calledOf (k + 1) (nI i) := by
  intro k
  induction k with
  | zero => intro i hi; have e : i = V := hi; subst e; exact H
  | succ k ih => intro i hi; exact vf_st hV (by omega) (fun w => absurd w (hn i (by omega))) (fun _ => ih (i + 1) (by omega))
end
/-- v is what versionFor answers, with no new version -/
def fa_Sel (T : fa_V) (g w a b : Int32) (v : Nat) : Prop :=
  (v < T.1 ∧ fa_mt (fa_vo T) (fa_kn T) (fa_kA T) (fa_kB T) g w a b v ∧ ∀ j, j < v → ¬ fa_mt (fa_vo T) (fa_kn T) (fa_kA T) (fa_kB T) g w a b j) ∨
  (T.1 = 16 ∧ v < 4 ∧ g = nI v ∧ ∀ j, j < 16 → ¬ fa_mt (fa_vo T) (fa_kn T) (fa_kA T) (fa_kB T) g w a b j)
theorem fa_mtX {T T' : fa_V} {g w a b : Int32} {j : Nat} (h : fa_VX T T') (hj : j < T.1) : fa_mt (fa_vo T') (fa_kn T') (fa_kA T') (fa_kB T') g w a b j ↔ fa_mt (fa_vo T) (fa_kn T) (fa_kA T) (fa_kB T) g w a b j := by
  have e := h.2 j hj
  unfold fa_mt
  rw [e.1, e.2.1, e.2.2.1, e.2.2.2]
theorem fa_SelX {T T' : fa_V} {g w a b : Int32} {v : Nat} (h : fa_VX T T') (h16 : T'.1 ≤ 16) (s : fa_Sel T g w a b v) : fa_Sel T' g w a b v := by
  have hl := h.1
  rcases s with ⟨s1, s2, s3⟩ | ⟨s1, s2, s2', s3⟩
  · exact Or.inl ⟨by omega, (fa_mtX h s1).mpr s2, fun j hj w => s3 j hj ((fa_mtX h (by omega)).mp w)⟩
  · exact Or.inr ⟨by omega, s2, s2', fun j hj w => s3 j hj ((fa_mtX h (by omega)).mp w)⟩
section
variable {f_made f_height f_versions f_codeSize f_tasks f_values f_frames f_called f_ended : Int32} {a_kind a_partA a_partB a_partC a_number a_size a_stack a_versionOf a_known a_knownA a_knownB a_entry a_fixed a_value a_code a_extra a_task a_phase a_hole a_pile a_frameA a_frameB a_back a_calledOf : Nat → Int32}
theorem xp_vfS {post : Int32 → SX → Prop} {x1 x2 x3 x4 : Int32} {v V : Nat} (hV : V ≤ 16) (hs : fa_Sel (V, a_versionOf, a_known, a_knownA, a_knownB) x1 x2 x3 x4 v) (H : post (nI v) (f_made, f_height, nI V, f_codeSize, f_tasks, f_values, f_frames, f_called, f_ended, a_kind, a_partA, a_partB, a_partC, a_number, a_size, a_stack, a_versionOf, a_known, a_knownA, a_knownB, a_entry, a_fixed, a_value, a_code, a_extra, a_task, a_phase, a_hole, a_pile, a_frameA, a_frameB, a_back, a_calledOf)) :
    wpX_versionFor post (f_made, f_height, nI V, f_codeSize, f_tasks, f_values, f_frames, f_called, f_ended, a_kind, a_partA, a_partB, a_partC, a_number, a_size, a_stack, a_versionOf, a_known, a_knownA, a_knownB, a_entry, a_fixed, a_value, a_code, a_extra, a_task, a_phase, a_hole, a_pile, a_frameA, a_frameB, a_back, a_calledOf) x1 x2 x3 x4 := by
  rcases hs with ⟨s1, s2, s3⟩ | ⟨s1, _, s2, s3⟩
  · exact ⟨v + 1, vf_sel hV s1 s2 s3 H v 0 (by omega)⟩
  · have e : V = 16 := s1
    subst e
    refine ⟨16 + 1, vf_non hV s3 ?_ 16 0 rfl⟩
    rw [wX_versionFor_3]
    exact br_t (nI_le (Nat.le_refl _) (by omega)) (br_t rfl (by rw [s2]; exact H))
theorem xp_vfN {post : Int32 → SX → Prop} {x1 x2 x3 x4 : Int32} {V : Nat} (hV : V < 16) (hn : ∀ j, j < V → ¬ fa_mt a_versionOf a_known a_knownA a_knownB x1 x2 x3 x4 j)
    (H : post (nI V) (f_made, f_height, nI (V + 1), f_codeSize, f_tasks, f_values, f_frames, f_called, f_ended, a_kind, a_partA, a_partB, a_partC, a_number, a_size, a_stack, upd a_versionOf V x1, upd a_known V x2, upd a_knownA V x3, upd a_knownB V x4, upd a_entry V (-1), a_fixed, a_value, a_code, a_extra, a_task, a_phase, a_hole, a_pile, a_frameA, a_frameB, a_back, a_calledOf)) :
    wpX_versionFor post (f_made, f_height, nI V, f_codeSize, f_tasks, f_values, f_frames, f_called, f_ended, a_kind, a_partA, a_partB, a_partC, a_number, a_size, a_stack, a_versionOf, a_known, a_knownA, a_knownB, a_entry, a_fixed, a_value, a_code, a_extra, a_task, a_phase, a_hole, a_pile, a_frameA, a_frameB, a_back, a_calledOf) x1 x2 x3 x4 := by
  refine ⟨V + 1, vf_non (by omega) hn ?_ V 0 (by omega)⟩
  rw [wX_versionFor_3]
  exact br_t (nI_le (Nat.le_refl _) (by omega)) (br_f (fa_ne (b := 16) (by omega) (by omega) (by omega)) (xp_addV hV H))
end
/-- a table of versions in order -/
def fa_VI (T : fa_V) : Prop := 4 ≤ T.1 ∧ T.1 ≤ 16 ∧ (∀ j, j < 4 → fa_vo T j = nI j ∧ fa_kn T j = 0) ∧ ∀ j, j < T.1 → (∃ g, g < 4 ∧ fa_vo T j = nI g) ∧ (fa_kn T j = 0 ∨ fa_kn T j = 1 ∨ fa_kn T j = 2 ∨ fa_kn T j = 3)
/-- entries: the old ones stay, new ones are not made yet -/
def fa_EX (V V' : Nat) (en en' : Nat → Int32) : Prop := (∀ j, j < V → en' j = en j) ∧ ∀ j, V ≤ j → j < V' → en' j = -1
theorem fa_EX_rf {V : Nat} {en : Nat → Int32} : fa_EX V V en en := ⟨fun _ _ => rfl, fun j h1 h2 => absurd h2 (by omega)⟩
theorem fa_EX_tr {V1 V2 V3 : Nat} {e1 e2 e3 : Nat → Int32} (h12 : V1 ≤ V2) (h : fa_EX V1 V2 e1 e2) (k : fa_EX V2 V3 e2 e3) : fa_EX V1 V3 e1 e3 :=
  ⟨fun j hj => (k.1 j (by omega)).trans (h.1 j hj), fun j h1 h2 => by
    by_cases z : j < V2
    · exact (k.1 j z).trans (h.2 j h1 z)
    · exact k.2 j (by omega) h2⟩
theorem fa_VXu {V : Nat} {vo kn kA kB : Nat → Int32} {x1 x2 x3 x4 : Int32} : fa_VX (V, vo, kn, kA, kB) (V + 1, upd vo V x1, upd kn V x2, upd kA V x3, upd kB V x4) := by
  refine ⟨by show V ≤ V + 1; omega, fun j hj => ?_⟩
  have h : j < V := hj
  exact ⟨pk_un (by omega), pk_un (by omega), pk_un (by omega), pk_un (by omega)⟩
section
variable {f_made f_height f_versions f_codeSize f_tasks f_values f_frames f_called f_ended : Int32} {a_kind a_partA a_partB a_partC a_number a_size a_stack a_versionOf a_known a_knownA a_knownB a_entry a_fixed a_value a_code a_extra a_task a_phase a_hole a_pile a_frameA a_frameB a_back a_calledOf : Nat → Int32}
theorem xp_vfA {x2 x3 x4 : Int32} {g V : Nat} (hg : g < 4) (hw : x2 = 0 ∨ x2 = 1 ∨ x2 = 2 ∨ x2 = 3) (hT : fa_VI (V, a_versionOf, a_known, a_knownA, a_knownB)) :
    ∃ v V' vo' kn' kA' kB' en', (∀ post : Int32 → SX → Prop, post (nI v) (f_made, f_height, nI V', f_codeSize, f_tasks, f_values, f_frames, f_called, f_ended, a_kind, a_partA, a_partB, a_partC, a_number, a_size, a_stack, vo', kn', kA', kB', en', a_fixed, a_value, a_code, a_extra, a_task, a_phase, a_hole, a_pile, a_frameA, a_frameB, a_back, a_calledOf) → wpX_versionFor post (f_made, f_height, nI V, f_codeSize, f_tasks, f_values, f_frames, f_called, f_ended, a_kind, a_partA, a_partB, a_partC, a_number, a_size, a_stack, a_versionOf, a_known, a_knownA, a_knownB, a_entry, a_fixed, a_value, a_code, a_extra, a_task, a_phase, a_hole, a_pile, a_frameA, a_frameB, a_back, a_calledOf) (nI g) x2 x3 x4) ∧
      fa_Sel (V', vo', kn', kA', kB') (nI g) x2 x3 x4 v ∧ fa_VX (V, a_versionOf, a_known, a_knownA, a_knownB) (V', vo', kn', kA', kB') ∧ fa_VI (V', vo', kn', kA', kB') ∧ fa_EX V V' a_entry en' := by
  obtain ⟨t1, t2, t3, t4⟩ := hT
  have t1' : 4 ≤ V := t1
  have t2' : V ≤ 16 := t2
  by_cases hm : ∃ j, j < V ∧ fa_mt a_versionOf a_known a_knownA a_knownB (nI g) x2 x3 x4 j
  · have hl : ∃ v, (v < V ∧ fa_mt a_versionOf a_known a_knownA a_knownB (nI g) x2 x3 x4 v) ∧ ∀ j, j < v → ¬ (j < V ∧ fa_mt a_versionOf a_known a_knownA a_knownB (nI g) x2 x3 x4 j) := by
      obtain ⟨j, hj⟩ := hm
      induction j using Nat.strongRecOn with
      | ind j ih =>
        by_cases z : ∃ i, i < j ∧ (i < V ∧ fa_mt a_versionOf a_known a_knownA a_knownB (nI g) x2 x3 x4 i)
        · obtain ⟨i, h1, h2⟩ := z
          exact ih i h1 h2
        · exact ⟨j, hj, fun i hi w => z ⟨i, hi, w⟩⟩
    obtain ⟨v, ⟨hv, hmv⟩, hno⟩ := hl
    have hs : fa_Sel (V, a_versionOf, a_known, a_knownA, a_knownB) (nI g) x2 x3 x4 v := Or.inl ⟨hv, hmv, fun j hj w => hno j hj ⟨by omega, w⟩⟩
    exact ⟨v, V, a_versionOf, a_known, a_knownA, a_knownB, a_entry, fun post H => xp_vfS t2 hs H, hs, fa_VX_rf _, ⟨t1, t2, t3, t4⟩, fa_EX_rf⟩
  · have hn : ∀ j, j < V → ¬ fa_mt a_versionOf a_known a_knownA a_knownB (nI g) x2 x3 x4 j := fun j hj w => hm ⟨j, hj, w⟩
    by_cases h16 : V = 16
    · subst h16
      have hs : fa_Sel (16, a_versionOf, a_known, a_knownA, a_knownB) (nI g) x2 x3 x4 g := Or.inr ⟨rfl, hg, rfl, hn⟩
      exact ⟨g, 16, a_versionOf, a_known, a_knownA, a_knownB, a_entry, fun post H => xp_vfS t2 hs H, hs, fa_VX_rf _, ⟨t1, t2, t3, t4⟩, fa_EX_rf⟩
    · have hx := fa_VXu (V := V) (vo := a_versionOf) (kn := a_known) (kA := a_knownA) (kB := a_knownB) (x1 := nI g) (x2 := x2) (x3 := x3) (x4 := x4)
      refine ⟨V, V + 1, _, _, _, _, _, fun post H => xp_vfN (by omega) hn H, ?_, hx, ?_, ?_⟩
      · refine Or.inl ⟨by show V < V + 1; omega, ⟨pk_us, pk_us, Or.inr pk_us, Or.inr pk_us⟩, fun j hj w => hn j hj ((fa_mtX hx hj).mp w)⟩
      · refine ⟨by show 4 ≤ V + 1; omega, by show V + 1 ≤ 16; omega, fun j hj => ?_, fun j hj => ?_⟩
        · have e := hx.2 j (show j < V by omega)
          rw [e.1, e.2.1]; exact t3 j hj
        · by_cases z : j < V
          · have e := hx.2 j z
            rw [e.1, e.2.1]; exact t4 j z
          · have hj' : j < V + 1 := hj
            have e : j = V := by omega
            subst e
            refine ⟨⟨g, hg, pk_us⟩, ?_⟩
            show upd a_known j x2 j = 0 ∨ upd a_known j x2 j = 1 ∨ upd a_known j x2 j = 2 ∨ upd a_known j x2 j = 3
            rw [pk_us]; exact hw
      · refine ⟨fun j hj => pk_un (by omega), fun j h1 h2 => ?_⟩
        have e : j = V := by omega
        subst e
        exact pk_us
end
end
section
/-! The component's steps of making code -/
theorem fa_at {f t : Nat} : (14 : Int32) * nI f + nI t = nI (14 * f + t) := (congrArg (fun z => z + nI t) (pk_mul 14 f)).trans (nI_add _ _)
def fa_w1 (x : Int32) : Int32 := if x = 0 then 0 else 1
def fa_w2 (x : Int32) : Int32 := if x = 0 then 0 else 2
section
variable {f_made f_height f_versions f_codeSize f_tasks f_values f_frames f_called f_ended : Int32} {a_kind a_partA a_partB a_partC a_number a_size a_stack a_versionOf a_known a_knownA a_knownB a_entry a_fixed a_value a_code a_extra a_task a_phase a_hole a_pile a_frameA a_frameB a_back a_calledOf : Nat → Int32}
theorem xc_48 {post : SX → Prop} {x3 z0 z1 : Int32} {i pa pb kd v k cs V1 : Nat} {vo1 kn1 kA1 kB1 en1 : Nat → Int32}
    (hi : i < 70) (ha : pa < 14) (hb : pb < 14) (hk4 : 4 ≤ kd) (hk8 : kd < 8) (ea : a_partA i = nI pa) (eb : a_partB i = nI pb) (ek : a_kind i = nI kd) (hv : v < 16) (hk : k + 1 < 20) (hcs : cs < 640)
    (Hvf : ∀ post' : Int32 → SX → Prop, post' (nI v) (f_made, f_height, nI V1, nI cs, nI (k + 1), f_values, f_frames, f_called, f_ended, a_kind, a_partA, a_partB, a_partC, a_number, a_size, a_stack, vo1, kn1, kA1, kB1, en1, a_fixed, a_value, a_code, a_extra, a_task, a_phase, a_hole, a_pile, a_frameA, a_frameB, a_back, a_calledOf) → wpX_versionFor post' (f_made, f_height, f_versions, nI cs, nI (k + 1), f_values, f_frames, f_called, f_ended, a_kind, a_partA, a_partB, a_partC, a_number, a_size, a_stack, a_versionOf, a_known, a_knownA, a_knownB, a_entry, a_fixed, a_value, a_code, a_extra, a_task, a_phase, a_hole, a_pile, a_frameA, a_frameB, a_back, a_calledOf) (nI (kd - 4)) (z1 + z0) (a_value pa) (a_value pb))
    (H0 : x3 = 0 → kn1 v &&& 1 = 0 → post (f_made, f_height, nI V1, nI cs, nI (k + 2), f_values, f_frames, f_called, f_ended, a_kind, a_partA, a_partB, a_partC, a_number, a_size, a_stack, vo1, kn1, kA1, kB1, en1, a_fixed, a_value, a_code, a_extra, upd a_task (k + 1) (nI pa), upd a_phase (k + 1) 0, a_hole, a_pile, a_frameA, a_frameB, a_back, a_calledOf))
    (H0n : x3 = 0 → ¬ kn1 v &&& 1 = 0 → post (f_made, f_height, nI V1, nI cs, nI (k + 1), f_values, f_frames, f_called, f_ended, a_kind, a_partA, a_partB, a_partC, a_number, a_size, a_stack, vo1, kn1, kA1, kB1, en1, a_fixed, a_value, a_code, a_extra, a_task, a_phase, a_hole, a_pile, a_frameA, a_frameB, a_back, a_calledOf))
    (H1 : x3 = 1 → kn1 v &&& 2 = 0 → post (f_made, f_height, nI V1, nI cs, nI (k + 2), f_values, f_frames, f_called, f_ended, a_kind, a_partA, a_partB, a_partC, a_number, a_size, a_stack, vo1, kn1, kA1, kB1, en1, a_fixed, a_value, a_code, a_extra, upd a_task (k + 1) (nI pb), upd a_phase (k + 1) 0, a_hole, a_pile, a_frameA, a_frameB, a_back, a_calledOf))
    (H1n : x3 = 1 → ¬ kn1 v &&& 2 = 0 → post (f_made, f_height, nI V1, nI cs, nI (k + 1), f_values, f_frames, f_called, f_ended, a_kind, a_partA, a_partB, a_partC, a_number, a_size, a_stack, vo1, kn1, kA1, kB1, en1, a_fixed, a_value, a_code, a_extra, a_task, a_phase, a_hole, a_pile, a_frameA, a_frameB, a_back, a_calledOf))
    (H2 : x3 = 2 → post (f_made, f_height, nI V1, nI (cs + 1), nI k, f_values, f_frames, f_called, f_ended, a_kind, a_partA, a_partB, a_partC, a_number, a_size, a_stack, vo1, kn1, kA1, kB1, en1, a_fixed, a_value, upd a_code cs 4, upd a_extra cs (nI v), a_task, a_phase, a_hole, a_pile, a_frameA, a_frameB, a_back, a_calledOf))
    (h3 : x3 = 0 ∨ x3 = 1 ∨ x3 = 2) : wX_stepCall_48 post x3 (nI i) z0 z1 f_made f_height f_versions (nI cs) (nI (k + 1)) f_values f_frames f_called f_ended a_kind a_partA a_partB a_partC a_number a_size a_stack a_versionOf a_known a_knownA a_knownB a_entry a_fixed a_value a_code a_extra a_task a_phase a_hole a_pile a_frameA a_frameB a_back a_calledOf := by
  have ea' : a_partA (nI i).toNatClampNeg = nI pa := (fa_ix (by omega)).trans ea
  have eb' : a_partB (nI i).toNatClampNeg = nI pb := (fa_ix (by omega)).trans eb
  have ek' : a_kind (nI i).toNatClampNeg - 4 = nI (kd - 4) := by rw [nI_clamp (by omega), ek]; exact pk_sub (b := 4) hk4
  have va : a_value (a_partA (nI i).toNatClampNeg).toNatClampNeg = a_value pa := by rw [ea']; exact fa_ix (by omega)
  have vb : a_value (a_partB (nI i).toNatClampNeg).toNatClampNeg = a_value pb := by rw [eb']; exact fa_ix (by omega)
  have iA : vp_in (a_partA (nI i).toNatClampNeg) 14 := by rw [ea']; exact vp_in_nI ha (by omega)
  have iB : vp_in (a_partB (nI i).toNatClampNeg) 14 := by rw [eb']; exact vp_in_nI hb (by omega)
  have ii : vp_in (nI i) 70 := vp_in_nI hi (by omega)
  have iv : vp_in (nI v) 16 := vp_in_nI hv (by omega)
  have cv : kn1 (nI v).toNatClampNeg = kn1 v := fa_ix (by omega)
  have d01 : ¬ (0 : Int32) = 1 := by decide
  have d02 : ¬ (0 : Int32) = 2 := by decide
  have d10 : ¬ (1 : Int32) = 0 := by decide
  have d12 : ¬ (1 : Int32) = 2 := by decide
  have d20 : ¬ (2 : Int32) = 0 := by decide
  have d21 : ¬ (2 : Int32) = 1 := by decide
  unfold wX_stepCall_48
  refine nm_e (And.intro ii (And.intro ii (And.intro iA (And.intro ii (And.intro iB ?_)))))
  rw [ek', va, vb]
  rcases h3 with rfl | rfl | rfl
  · refine Hvf _ (nm_r (nI_pred k) (br_t rfl (And.intro iv ?_)))
    by_cases z : kn1 v &&& 1 = 0
    · refine br_t (by rw [cv]; exact z) (And.intro ii ?_)
      rw [ea']
      exact xp_begin hk (H0 rfl z)
    · refine br_f (by rw [cv]; exact z) ?_
      unfold wX_stepCall_130 wX_stepCall_161
      exact br_f d01 (br_f d02 (H0n rfl z))
  · refine Hvf _ (nm_r (nI_pred k) (br_f d10 ?_))
    unfold wX_stepCall_130 wX_stepCall_161
    refine br_t rfl (And.intro iv ?_)
    by_cases z : kn1 v &&& 2 = 0
    · refine br_t (by rw [cv]; exact z) (And.intro ii ?_)
      rw [eb']
      exact xp_begin hk (H1 rfl z)
    · exact br_f (by rw [cv]; exact z) (br_f d12 (H1n rfl z))
  · refine Hvf _ (nm_r (nI_pred k) (br_f d20 ?_))
    unfold wX_stepCall_130 wX_stepCall_161
    exact br_f d21 (br_t rfl (xp_emit hcs (H2 rfl)))
theorem xc_stepCall {post : SX → Prop} {x3 : Int32} {f t pa pb : Nat} (hi : 14 * f + t < 70) (ha : pa < 14) (hb : pb < 14) (ea : a_partA (14 * f + t) = nI pa) (eb : a_partB (14 * f + t) = nI pb)
    {z0 z1 : Int32} (w1 : a_fixed pa = 0 → z1 = 0) (w1' : ¬ a_fixed pa = 0 → z1 = 1) (w2 : a_fixed pb = 0 → z0 = 0) (w2' : ¬ a_fixed pb = 0 → z0 = 2)
    (H : wX_stepCall_48 post x3 (nI (14 * f + t)) z0 z1 f_made f_height f_versions f_codeSize f_tasks f_values f_frames f_called f_ended a_kind a_partA a_partB a_partC a_number a_size a_stack a_versionOf a_known a_knownA a_knownB a_entry a_fixed a_value a_code a_extra a_task a_phase a_hole a_pile a_frameA a_frameB a_back a_calledOf) : wpX_stepCall post (f_made, f_height, f_versions, f_codeSize, f_tasks, f_values, f_frames, f_called, f_ended, a_kind, a_partA, a_partB, a_partC, a_number, a_size, a_stack, a_versionOf, a_known, a_knownA, a_knownB, a_entry, a_fixed, a_value, a_code, a_extra, a_task, a_phase, a_hole, a_pile, a_frameA, a_frameB, a_back, a_calledOf) (nI f) (nI t) x3 := by
  have ea' : a_partA (nI (14 * f + t)).toNatClampNeg = nI pa := (fa_ix (by omega)).trans ea
  have eb' : a_partB (nI (14 * f + t)).toNatClampNeg = nI pb := (fa_ix (by omega)).trans eb
  have va : a_fixed (a_partA (nI (14 * f + t)).toNatClampNeg).toNatClampNeg = a_fixed pa := by rw [ea']; exact fa_ix (by omega)
  have vb : a_fixed (a_partB (nI (14 * f + t)).toNatClampNeg).toNatClampNeg = a_fixed pb := by rw [eb']; exact fa_ix (by omega)
  have iA : vp_in (a_partA (nI (14 * f + t)).toNatClampNeg) 14 := by rw [ea']; exact vp_in_nI ha (by omega)
  have iB : vp_in (a_partB (nI (14 * f + t)).toNatClampNeg) 14 := by rw [eb']; exact vp_in_nI hb (by omega)
  have ii : vp_in (nI (14 * f + t)) 70 := vp_in_nI hi (by omega)
  refine nm_r fa_at (And.intro ii (And.intro iA ?_))
  rw [va]
  unfold wX_stepCall_28
  rw [vb]
  refine br_c (fun z => And.intro ii (And.intro iB ?_)) (fun z => And.intro ii (And.intro iB ?_))
  · have e1 := w1 z
    rw [e1] at H
    refine br_c (fun y => ?_) (fun y => ?_)
    · have e2 := w2 y
      rw [e2] at H; exact H
    · have e2 := w2' y
      rw [e2] at H; exact H
  · have e1 := w1' z
    rw [e1] at H
    refine br_c (fun y => ?_) (fun y => ?_)
    · have e2 := w2 y
      rw [e2] at H; exact H
    · have e2 := w2' y
      rw [e2] at H; exact H
/-- choose, what it chooses by being known -/
theorem xc_chK {post : SX → Prop} {x3 : Int32} {f t pa pd k : Nat} (hi : 14 * f + t < 70) (ha : pa < 14) (hk : k < 20) (ea : a_partA (14 * f + t) = nI pa) (hf : ¬ a_fixed pa = 0)
    (edC : a_value pa = 0 → a_partC (14 * f + t) = nI pd) (edB : ¬ a_value pa = 0 → a_partB (14 * f + t) = nI pd)
    (H : post (f_made, f_height, f_versions, f_codeSize, nI (k + 1), f_values, f_frames, f_called, f_ended, a_kind, a_partA, a_partB, a_partC, a_number, a_size, a_stack, a_versionOf, a_known, a_knownA, a_knownB, a_entry, a_fixed, a_value, a_code, a_extra, upd a_task k (nI pd), upd a_phase k 0, a_hole, a_pile, a_frameA, a_frameB, a_back, a_calledOf)) : wpX_stepChoose post (f_made, f_height, f_versions, f_codeSize, nI (k + 1), f_values, f_frames, f_called, f_ended, a_kind, a_partA, a_partB, a_partC, a_number, a_size, a_stack, a_versionOf, a_known, a_knownA, a_knownB, a_entry, a_fixed, a_value, a_code, a_extra, a_task, a_phase, a_hole, a_pile, a_frameA, a_frameB, a_back, a_calledOf) (nI f) (nI t) x3 := by
  have ea' : a_partA (nI (14 * f + t)).toNatClampNeg = nI pa := (fa_ix (by omega)).trans ea
  have vf : a_fixed (a_partA (nI (14 * f + t)).toNatClampNeg).toNatClampNeg = a_fixed pa := by rw [ea']; exact fa_ix (by omega)
  have va : a_value (a_partA (nI (14 * f + t)).toNatClampNeg).toNatClampNeg = a_value pa := by rw [ea']; exact fa_ix (by omega)
  have iA : vp_in (a_partA (nI (14 * f + t)).toNatClampNeg) 14 := by rw [ea']; exact vp_in_nI ha (by omega)
  have ii : vp_in (nI (14 * f + t)) 70 := vp_in_nI hi (by omega)
  refine nm_r fa_at (nm_r (nI_pred k) (And.intro ii (And.intro iA ?_)))
  refine br_f (by rw [vf]; exact hf) (And.intro ii (And.intro iA ?_))
  rw [va]
  unfold wX_stepChoose_70
  refine br_c (fun z => And.intro ii ?_) (fun z => And.intro ii ?_)
  · have ed := edC z
    have ec : a_partC (nI (14 * f + t)).toNatClampNeg = nI pd := (fa_ix (by omega)).trans ed
    rw [ec]
    exact xp_begin hk H
  · have ed := edB z
    have ec : a_partB (nI (14 * f + t)).toNatClampNeg = nI pd := (fa_ix (by omega)).trans ed
    rw [ec]
    exact xp_begin hk H
theorem xc_ch0 {post : SX → Prop} {f t pa k : Nat} (hi : 14 * f + t < 70) (ha : pa < 14) (hk : k + 1 < 20) (ea : a_partA (14 * f + t) = nI pa) (hf : a_fixed pa = 0)
    (H : post (f_made, f_height, f_versions, f_codeSize, nI (k + 2), f_values, f_frames, f_called, f_ended, a_kind, a_partA, a_partB, a_partC, a_number, a_size, a_stack, a_versionOf, a_known, a_knownA, a_knownB, a_entry, a_fixed, a_value, a_code, a_extra, upd a_task (k + 1) (nI pa), upd a_phase (k + 1) 0, a_hole, a_pile, a_frameA, a_frameB, a_back, a_calledOf)) : wpX_stepChoose post (f_made, f_height, f_versions, f_codeSize, nI (k + 1), f_values, f_frames, f_called, f_ended, a_kind, a_partA, a_partB, a_partC, a_number, a_size, a_stack, a_versionOf, a_known, a_knownA, a_knownB, a_entry, a_fixed, a_value, a_code, a_extra, a_task, a_phase, a_hole, a_pile, a_frameA, a_frameB, a_back, a_calledOf) (nI f) (nI t) 0 := by
  have ea' : a_partA (nI (14 * f + t)).toNatClampNeg = nI pa := (fa_ix (by omega)).trans ea
  have vf : a_fixed (a_partA (nI (14 * f + t)).toNatClampNeg).toNatClampNeg = 0 := by rw [ea']; exact (fa_ix (by omega)).trans hf
  have iA : vp_in (a_partA (nI (14 * f + t)).toNatClampNeg) 14 := by rw [ea']; exact vp_in_nI ha (by omega)
  have ii : vp_in (nI (14 * f + t)) 70 := vp_in_nI hi (by omega)
  refine nm_r fa_at (nm_r (nI_pred k) (And.intro ii (And.intro iA (br_t vf (br_t rfl (And.intro ii ?_))))))
  rw [ea']
  exact xp_begin hk H
theorem xc_ch1 {post : SX → Prop} {f t pa pb k cs : Nat} (hi : 14 * f + t < 70) (ha : pa < 14) (hk : k + 1 < 20) (hcs : cs < 640) (ea : a_partA (14 * f + t) = nI pa) (eb : a_partB (14 * f + t) = nI pb) (hf : a_fixed pa = 0)
    (H : post (f_made, f_height, f_versions, nI (cs + 1), nI (k + 2), f_values, f_frames, f_called, f_ended, a_kind, a_partA, a_partB, a_partC, a_number, a_size, a_stack, a_versionOf, a_known, a_knownA, a_knownB, a_entry, a_fixed, a_value, upd a_code cs 7, upd a_extra cs 0, upd a_task (k + 1) (nI pb), upd a_phase (k + 1) 0, upd a_hole k (nI cs), a_pile, a_frameA, a_frameB, a_back, a_calledOf)) : wpX_stepChoose post (f_made, f_height, f_versions, nI cs, nI (k + 1), f_values, f_frames, f_called, f_ended, a_kind, a_partA, a_partB, a_partC, a_number, a_size, a_stack, a_versionOf, a_known, a_knownA, a_knownB, a_entry, a_fixed, a_value, a_code, a_extra, a_task, a_phase, a_hole, a_pile, a_frameA, a_frameB, a_back, a_calledOf) (nI f) (nI t) 1 := by
  have ea' : a_partA (nI (14 * f + t)).toNatClampNeg = nI pa := (fa_ix (by omega)).trans ea
  have eb' : a_partB (nI (14 * f + t)).toNatClampNeg = nI pb := (fa_ix (by omega)).trans eb
  have vf : a_fixed (a_partA (nI (14 * f + t)).toNatClampNeg).toNatClampNeg = 0 := by rw [ea']; exact (fa_ix (by omega)).trans hf
  have iA : vp_in (a_partA (nI (14 * f + t)).toNatClampNeg) 14 := by rw [ea']; exact vp_in_nI ha (by omega)
  have ii : vp_in (nI (14 * f + t)) 70 := vp_in_nI hi (by omega)
  have d10 : ¬ (1 : Int32) = 0 := by decide
  refine nm_r fa_at (nm_r (nI_pred k) (And.intro ii (And.intro iA (br_t vf (br_f d10 (br_t rfl (And.intro (vp_in_nI (by omega) (by omega)) (nm_r (fa_ux (by omega)) (xp_emit hcs (And.intro ii ?_))))))))))
  rw [eb']
  exact xp_begin hk H
theorem xc_ch2 {post : SX → Prop} {f t pa pc k cs m : Nat} (hi : 14 * f + t < 70) (ha : pa < 14) (hk : k + 1 < 20) (hcs : cs < 640) (hm : m < 640) (ea : a_partA (14 * f + t) = nI pa) (ec : a_partC (14 * f + t) = nI pc) (hf : a_fixed pa = 0)
    (eh : a_hole k = nI m)
    (H : post (f_made, f_height, f_versions, nI (cs + 1), nI (k + 2), f_values, f_frames, f_called, f_ended, a_kind, a_partA, a_partB, a_partC, a_number, a_size, a_stack, a_versionOf, a_known, a_knownA, a_knownB, a_entry, a_fixed, a_value, upd a_code cs 8, upd (upd a_extra m (nI (cs + 1))) cs 0, upd a_task (k + 1) (nI pc), upd a_phase (k + 1) 0, upd a_hole k (nI cs), a_pile, a_frameA, a_frameB, a_back, a_calledOf)) : wpX_stepChoose post (f_made, f_height, f_versions, nI cs, nI (k + 1), f_values, f_frames, f_called, f_ended, a_kind, a_partA, a_partB, a_partC, a_number, a_size, a_stack, a_versionOf, a_known, a_knownA, a_knownB, a_entry, a_fixed, a_value, a_code, a_extra, a_task, a_phase, a_hole, a_pile, a_frameA, a_frameB, a_back, a_calledOf) (nI f) (nI t) 2 := by
  have ea' : a_partA (nI (14 * f + t)).toNatClampNeg = nI pa := (fa_ix (by omega)).trans ea
  have ec' : a_partC (nI (14 * f + t)).toNatClampNeg = nI pc := (fa_ix (by omega)).trans ec
  have eh' : a_hole (nI k).toNatClampNeg = nI m := (fa_ix (by omega)).trans eh
  have vf : a_fixed (a_partA (nI (14 * f + t)).toNatClampNeg).toNatClampNeg = 0 := by rw [ea']; exact (fa_ix (by omega)).trans hf
  have iA : vp_in (a_partA (nI (14 * f + t)).toNatClampNeg) 14 := by rw [ea']; exact vp_in_nI ha (by omega)
  have ii : vp_in (nI (14 * f + t)) 70 := vp_in_nI hi (by omega)
  have ik : vp_in (nI k) 20 := vp_in_nI (by omega) (by omega)
  have ih : vp_in (a_hole (nI k).toNatClampNeg) 640 := by rw [eh']; exact vp_in_nI hm (by omega)
  have hu : upd a_extra (a_hole (nI k).toNatClampNeg).toNatClampNeg (nI cs + 1) = upd a_extra m (nI (cs + 1)) := by rw [eh', nI_1]; exact fa_ux (by omega)
  have d20 : ¬ (2 : Int32) = 0 := by decide
  have d21 : ¬ (2 : Int32) = 1 := by decide
  refine nm_r fa_at (nm_r (nI_pred k) (And.intro ii (And.intro iA (br_t vf (br_f d20 (br_f d21 (br_t rfl (And.intro ik (And.intro ih (nm_r hu (And.intro ik (nm_r (fa_ux (by omega)) (xp_emit hcs (And.intro ii ?_))))))))))))))
  rw [ec']
  exact xp_begin hk H
theorem xc_ch3 {post : SX → Prop} {f t pa k cs m : Nat} (hi : 14 * f + t < 70) (ha : pa < 14) (hk : k < 20) (hm : m < 640) (ea : a_partA (14 * f + t) = nI pa) (hf : a_fixed pa = 0)
    (eh : a_hole k = nI m)
    (H : post (f_made, f_height, f_versions, nI cs, nI k, f_values, f_frames, f_called, f_ended, a_kind, a_partA, a_partB, a_partC, a_number, a_size, a_stack, a_versionOf, a_known, a_knownA, a_knownB, a_entry, a_fixed, a_value, a_code, upd a_extra m (nI cs), a_task, a_phase, a_hole, a_pile, a_frameA, a_frameB, a_back, a_calledOf)) : wpX_stepChoose post (f_made, f_height, f_versions, nI cs, nI (k + 1), f_values, f_frames, f_called, f_ended, a_kind, a_partA, a_partB, a_partC, a_number, a_size, a_stack, a_versionOf, a_known, a_knownA, a_knownB, a_entry, a_fixed, a_value, a_code, a_extra, a_task, a_phase, a_hole, a_pile, a_frameA, a_frameB, a_back, a_calledOf) (nI f) (nI t) 3 := by
  have ea' : a_partA (nI (14 * f + t)).toNatClampNeg = nI pa := (fa_ix (by omega)).trans ea
  have eh' : a_hole (nI k).toNatClampNeg = nI m := (fa_ix (by omega)).trans eh
  have vf : a_fixed (a_partA (nI (14 * f + t)).toNatClampNeg).toNatClampNeg = 0 := by rw [ea']; exact (fa_ix (by omega)).trans hf
  have iA : vp_in (a_partA (nI (14 * f + t)).toNatClampNeg) 14 := by rw [ea']; exact vp_in_nI ha (by omega)
  have ii : vp_in (nI (14 * f + t)) 70 := vp_in_nI hi (by omega)
  have ik : vp_in (nI k) 20 := vp_in_nI (by omega) (by omega)
  have ih : vp_in (a_hole (nI k).toNatClampNeg) 640 := by rw [eh']; exact vp_in_nI hm (by omega)
  have hu : upd a_extra (a_hole (nI k).toNatClampNeg).toNatClampNeg (nI cs) = upd a_extra m (nI cs) := by rw [eh']; exact fa_ux (by omega)
  have d30 : ¬ (3 : Int32) = 0 := by decide
  have d31 : ¬ (3 : Int32) = 1 := by decide
  have d32 : ¬ (3 : Int32) = 2 := by decide
  exact nm_r fa_at (nm_r (nI_pred k) (And.intro ii (And.intro iA (br_t vf (br_f d30 (br_f d31 (br_f d32 (And.intro ik (And.intro ih (nm_r hu H))))))))))
end
end
section
/-! Making code: steps in a row, each step's outcome in terms of an abstract state -/
def xu_ki (u : SX) : Nat → Int32 := u.2.2.2.2.2.2.2.2.2.1
def xu_pA (u : SX) : Nat → Int32 := u.2.2.2.2.2.2.2.2.2.2.1
def xu_pB (u : SX) : Nat → Int32 := u.2.2.2.2.2.2.2.2.2.2.2.1
def xu_pC (u : SX) : Nat → Int32 := u.2.2.2.2.2.2.2.2.2.2.2.2.1
def xu_nu (u : SX) : Nat → Int32 := u.2.2.2.2.2.2.2.2.2.2.2.2.2.1
def xu_fx (u : SX) : Nat → Int32 := u.2.2.2.2.2.2.2.2.2.2.2.2.2.2.2.2.2.2.2.2.2.1
def xu_vl (u : SX) : Nat → Int32 := u.2.2.2.2.2.2.2.2.2.2.2.2.2.2.2.2.2.2.2.2.2.2.1
section
variable {f_made f_height f_versions f_codeSize f_tasks f_values f_frames f_called f_ended : Int32} {a_kind a_partA a_partB a_partC a_number a_size a_stack a_versionOf a_known a_knownA a_knownB a_entry a_fixed a_value a_code a_extra a_task a_phase a_hole a_pile a_frameA a_frameB a_back a_calledOf : Nat → Int32}
theorem xt_fix {post : SX → Prop} {f t k ph cs : Nat} (hk : k < 20) (ht : t < 14) (hi : 14 * f + t < 70) (et : a_task k = nI t) (ep : a_phase k = nI ph) (hcs : cs < 640) (hf : ¬ a_fixed t = 0)
    (H : post (f_made, f_height, f_versions, nI (cs + 1), nI k, f_values, f_frames, f_called, f_ended, a_kind, a_partA, a_partB, a_partC, a_number, a_size, a_stack, a_versionOf, a_known, a_knownA, a_knownB, a_entry, a_fixed, a_value, upd a_code cs 5, upd a_extra cs (a_value t), a_task, upd a_phase k (nI (ph + 1)), a_hole, a_pile, a_frameA, a_frameB, a_back, a_calledOf)) : wpX_stepTerm post (f_made, f_height, f_versions, nI cs, nI (k + 1), f_values, f_frames, f_called, f_ended, a_kind, a_partA, a_partB, a_partC, a_number, a_size, a_stack, a_versionOf, a_known, a_knownA, a_knownB, a_entry, a_fixed, a_value, a_code, a_extra, a_task, a_phase, a_hole, a_pile, a_frameA, a_frameB, a_back, a_calledOf) (nI f) := by
  have ik : vp_in (nI k) 20 := vp_in_nI hk (by omega)
  refine nm_r (nI_pred k) (And.intro ik (nm_r ((fa_ix (by omega)).trans et) (And.intro ik (nm_r ((fa_ix (by omega)).trans ep) (And.intro ik (nm_r (fa_uxe (by omega) (nI_1 ph)) (nm_r fa_at (And.intro (vp_in_nI ht (by omega)) ?_))))))))
  rw [nI_clamp (show t < 2 ^ 31 by omega)]
  exact br_f hf (And.intro (vp_in_nI ht (by omega)) (xp_emit hcs H))
theorem xt_arg {post : SX → Prop} {f t k ph cs : Nat} (hk : k < 20) (ht : t < 14) (hi : 14 * f + t < 70) (et : a_task k = nI t) (ep : a_phase k = nI ph) (hcs : cs < 640) (hf : a_fixed t = 0) (ek : a_kind (14 * f + t) = 10)
    (H : post (f_made, f_height, f_versions, nI (cs + 1), nI k, f_values, f_frames, f_called, f_ended, a_kind, a_partA, a_partB, a_partC, a_number, a_size, a_stack, a_versionOf, a_known, a_knownA, a_knownB, a_entry, a_fixed, a_value, upd a_code cs 6, upd a_extra cs (a_number (14 * f + t)), a_task, upd a_phase k (nI (ph + 1)), a_hole, a_pile, a_frameA, a_frameB, a_back, a_calledOf)) : wpX_stepTerm post (f_made, f_height, f_versions, nI cs, nI (k + 1), f_values, f_frames, f_called, f_ended, a_kind, a_partA, a_partB, a_partC, a_number, a_size, a_stack, a_versionOf, a_known, a_knownA, a_knownB, a_entry, a_fixed, a_value, a_code, a_extra, a_task, a_phase, a_hole, a_pile, a_frameA, a_frameB, a_back, a_calledOf) (nI f) := by
  have ik : vp_in (nI k) 20 := vp_in_nI hk (by omega)
  have ii : vp_in (nI (14 * f + t)) 70 := vp_in_nI hi (by omega)
  refine nm_r (nI_pred k) (And.intro ik (nm_r ((fa_ix (by omega)).trans et) (And.intro ik (nm_r ((fa_ix (by omega)).trans ep) (And.intro ik (nm_r (fa_uxe (by omega) (nI_1 ph)) (nm_r fa_at (And.intro (vp_in_nI ht (by omega)) ?_))))))))
  rw [nI_clamp (show t < 2 ^ 31 by omega), nI_clamp (show 14 * f + t < 2 ^ 31 by omega)]
  exact br_t hf (And.intro ii (br_t ek (And.intro ii (xp_emit hcs H))))
theorem xt_ch {post : SX → Prop} {f t k ph : Nat} (hk : k < 20) (ht : t < 14) (hi : 14 * f + t < 70) (et : a_task k = nI t) (ep : a_phase k = nI ph) (hf : a_fixed t = 0) (ek : a_kind (14 * f + t) = 8)
    (H : wpX_stepChoose post (f_made, f_height, f_versions, f_codeSize, nI (k + 1), f_values, f_frames, f_called, f_ended, a_kind, a_partA, a_partB, a_partC, a_number, a_size, a_stack, a_versionOf, a_known, a_knownA, a_knownB, a_entry, a_fixed, a_value, a_code, a_extra, a_task, upd a_phase k (nI (ph + 1)), a_hole, a_pile, a_frameA, a_frameB, a_back, a_calledOf) (nI f) (nI t) (nI ph)) : wpX_stepTerm post (f_made, f_height, f_versions, f_codeSize, nI (k + 1), f_values, f_frames, f_called, f_ended, a_kind, a_partA, a_partB, a_partC, a_number, a_size, a_stack, a_versionOf, a_known, a_knownA, a_knownB, a_entry, a_fixed, a_value, a_code, a_extra, a_task, a_phase, a_hole, a_pile, a_frameA, a_frameB, a_back, a_calledOf) (nI f) := by
  have ik : vp_in (nI k) 20 := vp_in_nI hk (by omega)
  have ii : vp_in (nI (14 * f + t)) 70 := vp_in_nI hi (by omega)
  have e1 : ¬ a_kind (14 * f + t) = 10 := by rw [ek]; decide
  refine nm_r (nI_pred k) (And.intro ik (nm_r ((fa_ix (by omega)).trans et) (And.intro ik (nm_r ((fa_ix (by omega)).trans ep) (And.intro ik (nm_r (fa_uxe (by omega) (nI_1 ph)) (nm_r fa_at (And.intro (vp_in_nI ht (by omega)) ?_))))))))
  rw [nI_clamp (show t < 2 ^ 31 by omega), nI_clamp (show 14 * f + t < 2 ^ 31 by omega)]
  exact br_t hf (And.intro ii (br_f e1 (And.intro ii (br_t ek H))))
theorem xt_call {post : SX → Prop} {f t k ph kd : Nat} (hk : k < 20) (ht : t < 14) (hi : 14 * f + t < 70) (et : a_task k = nI t) (ep : a_phase k = nI ph) (hf : a_fixed t = 0) (ek : a_kind (14 * f + t) = nI kd) (h4 : 4 ≤ kd) (h8 : kd < 8)
    (H : wpX_stepCall post (f_made, f_height, f_versions, f_codeSize, nI (k + 1), f_values, f_frames, f_called, f_ended, a_kind, a_partA, a_partB, a_partC, a_number, a_size, a_stack, a_versionOf, a_known, a_knownA, a_knownB, a_entry, a_fixed, a_value, a_code, a_extra, a_task, upd a_phase k (nI (ph + 1)), a_hole, a_pile, a_frameA, a_frameB, a_back, a_calledOf) (nI f) (nI t) (nI ph)) : wpX_stepTerm post (f_made, f_height, f_versions, f_codeSize, nI (k + 1), f_values, f_frames, f_called, f_ended, a_kind, a_partA, a_partB, a_partC, a_number, a_size, a_stack, a_versionOf, a_known, a_knownA, a_knownB, a_entry, a_fixed, a_value, a_code, a_extra, a_task, a_phase, a_hole, a_pile, a_frameA, a_frameB, a_back, a_calledOf) (nI f) := by
  have ik : vp_in (nI k) 20 := vp_in_nI hk (by omega)
  have ii : vp_in (nI (14 * f + t)) 70 := vp_in_nI hi (by omega)
  have e1 : ¬ a_kind (14 * f + t) = 10 := by rw [ek]; exact fa_ne (b := 10) (by omega) (by omega) (by omega)
  have e2 : ¬ a_kind (14 * f + t) = 8 := by rw [ek]; exact fa_ne (b := 8) (by omega) (by omega) (by omega)
  have e3 : ¬ a_kind (14 * f + t) < 4 := by rw [ek]; exact nI_nlt (b := 4) (by omega) (by omega)
  refine nm_r (nI_pred k) (And.intro ik (nm_r ((fa_ix (by omega)).trans et) (And.intro ik (nm_r ((fa_ix (by omega)).trans ep) (And.intro ik (nm_r (fa_uxe (by omega) (nI_1 ph)) (nm_r fa_at (And.intro (vp_in_nI ht (by omega)) ?_))))))))
  rw [nI_clamp (show t < 2 ^ 31 by omega), nI_clamp (show 14 * f + t < 2 ^ 31 by omega)]
  exact br_t hf (And.intro ii (br_f e1 (And.intro ii (br_f e2 (And.intro ii (br_f e3 H))))))
theorem xt_op2 {post : SX → Prop} {f t k kd cs : Nat} (hk : k < 20) (ht : t < 14) (hi : 14 * f + t < 70) (et : a_task k = nI t) (ep : a_phase k = nI 2) (hcs : cs < 640) (hf : a_fixed t = 0) (ek : a_kind (14 * f + t) = nI kd) (h4 : kd < 4)
    (H : post (f_made, f_height, f_versions, nI (cs + 1), nI k, f_values, f_frames, f_called, f_ended, a_kind, a_partA, a_partB, a_partC, a_number, a_size, a_stack, a_versionOf, a_known, a_knownA, a_knownB, a_entry, a_fixed, a_value, upd a_code cs (nI kd), upd a_extra cs 0, a_task, upd a_phase k (nI 3), a_hole, a_pile, a_frameA, a_frameB, a_back, a_calledOf)) : wpX_stepTerm post (f_made, f_height, f_versions, nI cs, nI (k + 1), f_values, f_frames, f_called, f_ended, a_kind, a_partA, a_partB, a_partC, a_number, a_size, a_stack, a_versionOf, a_known, a_knownA, a_knownB, a_entry, a_fixed, a_value, a_code, a_extra, a_task, a_phase, a_hole, a_pile, a_frameA, a_frameB, a_back, a_calledOf) (nI f) := by
  have ik : vp_in (nI k) 20 := vp_in_nI hk (by omega)
  have ii : vp_in (nI (14 * f + t)) 70 := vp_in_nI hi (by omega)
  have e1 : ¬ a_kind (14 * f + t) = 10 := by rw [ek]; exact fa_ne (b := 10) (by omega) (by omega) (by omega)
  have e2 : ¬ a_kind (14 * f + t) = 8 := by rw [ek]; exact fa_ne (b := 8) (by omega) (by omega) (by omega)
  have e3 : a_kind (14 * f + t) < 4 := by rw [ek]; exact nI_lt (b := 4) (by omega) (by omega)
  refine nm_r (nI_pred k) (And.intro ik (nm_r ((fa_ix (by omega)).trans et) (And.intro ik (nm_r ((fa_ix (by omega)).trans ep) (And.intro ik (nm_r (fa_uxe (by omega) (nI_1 2)) (nm_r fa_at (And.intro (vp_in_nI ht (by omega)) ?_))))))))
  rw [nI_clamp (show t < 2 ^ 31 by omega), nI_clamp (show 14 * f + t < 2 ^ 31 by omega)]
  refine br_t hf (And.intro ii (br_f e1 (And.intro ii (br_f e2 (And.intro ii (br_t e3 (br_t (by decide) (And.intro ii ?_))))))))
  rw [ek]
  exact xp_emit hcs H
theorem xt_op01 {post : SX → Prop} {f t k kd pd ph : Nat} (hk : k < 20) (ht : t < 14) (hi : 14 * f + t < 70) (et : a_task k = nI t) (ep : a_phase k = nI ph) (hp : ph < 2) (hk1 : k + 1 < 20) (hf : a_fixed t = 0) (ek : a_kind (14 * f + t) = nI kd) (h4 : kd < 4)
    (ed : (if ph = 0 then a_partA (14 * f + t) else a_partB (14 * f + t)) = nI pd)
    (H : post (f_made, f_height, f_versions, f_codeSize, nI (k + 2), f_values, f_frames, f_called, f_ended, a_kind, a_partA, a_partB, a_partC, a_number, a_size, a_stack, a_versionOf, a_known, a_knownA, a_knownB, a_entry, a_fixed, a_value, a_code, a_extra, upd a_task (k + 1) (nI pd), upd (upd a_phase k (nI (ph + 1))) (k + 1) 0, a_hole, a_pile, a_frameA, a_frameB, a_back, a_calledOf)) : wpX_stepTerm post (f_made, f_height, f_versions, f_codeSize, nI (k + 1), f_values, f_frames, f_called, f_ended, a_kind, a_partA, a_partB, a_partC, a_number, a_size, a_stack, a_versionOf, a_known, a_knownA, a_knownB, a_entry, a_fixed, a_value, a_code, a_extra, a_task, a_phase, a_hole, a_pile, a_frameA, a_frameB, a_back, a_calledOf) (nI f) := by
  have ik : vp_in (nI k) 20 := vp_in_nI hk (by omega)
  have ii : vp_in (nI (14 * f + t)) 70 := vp_in_nI hi (by omega)
  have e1 : ¬ a_kind (14 * f + t) = 10 := by rw [ek]; exact fa_ne (b := 10) (by omega) (by omega) (by omega)
  have e2 : ¬ a_kind (14 * f + t) = 8 := by rw [ek]; exact fa_ne (b := 8) (by omega) (by omega) (by omega)
  have e3 : a_kind (14 * f + t) < 4 := by rw [ek]; exact nI_lt (b := 4) (by omega) (by omega)
  refine nm_r (nI_pred k) (And.intro ik (nm_r ((fa_ix (by omega)).trans et) (And.intro ik (nm_r ((fa_ix (by omega)).trans ep) (And.intro ik (nm_r (fa_uxe (by omega) (nI_1 ph)) (nm_r fa_at (And.intro (vp_in_nI ht (by omega)) ?_))))))))
  rw [nI_clamp (show t < 2 ^ 31 by omega), nI_clamp (show 14 * f + t < 2 ^ 31 by omega)]
  refine br_t hf (And.intro ii (br_f e1 (And.intro ii (br_f e2 (And.intro ii (br_t e3 (br_f (nI_ge (b := 2) hp (by omega)) ?_)))))))
  unfold wX_stepTerm_175
  refine br_c (fun z => And.intro ii ?_) (fun z => And.intro ii ?_)
  · have z0 : ph = 0 := (nI_eq (b := 0) (by omega) (by omega)).mp z
    rw [if_pos z0] at ed
    rw [ed]
    exact xp_begin hk1 H
  · have z0 : ¬ ph = 0 := fun e => z (by rw [e]; rfl)
    rw [if_neg z0] at ed
    rw [ed]
    exact xp_begin hk1 H
end
end
section
/-! Making code: the abstract state and its steps -/
/-- versions, size of the code, tasks; versionOf, known, knownA, knownB, entry; code, extra; task, phase, hole -/
abbrev fa_CS : Type := Nat × Nat × Nat × (Nat → Int32) × (Nat → Int32) × (Nat → Int32) × (Nat → Int32) × (Nat → Int32) × (Nat → Int32) × (Nat → Int32) × (Nat → Int32) × (Nat → Int32) × (Nat → Int32)
def cs_cs (s : fa_CS) : Nat := s.2.1
def cs_tk (s : fa_CS) : Nat := s.2.2.1
def cs_T (s : fa_CS) : fa_V := (s.1, s.2.2.2.1, s.2.2.2.2.1, s.2.2.2.2.2.1, s.2.2.2.2.2.2.1)
def cs_en (s : fa_CS) : Nat → Int32 := s.2.2.2.2.2.2.2.1
def cs_cd (s : fa_CS) : Nat → Int32 := s.2.2.2.2.2.2.2.2.1
def cs_ex (s : fa_CS) : Nat → Int32 := s.2.2.2.2.2.2.2.2.2.1
def cs_ta (s : fa_CS) : Nat → Int32 := s.2.2.2.2.2.2.2.2.2.2.1
def cs_ph (s : fa_CS) : Nat → Int32 := s.2.2.2.2.2.2.2.2.2.2.2.1
def cs_ho (s : fa_CS) : Nat → Int32 := s.2.2.2.2.2.2.2.2.2.2.2.2
def fa_WC (post : SX → Prop) (u : SX) (f n i : Nat) (s : fa_CS) : Prop := match u with
  | (f_made, f_height, f_versions, f_codeSize, f_tasks, f_values, f_frames, f_called, f_ended, a_kind, a_partA, a_partB, a_partC, a_number, a_size, a_stack, a_versionOf, a_known, a_knownA, a_knownB, a_entry, a_fixed, a_value, a_code, a_extra, a_task, a_phase, a_hole, a_pile, a_frameA, a_frameB, a_back, a_calledOf) => match s with
    | (c_V, c_cs, c_tk, c_vo, c_kn, c_kA, c_kB, c_en, c_cd, c_ex, c_ta, c_ph, c_ho) => wX_makeCode_60 post (nI f) n (nI i) f_made f_height (nI c_V) (nI c_cs) (nI c_tk) f_values f_frames f_called f_ended a_kind a_partA a_partB a_partC a_number a_size a_stack c_vo c_kn c_kA c_kB c_en a_fixed a_value c_cd c_ex c_ta c_ph c_ho a_pile a_frameA a_frameB a_back a_calledOf
def fa_GC (u : SX) (f k : Nat) (s s' : fa_CS) : Prop := ∀ post n i, i + k ≤ 80 → fa_WC post u f n (i + k) s' → fa_WC post u f (n + k) i s
theorem fa_GC_rf {u : SX} {f : Nat} {s : fa_CS} : fa_GC u f 0 s s := fun _ _ _ _ h => h
theorem fa_GC_tr {u : SX} {f k1 k2 : Nat} {s1 s2 s3 : fa_CS} (h : fa_GC u f k1 s1 s2) (g : fa_GC u f k2 s2 s3) : fa_GC u f (k1 + k2) s1 s3 := by
  intro post n i hi w
  have w2 : fa_WC post u f n (i + k1 + k2) s3 := by rw [Nat.add_assoc]; exact w
  have w1 := g post n (i + k1) (by omega) w2
  have w0 := h post (n + k2) i (by omega) w1
  have e : n + (k1 + k2) = n + k2 + k1 := by omega
  rw [e]; exact w0
def fa_FR (k p : Nat) (s s' : fa_CS) : Prop := fa_VX (cs_T s) (cs_T s') ∧ fa_VI (cs_T s') ∧ fa_EX s.1 s'.1 (cs_en s) (cs_en s') ∧
  (∀ j, j < p → cs_cd s' j = cs_cd s j ∧ cs_ex s' j = cs_ex s j) ∧ (∀ j, j < k → cs_ta s' j = cs_ta s j ∧ cs_ph s' j = cs_ph s j ∧ cs_ho s' j = cs_ho s j)
theorem fa_FR_tr {k k' p p' : Nat} {s1 s2 s3 : fa_CS} (h : fa_FR k p s1 s2) (g : fa_FR k' p' s2 s3) (hk : k ≤ k') (hp : p ≤ p') : fa_FR k p s1 s3 := by
  obtain ⟨h1, h2, h3, h4, h5⟩ := h
  obtain ⟨g1, g2, g3, g4, g5⟩ := g
  refine ⟨fa_VX_tr h1 g1, g2, fa_EX_tr h1.1 h3 g3, fun j hj => ?_, fun j hj => ?_⟩
  · have a := h4 j hj
    have b := g4 j (by omega)
    exact ⟨b.1.trans a.1, b.2.trans a.2⟩
  · have a := h5 j hj
    have b := g5 j (by omega)
    exact ⟨b.1.trans a.1, b.2.1.trans a.2.1, b.2.2.trans a.2.2⟩
section
variable {f_made f_height f_versions f_codeSize f_tasks f_values f_frames f_called f_ended : Int32} {a_kind a_partA a_partB a_partC a_number a_size a_stack a_versionOf a_known a_knownA a_knownB a_entry a_fixed a_value a_code a_extra a_task a_phase a_hole a_pile a_frameA a_frameB a_back a_calledOf : Nat → Int32}
variable {f : Nat} {c_V c_cs c_tk d_V d_cs d_tk : Nat} {c_vo c_kn c_kA c_kB c_en c_cd c_ex c_ta c_ph c_ho d_vo d_kn d_kA d_kB d_en d_cd d_ex d_ta d_ph d_ho : Nat → Int32}
theorem gc_1 (ht : 0 < c_tk) (ht2 : c_tk < 100) (H : ∀ post' : SX → Prop, post' (f_made, f_height, nI d_V, nI d_cs, nI d_tk, f_values, f_frames, f_called, f_ended, a_kind, a_partA, a_partB, a_partC, a_number, a_size, a_stack, d_vo, d_kn, d_kA, d_kB, d_en, a_fixed, a_value, d_cd, d_ex, d_ta, d_ph, d_ho, a_pile, a_frameA, a_frameB, a_back, a_calledOf) → wpX_stepTerm post' (f_made, f_height, nI c_V, nI c_cs, nI c_tk, f_values, f_frames, f_called, f_ended, a_kind, a_partA, a_partB, a_partC, a_number, a_size, a_stack, c_vo, c_kn, c_kA, c_kB, c_en, a_fixed, a_value, c_cd, c_ex, c_ta, c_ph, c_ho, a_pile, a_frameA, a_frameB, a_back, a_calledOf) (nI f)) : fa_GC (f_made, f_height, f_versions, f_codeSize, f_tasks, f_values, f_frames, f_called, f_ended, a_kind, a_partA, a_partB, a_partC, a_number, a_size, a_stack, a_versionOf, a_known, a_knownA, a_knownB, a_entry, a_fixed, a_value, a_code, a_extra, a_task, a_phase, a_hole, a_pile, a_frameA, a_frameB, a_back, a_calledOf) f 1 (c_V, c_cs, c_tk, c_vo, c_kn, c_kA, c_kB, c_en, c_cd, c_ex, c_ta, c_ph, c_ho) (d_V, d_cs, d_tk, d_vo, d_kn, d_kA, d_kB, d_en, d_cd, d_ex, d_ta, d_ph, d_ho) := by
  intro post n i hi w
  show wX_makeCode_60 post (nI f) (n + 1) (nI i) f_made f_height (nI c_V) (nI c_cs) (nI c_tk) f_values f_frames f_called f_ended a_kind a_partA a_partB a_partC a_number a_size a_stack c_vo c_kn c_kA c_kB c_en a_fixed a_value c_cd c_ex c_ta c_ph c_ho a_pile a_frameA a_frameB a_back a_calledOf
  exact br_f (nI_ge (b := 80) (by omega) (by omega)) (br_f (nI_nle ht (by omega)) (H _ (nm_r (nI_1 i) w)))
end
section
variable {u : SX} {f t k ph : Nat} {s : fa_CS}
theorem gc_fix (hk : k < 19) (ht : t < 14) (hi : 14 * f + t < 70) (hT : fa_VI (cs_T s)) (htk : cs_tk s = k + 1) (et : cs_ta s k = nI t) (ep : cs_ph s k = nI ph) (hcs : cs_cs s < 640) (hf : ¬ xu_fx u t = 0) :
    ∃ s', fa_GC u f 1 s s' ∧ cs_tk s' = k ∧ cs_cs s' = cs_cs s + 1 ∧ cs_cd s' (cs_cs s) = 5 ∧ cs_ex s' (cs_cs s) = xu_vl u t ∧ fa_FR k (cs_cs s) s s' := by
  obtain ⟨f_made, f_height, f_versions, f_codeSize, f_tasks, f_values, f_frames, f_called, f_ended, a_kind, a_partA, a_partB, a_partC, a_number, a_size, a_stack, a_versionOf, a_known, a_knownA, a_knownB, a_entry, a_fixed, a_value, a_code, a_extra, a_task, a_phase, a_hole, a_pile, a_frameA, a_frameB, a_back, a_calledOf⟩ := u; obtain ⟨c_V, c_cs, c_tk, c_vo, c_kn, c_kA, c_kB, c_en, c_cd, c_ex, c_ta, c_ph, c_ho⟩ := s; have e0 : c_tk = k + 1 := htk; subst e0
  refine ⟨_, gc_1 (by omega) (by omega) (fun post' H => xt_fix (by omega) ht hi et ep hcs hf H), rfl, rfl, pk_us, pk_us, fa_VX_rf _, hT, fa_EX_rf, fun j hj => ?_, fun j hj => ?_⟩
  · have hj' : j < c_cs := hj
    exact ⟨pk_un (by omega), pk_un (by omega)⟩
  · exact ⟨rfl, pk_un (by omega), rfl⟩
theorem gc_arg (hk : k < 19) (ht : t < 14) (hi : 14 * f + t < 70) (hT : fa_VI (cs_T s)) (htk : cs_tk s = k + 1) (et : cs_ta s k = nI t) (ep : cs_ph s k = nI ph) (hcs : cs_cs s < 640) (hf : xu_fx u t = 0) (ek : xu_ki u (14 * f + t) = 10) :
    ∃ s', fa_GC u f 1 s s' ∧ cs_tk s' = k ∧ cs_cs s' = cs_cs s + 1 ∧ cs_cd s' (cs_cs s) = 6 ∧ cs_ex s' (cs_cs s) = xu_nu u (14 * f + t) ∧ fa_FR k (cs_cs s) s s' := by
  obtain ⟨f_made, f_height, f_versions, f_codeSize, f_tasks, f_values, f_frames, f_called, f_ended, a_kind, a_partA, a_partB, a_partC, a_number, a_size, a_stack, a_versionOf, a_known, a_knownA, a_knownB, a_entry, a_fixed, a_value, a_code, a_extra, a_task, a_phase, a_hole, a_pile, a_frameA, a_frameB, a_back, a_calledOf⟩ := u; obtain ⟨c_V, c_cs, c_tk, c_vo, c_kn, c_kA, c_kB, c_en, c_cd, c_ex, c_ta, c_ph, c_ho⟩ := s; have e0 : c_tk = k + 1 := htk; subst e0
  refine ⟨_, gc_1 (by omega) (by omega) (fun post' H => xt_arg (by omega) ht hi et ep hcs hf ek H), rfl, rfl, pk_us, pk_us, fa_VX_rf _, hT, fa_EX_rf, fun j hj => ?_, fun j hj => ?_⟩
  · have hj' : j < c_cs := hj
    exact ⟨pk_un (by omega), pk_un (by omega)⟩
  · exact ⟨rfl, pk_un (by omega), rfl⟩
theorem gc_op01 {kd pd : Nat} (hk : k < 19) (ht : t < 14) (hi : 14 * f + t < 70) (hT : fa_VI (cs_T s)) (htk : cs_tk s = k + 1) (et : cs_ta s k = nI t) (ep : cs_ph s k = nI ph) (hp : ph < 2) (hf : xu_fx u t = 0) (ek : xu_ki u (14 * f + t) = nI kd) (h4 : kd < 4)
    (ed : (if ph = 0 then xu_pA u (14 * f + t) else xu_pB u (14 * f + t)) = nI pd) :
    ∃ s', fa_GC u f 1 s s' ∧ cs_tk s' = k + 2 ∧ cs_cs s' = cs_cs s ∧ cs_ta s' (k + 1) = nI pd ∧ cs_ph s' (k + 1) = nI 0 ∧ cs_ta s' k = nI t ∧ cs_ph s' k = nI (ph + 1) ∧ fa_FR k (cs_cs s) s s' := by
  obtain ⟨f_made, f_height, f_versions, f_codeSize, f_tasks, f_values, f_frames, f_called, f_ended, a_kind, a_partA, a_partB, a_partC, a_number, a_size, a_stack, a_versionOf, a_known, a_knownA, a_knownB, a_entry, a_fixed, a_value, a_code, a_extra, a_task, a_phase, a_hole, a_pile, a_frameA, a_frameB, a_back, a_calledOf⟩ := u; obtain ⟨c_V, c_cs, c_tk, c_vo, c_kn, c_kA, c_kB, c_en, c_cd, c_ex, c_ta, c_ph, c_ho⟩ := s; have e0 : c_tk = k + 1 := htk; subst e0
  refine ⟨_, gc_1 (by omega) (by omega) (fun post' H => xt_op01 (by omega) ht hi et ep hp (by omega) hf ek h4 ed H), rfl, rfl, pk_us, pk_us, ?_, ?_, fa_VX_rf _, hT, fa_EX_rf, fun j hj => ⟨rfl, rfl⟩, fun j hj => ?_⟩
  · exact (pk_un (by omega)).trans et
  · exact (pk_un (by omega)).trans pk_us
  · exact ⟨pk_un (by omega), (pk_un (by omega)).trans (pk_un (by omega)), rfl⟩
theorem gc_op2 {kd : Nat} (hk : k < 19) (ht : t < 14) (hi : 14 * f + t < 70) (hT : fa_VI (cs_T s)) (htk : cs_tk s = k + 1) (et : cs_ta s k = nI t) (ep : cs_ph s k = nI 2) (hcs : cs_cs s < 640) (hf : xu_fx u t = 0) (ek : xu_ki u (14 * f + t) = nI kd) (h4 : kd < 4) :
    ∃ s', fa_GC u f 1 s s' ∧ cs_tk s' = k ∧ cs_cs s' = cs_cs s + 1 ∧ cs_cd s' (cs_cs s) = nI kd ∧ fa_FR k (cs_cs s) s s' := by
  obtain ⟨f_made, f_height, f_versions, f_codeSize, f_tasks, f_values, f_frames, f_called, f_ended, a_kind, a_partA, a_partB, a_partC, a_number, a_size, a_stack, a_versionOf, a_known, a_knownA, a_knownB, a_entry, a_fixed, a_value, a_code, a_extra, a_task, a_phase, a_hole, a_pile, a_frameA, a_frameB, a_back, a_calledOf⟩ := u; obtain ⟨c_V, c_cs, c_tk, c_vo, c_kn, c_kA, c_kB, c_en, c_cd, c_ex, c_ta, c_ph, c_ho⟩ := s; have e0 : c_tk = k + 1 := htk; subst e0
  refine ⟨_, gc_1 (by omega) (by omega) (fun post' H => xt_op2 (by omega) ht hi et ep hcs hf ek h4 H), rfl, rfl, pk_us, fa_VX_rf _, hT, fa_EX_rf, fun j hj => ?_, fun j hj => ?_⟩
  · have hj' : j < c_cs := hj
    exact ⟨pk_un (by omega), pk_un (by omega)⟩
  · exact ⟨rfl, pk_un (by omega), rfl⟩
theorem gc_ch0 {pa : Nat} (hk : k < 19) (ht : t < 14) (hi : 14 * f + t < 70) (hT : fa_VI (cs_T s)) (htk : cs_tk s = k + 1) (et : cs_ta s k = nI t) (ep : cs_ph s k = nI 0) (hf : xu_fx u t = 0) (ek : xu_ki u (14 * f + t) = 8) (ha : pa < 14) (ea : xu_pA u (14 * f + t) = nI pa) (hfa : xu_fx u pa = 0) :
    ∃ s', fa_GC u f 1 s s' ∧ cs_tk s' = k + 2 ∧ cs_cs s' = cs_cs s ∧ cs_ta s' (k + 1) = nI pa ∧ cs_ph s' (k + 1) = nI 0 ∧ cs_ta s' k = nI t ∧ cs_ph s' k = nI 1 ∧ fa_FR k (cs_cs s) s s' := by
  obtain ⟨f_made, f_height, f_versions, f_codeSize, f_tasks, f_values, f_frames, f_called, f_ended, a_kind, a_partA, a_partB, a_partC, a_number, a_size, a_stack, a_versionOf, a_known, a_knownA, a_knownB, a_entry, a_fixed, a_value, a_code, a_extra, a_task, a_phase, a_hole, a_pile, a_frameA, a_frameB, a_back, a_calledOf⟩ := u; obtain ⟨c_V, c_cs, c_tk, c_vo, c_kn, c_kA, c_kB, c_en, c_cd, c_ex, c_ta, c_ph, c_ho⟩ := s; have e0 : c_tk = k + 1 := htk; subst e0
  refine ⟨_, gc_1 (by omega) (by omega) (fun post' H => xt_ch (by omega) ht hi et ep hf ek (xc_ch0 hi ha (by omega) ea hfa H)), rfl, rfl, pk_us, pk_us, ?_, ?_, fa_VX_rf _, hT, fa_EX_rf, fun j hj => ⟨rfl, rfl⟩, fun j hj => ?_⟩
  · exact (pk_un (by omega)).trans et
  · exact (pk_un (by omega)).trans pk_us
  · exact ⟨pk_un (by omega), (pk_un (by omega)).trans (pk_un (by omega)), rfl⟩
theorem gc_ch1 {pa pb : Nat} (hk : k < 19) (ht : t < 14) (hi : 14 * f + t < 70) (hT : fa_VI (cs_T s)) (htk : cs_tk s = k + 1) (et : cs_ta s k = nI t) (ep : cs_ph s k = nI 1) (hcs : cs_cs s < 640) (hf : xu_fx u t = 0) (ek : xu_ki u (14 * f + t) = 8) (ha : pa < 14) (ea : xu_pA u (14 * f + t) = nI pa) (eb : xu_pB u (14 * f + t) = nI pb) (hfa : xu_fx u pa = 0) :
    ∃ s', fa_GC u f 1 s s' ∧ cs_tk s' = k + 2 ∧ cs_cs s' = cs_cs s + 1 ∧ cs_ta s' (k + 1) = nI pb ∧ cs_ph s' (k + 1) = nI 0 ∧ cs_ta s' k = nI t ∧ cs_ph s' k = nI 2 ∧ cs_cd s' (cs_cs s) = 7 ∧ cs_ho s' k = nI (cs_cs s) ∧ fa_FR k (cs_cs s) s s' := by
  obtain ⟨f_made, f_height, f_versions, f_codeSize, f_tasks, f_values, f_frames, f_called, f_ended, a_kind, a_partA, a_partB, a_partC, a_number, a_size, a_stack, a_versionOf, a_known, a_knownA, a_knownB, a_entry, a_fixed, a_value, a_code, a_extra, a_task, a_phase, a_hole, a_pile, a_frameA, a_frameB, a_back, a_calledOf⟩ := u; obtain ⟨c_V, c_cs, c_tk, c_vo, c_kn, c_kA, c_kB, c_en, c_cd, c_ex, c_ta, c_ph, c_ho⟩ := s; have e0 : c_tk = k + 1 := htk; subst e0
  refine ⟨_, gc_1 (by omega) (by omega) (fun post' H => xt_ch (by omega) ht hi et ep hf ek (xc_ch1 hi ha (by omega) hcs ea eb hfa H)), rfl, rfl, pk_us, pk_us, ?_, ?_, pk_us, pk_us, fa_VX_rf _, hT, fa_EX_rf, fun j hj => ?_, fun j hj => ?_⟩
  · exact (pk_un (by omega)).trans et
  · exact (pk_un (by omega)).trans pk_us
  · have hj' : j < c_cs := hj
    exact ⟨pk_un (by omega), pk_un (by omega)⟩
  · exact ⟨pk_un (by omega), (pk_un (by omega)).trans (pk_un (by omega)), pk_un (by omega)⟩
theorem gc_ch2 {pa pc m : Nat} (hk : k < 19) (ht : t < 14) (hi : 14 * f + t < 70) (hT : fa_VI (cs_T s)) (htk : cs_tk s = k + 1) (et : cs_ta s k = nI t) (ep : cs_ph s k = nI 2) (hcs : cs_cs s < 640) (hm : m < cs_cs s) (hf : xu_fx u t = 0) (ek : xu_ki u (14 * f + t) = 8) (ha : pa < 14) (ea : xu_pA u (14 * f + t) = nI pa) (ec : xu_pC u (14 * f + t) = nI pc) (hfa : xu_fx u pa = 0)
    (eh : cs_ho s k = nI m) :
    ∃ s', fa_GC u f 1 s s' ∧ cs_tk s' = k + 2 ∧ cs_cs s' = cs_cs s + 1 ∧ cs_ta s' (k + 1) = nI pc ∧ cs_ph s' (k + 1) = nI 0 ∧ cs_ta s' k = nI t ∧ cs_ph s' k = nI 3 ∧ cs_cd s' (cs_cs s) = 8 ∧ cs_ho s' k = nI (cs_cs s) ∧ cs_ex s' m = nI (cs_cs s + 1) ∧
      cs_cd s' m = cs_cd s m ∧ (∀ j, m < j → j < cs_cs s → cs_cd s' j = cs_cd s j ∧ cs_ex s' j = cs_ex s j) ∧ fa_FR k m s s' := by
  obtain ⟨f_made, f_height, f_versions, f_codeSize, f_tasks, f_values, f_frames, f_called, f_ended, a_kind, a_partA, a_partB, a_partC, a_number, a_size, a_stack, a_versionOf, a_known, a_knownA, a_knownB, a_entry, a_fixed, a_value, a_code, a_extra, a_task, a_phase, a_hole, a_pile, a_frameA, a_frameB, a_back, a_calledOf⟩ := u; obtain ⟨c_V, c_cs, c_tk, c_vo, c_kn, c_kA, c_kB, c_en, c_cd, c_ex, c_ta, c_ph, c_ho⟩ := s; have e0 : c_tk = k + 1 := htk; subst e0
  have hm' : m < c_cs := hm
  have hcs' : c_cs < 640 := hcs
  refine ⟨_, gc_1 (by omega) (by omega) (fun post' H => xt_ch (by omega) ht hi et ep hf ek (xc_ch2 hi ha (by omega) hcs (by omega) ea ec hfa eh H)), rfl, rfl, pk_us, pk_us, ?_, ?_, pk_us, pk_us, ?_, ?_, ?_, fa_VX_rf _, hT, fa_EX_rf, fun j hj => ?_, fun j hj => ?_⟩
  · exact (pk_un (by omega)).trans et
  · exact (pk_un (by omega)).trans pk_us
  · exact (pk_un (by omega)).trans pk_us
  · exact pk_un (by omega)
  · intro j h1 h2
    have h2' : j < c_cs := h2
    exact ⟨pk_un (by omega), (pk_un (by omega)).trans (pk_un (by omega))⟩
  · exact ⟨pk_un (by omega), (pk_un (by omega)).trans (pk_un (by omega))⟩
  · exact ⟨pk_un (by omega), (pk_un (by omega)).trans (pk_un (by omega)), pk_un (by omega)⟩
theorem gc_ch3 {pa m : Nat} (hk : k < 19) (ht : t < 14) (hi : 14 * f + t < 70) (hT : fa_VI (cs_T s)) (htk : cs_tk s = k + 1) (et : cs_ta s k = nI t) (ep : cs_ph s k = nI 3) (hm : m < 640) (hf : xu_fx u t = 0) (ek : xu_ki u (14 * f + t) = 8) (ha : pa < 14) (ea : xu_pA u (14 * f + t) = nI pa) (hfa : xu_fx u pa = 0)
    (eh : cs_ho s k = nI m) :
    ∃ s', fa_GC u f 1 s s' ∧ cs_tk s' = k ∧ cs_cs s' = cs_cs s ∧ cs_ex s' m = nI (cs_cs s) ∧
      (∀ j, cs_cd s' j = cs_cd s j) ∧ (∀ j, j ≠ m → cs_ex s' j = cs_ex s j) ∧ fa_FR k m s s' := by
  obtain ⟨f_made, f_height, f_versions, f_codeSize, f_tasks, f_values, f_frames, f_called, f_ended, a_kind, a_partA, a_partB, a_partC, a_number, a_size, a_stack, a_versionOf, a_known, a_knownA, a_knownB, a_entry, a_fixed, a_value, a_code, a_extra, a_task, a_phase, a_hole, a_pile, a_frameA, a_frameB, a_back, a_calledOf⟩ := u; obtain ⟨c_V, c_cs, c_tk, c_vo, c_kn, c_kA, c_kB, c_en, c_cd, c_ex, c_ta, c_ph, c_ho⟩ := s; have e0 : c_tk = k + 1 := htk; subst e0
  refine ⟨_, gc_1 (by omega) (by omega) (fun post' H => xt_ch (by omega) ht hi et ep hf ek (xc_ch3 hi ha (by omega) hm ea hfa eh H)), rfl, rfl, pk_us, ?_, ?_, fa_VX_rf _, hT, fa_EX_rf, fun j hj => ?_, fun j hj => ?_⟩
  · exact fun j => rfl
  · exact fun j hj => pk_un hj
  · exact ⟨rfl, pk_un (by omega)⟩
  · exact ⟨rfl, pk_un (by omega), rfl⟩
end
end
section
/-! choose, its condition known -/
section
variable {f_made f_height f_versions f_codeSize f_tasks f_values f_frames f_called f_ended : Int32} {a_kind a_partA a_partB a_partC a_number a_size a_stack a_versionOf a_known a_knownA a_knownB a_entry a_fixed a_value a_code a_extra a_task a_phase a_hole a_pile a_frameA a_frameB a_back a_calledOf : Nat → Int32}
variable {f : Nat} {c_V c_cs c_tk d_V d_cs d_tk : Nat} {c_vo c_kn c_kA c_kB c_en c_cd c_ex c_ta c_ph c_ho d_vo d_kn d_kA d_kB d_en d_cd d_ex d_ta d_ph d_ho : Nat → Int32}
theorem gt_chK {t k ph pa pd : Nat} (hk : k < 19) (ht : t < 14) (hi : 14 * f + t < 70) (et : c_ta k = nI t) (ep : c_ph k = nI ph) (hf : a_fixed t = 0) (ek : a_kind (14 * f + t) = 8) (ha : pa < 14) (ea : a_partA (14 * f + t) = nI pa) (hfa : ¬ a_fixed pa = 0)
    (edC : a_value pa = 0 → a_partC (14 * f + t) = nI pd) (edB : ¬ a_value pa = 0 → a_partB (14 * f + t) = nI pd) :
    fa_GC (f_made, f_height, f_versions, f_codeSize, f_tasks, f_values, f_frames, f_called, f_ended, a_kind, a_partA, a_partB, a_partC, a_number, a_size, a_stack, a_versionOf, a_known, a_knownA, a_knownB, a_entry, a_fixed, a_value, a_code, a_extra, a_task, a_phase, a_hole, a_pile, a_frameA, a_frameB, a_back, a_calledOf) f 1 (c_V, c_cs, k + 1, c_vo, c_kn, c_kA, c_kB, c_en, c_cd, c_ex, c_ta, c_ph, c_ho) (c_V, c_cs, k + 1, c_vo, c_kn, c_kA, c_kB, c_en, c_cd, c_ex, upd c_ta k (nI pd), upd (upd c_ph k (nI (ph + 1))) k 0, c_ho) :=
  gc_1 (by omega) (by omega) (fun post' H => xt_ch (by omega) ht hi et ep hf ek (xc_chK hi ha (by omega) ea hfa edC edB H))
end
section
variable {f : Nat} {c_V c_cs c_tk d_V d_cs d_tk : Nat} {c_vo c_kn c_kA c_kB c_en c_cd c_ex c_ta c_ph c_ho d_vo d_kn d_kA d_kB d_en d_cd d_ex d_ta d_ph d_ho : Nat → Int32}
theorem fa_FR_mk {k p : Nat} (hT : fa_VI (c_V, c_vo, c_kn, c_kA, c_kB)) (h1 : ∀ j, j < p → d_cd j = c_cd j ∧ d_ex j = c_ex j) (h2 : ∀ j, j < k → d_ta j = c_ta j ∧ d_ph j = c_ph j ∧ d_ho j = c_ho j) :
    fa_FR k p (c_V, c_cs, c_tk, c_vo, c_kn, c_kA, c_kB, c_en, c_cd, c_ex, c_ta, c_ph, c_ho) (c_V, d_cs, d_tk, c_vo, c_kn, c_kA, c_kB, c_en, d_cd, d_ex, d_ta, d_ph, d_ho) := ⟨fa_VX_rf _, hT, fa_EX_rf, h1, h2⟩
theorem fa_FR_mk2 {k p : Nat} (hX : fa_VX (c_V, c_vo, c_kn, c_kA, c_kB) (d_V, d_vo, d_kn, d_kA, d_kB)) (hT : fa_VI (d_V, d_vo, d_kn, d_kA, d_kB)) (hE : fa_EX c_V d_V c_en d_en) (h1 : ∀ j, j < p → d_cd j = c_cd j ∧ d_ex j = c_ex j) (h2 : ∀ j, j < k → d_ta j = c_ta j ∧ d_ph j = c_ph j ∧ d_ho j = c_ho j) :
    fa_FR k p (c_V, c_cs, c_tk, c_vo, c_kn, c_kA, c_kB, c_en, c_cd, c_ex, c_ta, c_ph, c_ho) (d_V, d_cs, d_tk, d_vo, d_kn, d_kA, d_kB, d_en, d_cd, d_ex, d_ta, d_ph, d_ho) := ⟨hX, hT, hE, h1, h2⟩
end
section
variable {u : SX} {f t k ph : Nat} {s : fa_CS}
theorem gc_chK {pa pd : Nat} (hk : k < 19) (ht : t < 14) (hi : 14 * f + t < 70) (hT : fa_VI (cs_T s)) (htk : cs_tk s = k + 1) (et : cs_ta s k = nI t) (ep : cs_ph s k = nI ph) (hf : xu_fx u t = 0) (ek : xu_ki u (14 * f + t) = 8) (ha : pa < 14) (ea : xu_pA u (14 * f + t) = nI pa) (hfa : ¬ xu_fx u pa = 0)
    (edC : xu_vl u pa = 0 → xu_pC u (14 * f + t) = nI pd) (edB : ¬ xu_vl u pa = 0 → xu_pB u (14 * f + t) = nI pd) :
    ∃ s', fa_GC u f 1 s s' ∧ cs_tk s' = k + 1 ∧ cs_cs s' = cs_cs s ∧ cs_ta s' k = nI pd ∧ cs_ph s' k = nI 0 ∧ fa_FR k (cs_cs s) s s' := by
  obtain ⟨c_V, c_cs, c_tk, c_vo, c_kn, c_kA, c_kB, c_en, c_cd, c_ex, c_ta, c_ph, c_ho⟩ := s; have e0 : c_tk = k + 1 := htk; subst e0
  exact ⟨_, gt_chK (f_made := u.1) (f_height := u.2.1) (f_versions := u.2.2.1) (f_codeSize := u.2.2.2.1) (f_tasks := u.2.2.2.2.1) (f_values := u.2.2.2.2.2.1) (f_frames := u.2.2.2.2.2.2.1) (f_called := u.2.2.2.2.2.2.2.1) (f_ended := u.2.2.2.2.2.2.2.2.1) (a_kind := u.2.2.2.2.2.2.2.2.2.1) (a_partA := u.2.2.2.2.2.2.2.2.2.2.1) (a_partB := u.2.2.2.2.2.2.2.2.2.2.2.1) (a_partC := u.2.2.2.2.2.2.2.2.2.2.2.2.1) (a_number := u.2.2.2.2.2.2.2.2.2.2.2.2.2.1) (a_size := u.2.2.2.2.2.2.2.2.2.2.2.2.2.2.1) (a_stack := u.2.2.2.2.2.2.2.2.2.2.2.2.2.2.2.1) (a_versionOf := u.2.2.2.2.2.2.2.2.2.2.2.2.2.2.2.2.1) (a_known := u.2.2.2.2.2.2.2.2.2.2.2.2.2.2.2.2.2.1) (a_knownA := u.2.2.2.2.2.2.2.2.2.2.2.2.2.2.2.2.2.2.1) (a_knownB := u.2.2.2.2.2.2.2.2.2.2.2.2.2.2.2.2.2.2.2.1) (a_entry := u.2.2.2.2.2.2.2.2.2.2.2.2.2.2.2.2.2.2.2.2.1) (a_fixed := u.2.2.2.2.2.2.2.2.2.2.2.2.2.2.2.2.2.2.2.2.2.1) (a_value := u.2.2.2.2.2.2.2.2.2.2.2.2.2.2.2.2.2.2.2.2.2.2.1) (a_code := u.2.2.2.2.2.2.2.2.2.2.2.2.2.2.2.2.2.2.2.2.2.2.2.1) (a_extra := u.2.2.2.2.2.2.2.2.2.2.2.2.2.2.2.2.2.2.2.2.2.2.2.2.1) (a_task := u.2.2.2.2.2.2.2.2.2.2.2.2.2.2.2.2.2.2.2.2.2.2.2.2.2.1) (a_phase := u.2.2.2.2.2.2.2.2.2.2.2.2.2.2.2.2.2.2.2.2.2.2.2.2.2.2.1) (a_hole := u.2.2.2.2.2.2.2.2.2.2.2.2.2.2.2.2.2.2.2.2.2.2.2.2.2.2.2.1) (a_pile := u.2.2.2.2.2.2.2.2.2.2.2.2.2.2.2.2.2.2.2.2.2.2.2.2.2.2.2.2.1) (a_frameA := u.2.2.2.2.2.2.2.2.2.2.2.2.2.2.2.2.2.2.2.2.2.2.2.2.2.2.2.2.2.1) (a_frameB := u.2.2.2.2.2.2.2.2.2.2.2.2.2.2.2.2.2.2.2.2.2.2.2.2.2.2.2.2.2.2.1) (a_back := u.2.2.2.2.2.2.2.2.2.2.2.2.2.2.2.2.2.2.2.2.2.2.2.2.2.2.2.2.2.2.2.1) (a_calledOf := u.2.2.2.2.2.2.2.2.2.2.2.2.2.2.2.2.2.2.2.2.2.2.2.2.2.2.2.2.2.2.2.2) hk ht hi et ep hf ek ha ea hfa edC edB, (rfl : k + 1 = k + 1), (rfl : c_cs = c_cs), (pk_us : upd c_ta k (nI pd) k = nI pd), (pk_us : upd (upd c_ph k (nI (ph + 1))) k 0 k = 0),
    fa_FR_mk hT (fun j hj => ⟨rfl, rfl⟩) (fun j hj => ⟨pk_un (by omega), (pk_un (by omega)).trans (pk_un (by omega)), rfl⟩)⟩
end
end
section
/-! Making code: the steps of a call -/
theorem fa_SelF {T : fa_V} {g v : Nat} {w a b : Int32} (hT : fa_VI T) (hg : g < 4) (h : fa_Sel T (nI g) w a b v) :
    v < T.1 ∧ v < 16 ∧ fa_vo T v = nI g ∧ (¬ fa_kn T v &&& 1 = 0 → ¬ w &&& 1 = 0 ∧ fa_kA T v = a) ∧ (¬ fa_kn T v &&& 2 = 0 → ¬ w &&& 2 = 0 ∧ fa_kB T v = b) := by
  obtain ⟨t1, t2, t3, t4⟩ := hT
  rcases h with ⟨s1, ⟨m1, m2, m3, m4⟩, s3⟩ | ⟨s1, s2, s2', s3⟩
  · refine ⟨s1, by omega, m1, fun z => ?_, fun z => ?_⟩
    · rw [m2] at z
      exact ⟨z, m3.resolve_left z⟩
    · rw [m2] at z
      exact ⟨z, m4.resolve_left z⟩
  · have e := t3 v s2
    have z1 : (0 : Int32) &&& 1 = 0 := by decide
    have z2 : (0 : Int32) &&& 2 = 0 := by decide
    refine ⟨by omega, by omega, e.1.trans s2'.symm, fun z => ?_, fun z => ?_⟩
    · rw [e.2] at z; exact absurd z1 z
    · rw [e.2] at z; exact absurd z2 z
theorem fa_wv (x y : Int32) : fa_w1 x + fa_w2 y = 0 ∨ fa_w1 x + fa_w2 y = 1 ∨ fa_w1 x + fa_w2 y = 2 ∨ fa_w1 x + fa_w2 y = 3 := by
  unfold fa_w1 fa_w2
  by_cases a : x = 0
  · by_cases b : y = 0
    · rw [if_pos a, if_pos b]; exact Or.inl (by decide)
    · rw [if_pos a, if_neg b]; exact Or.inr (Or.inr (Or.inl (by decide)))
  · by_cases b : y = 0
    · rw [if_neg a, if_pos b]; exact Or.inr (Or.inl (by decide))
    · rw [if_neg a, if_neg b]; exact Or.inr (Or.inr (Or.inr (by decide)))
theorem fa_wb1 {x y : Int32} (h : ¬ (fa_w1 x + fa_w2 y) &&& 1 = 0) : ¬ x = 0 := by
  intro a
  apply h
  unfold fa_w1 fa_w2
  by_cases b : y = 0
  · rw [if_pos a, if_pos b]; decide
  · rw [if_pos a, if_neg b]; decide
theorem fa_wb2 {x y : Int32} (h : ¬ (fa_w1 x + fa_w2 y) &&& 2 = 0) : ¬ y = 0 := by
  intro b
  apply h
  unfold fa_w1 fa_w2
  by_cases a : x = 0
  · rw [if_pos a, if_pos b]; decide
  · rw [if_neg a, if_pos b]; decide
theorem fa_d10 : ¬ nI 1 = 0 := by decide
theorem fa_d20 : ¬ nI 2 = 0 := by decide
theorem fa_d01 : ¬ nI 0 = 1 := by decide
theorem fa_d21 : ¬ nI 2 = 1 := by decide
theorem fa_d02 : ¬ nI 0 = 2 := by decide
theorem fa_d12 : ¬ nI 1 = 2 := by decide
section
variable {f_made f_height f_versions f_codeSize f_tasks f_values f_frames f_called f_ended : Int32} {a_kind a_partA a_partB a_partC a_number a_size a_stack a_versionOf a_known a_knownA a_knownB a_entry a_fixed a_value a_code a_extra a_task a_phase a_hole a_pile a_frameA a_frameB a_back a_calledOf : Nat → Int32}
variable {f : Nat} {c_V c_cs c_tk d_V d_cs d_tk : Nat} {c_vo c_kn c_kA c_kB c_en c_cd c_ex c_ta c_ph c_ho d_vo d_kn d_kA d_kB d_en d_cd d_ex d_ta d_ph d_ho : Nat → Int32}
theorem gt_call0 {t k kd pa pb : Nat} {z0 z1 : Int32} (hw : z1 + z0 = 0 ∨ z1 + z0 = 1 ∨ z1 + z0 = 2 ∨ z1 + z0 = 3) (hk : k < 19) (ht : t < 14) (hi : 14 * f + t < 70) (hT : fa_VI (c_V, c_vo, c_kn, c_kA, c_kB)) (et : c_ta k = nI t) (hcs : c_cs < 640) (hf : a_fixed t = 0) (ek : a_kind (14 * f + t) = nI kd) (h4 : 4 ≤ kd) (h8 : kd < 8) (ha : pa < 14) (hb : pb < 14) (ea : a_partA (14 * f + t) = nI pa) (eb : a_partB (14 * f + t) = nI pb) (w1 : a_fixed pa = 0 → z1 = 0) (w1' : ¬ a_fixed pa = 0 → z1 = 1) (w2 : a_fixed pb = 0 → z0 = 0) (w2' : ¬ a_fixed pb = 0 → z0 = 2) (ep : c_ph k = nI 0) :
    ∃ v V1 vo1 kn1 kA1 kB1 en1, fa_Sel (V1, vo1, kn1, kA1, kB1) (nI (kd - 4)) (z1 + z0) (a_value pa) (a_value pb) v ∧ fa_VX (c_V, c_vo, c_kn, c_kA, c_kB) (V1, vo1, kn1, kA1, kB1) ∧ fa_VI (V1, vo1, kn1, kA1, kB1) ∧ fa_EX c_V V1 c_en en1 ∧
      (kn1 v &&& 1 = 0 → fa_GC (f_made, f_height, f_versions, f_codeSize, f_tasks, f_values, f_frames, f_called, f_ended, a_kind, a_partA, a_partB, a_partC, a_number, a_size, a_stack, a_versionOf, a_known, a_knownA, a_knownB, a_entry, a_fixed, a_value, a_code, a_extra, a_task, a_phase, a_hole, a_pile, a_frameA, a_frameB, a_back, a_calledOf) f 1 (c_V, c_cs, k + 1, c_vo, c_kn, c_kA, c_kB, c_en, c_cd, c_ex, c_ta, c_ph, c_ho) (V1, c_cs, k + 2, vo1, kn1, kA1, kB1, en1, c_cd, c_ex, upd c_ta (k + 1) (nI pa), upd (upd c_ph k (nI 1)) (k + 1) 0, c_ho)) ∧
      (¬ kn1 v &&& 1 = 0 → fa_GC (f_made, f_height, f_versions, f_codeSize, f_tasks, f_values, f_frames, f_called, f_ended, a_kind, a_partA, a_partB, a_partC, a_number, a_size, a_stack, a_versionOf, a_known, a_knownA, a_knownB, a_entry, a_fixed, a_value, a_code, a_extra, a_task, a_phase, a_hole, a_pile, a_frameA, a_frameB, a_back, a_calledOf) f 1 (c_V, c_cs, k + 1, c_vo, c_kn, c_kA, c_kB, c_en, c_cd, c_ex, c_ta, c_ph, c_ho) (V1, c_cs, k + 1, vo1, kn1, kA1, kB1, en1, c_cd, c_ex, c_ta, upd c_ph k (nI 1), c_ho)) := by
  have hg : kd - 4 < 4 := by omega
  obtain ⟨v, V1, vo1, kn1, kA1, kB1, en1, Hvf, hS, hX, hI, hE⟩ := xp_vfA (f_made := f_made) (f_height := f_height) (f_codeSize := nI c_cs) (f_tasks := nI (k + 1)) (f_values := f_values) (f_frames := f_frames) (f_called := f_called) (f_ended := f_ended)
    (a_kind := a_kind) (a_partA := a_partA) (a_partB := a_partB) (a_partC := a_partC) (a_number := a_number) (a_size := a_size) (a_stack := a_stack) (a_versionOf := c_vo) (a_known := c_kn) (a_knownA := c_kA) (a_knownB := c_kB) (a_entry := c_en) (a_fixed := a_fixed) (a_value := a_value) (a_code := c_cd) (a_extra := c_ex) (a_task := c_ta) (a_phase := upd c_ph k (nI 1)) (a_hole := c_ho) (a_pile := a_pile) (a_frameA := a_frameA) (a_frameB := a_frameB) (a_back := a_back) (a_calledOf := a_calledOf)
    (x2 := z1 + z0) (x3 := a_value pa) (x4 := a_value pb) (V := c_V) hg hw hT
  obtain ⟨hv1, hv, _, _, _⟩ := fa_SelF hI hg hS
  refine ⟨v, V1, vo1, kn1, kA1, kB1, en1, hS, hX, hI, hE, fun z => ?_, fun z => ?_⟩
  · exact gc_1 (by omega) (by omega) (fun post' H => xt_call (by omega) ht hi et ep hf ek h4 h8 (xc_stepCall hi ha hb ea eb w1 w1' w2 w2' (xc_48 hi ha hb h4 h8 ea eb ek hv (by omega) hcs Hvf (fun _ _ => H) (fun _ z2 => absurd z z2) (fun e => absurd e fa_d01) (fun e => absurd e fa_d01) (fun e => absurd e fa_d02) (Or.inl rfl))))
  · exact gc_1 (by omega) (by omega) (fun post' H => xt_call (by omega) ht hi et ep hf ek h4 h8 (xc_stepCall hi ha hb ea eb w1 w1' w2 w2' (xc_48 hi ha hb h4 h8 ea eb ek hv (by omega) hcs Hvf (fun _ z2 => absurd z2 z) (fun _ _ => H) (fun e => absurd e fa_d01) (fun e => absurd e fa_d01) (fun e => absurd e fa_d02) (Or.inl rfl))))
theorem gt_call1 {t k kd pa pb v : Nat} {z0 z1 : Int32} (hk : k < 19) (ht : t < 14) (hi : 14 * f + t < 70) (hT : fa_VI (c_V, c_vo, c_kn, c_kA, c_kB)) (et : c_ta k = nI t) (hcs : c_cs < 640) (hf : a_fixed t = 0) (ek : a_kind (14 * f + t) = nI kd) (h4 : 4 ≤ kd) (h8 : kd < 8) (ha : pa < 14) (hb : pb < 14) (ea : a_partA (14 * f + t) = nI pa) (eb : a_partB (14 * f + t) = nI pb) (w1 : a_fixed pa = 0 → z1 = 0) (w1' : ¬ a_fixed pa = 0 → z1 = 1) (w2 : a_fixed pb = 0 → z0 = 0) (w2' : ¬ a_fixed pb = 0 → z0 = 2) (ep : c_ph k = nI 1) (hS : fa_Sel (c_V, c_vo, c_kn, c_kA, c_kB) (nI (kd - 4)) (z1 + z0) (a_value pa) (a_value pb) v) :
      (c_kn v &&& 2 = 0 → fa_GC (f_made, f_height, f_versions, f_codeSize, f_tasks, f_values, f_frames, f_called, f_ended, a_kind, a_partA, a_partB, a_partC, a_number, a_size, a_stack, a_versionOf, a_known, a_knownA, a_knownB, a_entry, a_fixed, a_value, a_code, a_extra, a_task, a_phase, a_hole, a_pile, a_frameA, a_frameB, a_back, a_calledOf) f 1 (c_V, c_cs, k + 1, c_vo, c_kn, c_kA, c_kB, c_en, c_cd, c_ex, c_ta, c_ph, c_ho) (c_V, c_cs, k + 2, c_vo, c_kn, c_kA, c_kB, c_en, c_cd, c_ex, upd c_ta (k + 1) (nI pb), upd (upd c_ph k (nI 2)) (k + 1) 0, c_ho)) ∧
      (¬ c_kn v &&& 2 = 0 → fa_GC (f_made, f_height, f_versions, f_codeSize, f_tasks, f_values, f_frames, f_called, f_ended, a_kind, a_partA, a_partB, a_partC, a_number, a_size, a_stack, a_versionOf, a_known, a_knownA, a_knownB, a_entry, a_fixed, a_value, a_code, a_extra, a_task, a_phase, a_hole, a_pile, a_frameA, a_frameB, a_back, a_calledOf) f 1 (c_V, c_cs, k + 1, c_vo, c_kn, c_kA, c_kB, c_en, c_cd, c_ex, c_ta, c_ph, c_ho) (c_V, c_cs, k + 1, c_vo, c_kn, c_kA, c_kB, c_en, c_cd, c_ex, c_ta, upd c_ph k (nI 2), c_ho)) := by
  have hg : kd - 4 < 4 := by omega
  obtain ⟨hv1, hv, _, _, _⟩ := fa_SelF hT hg hS
  have h16 : c_V ≤ 16 := hT.2.1
  refine ⟨fun z => ?_, fun z => ?_⟩
  · exact gc_1 (by omega) (by omega) (fun post' H => xt_call (by omega) ht hi et ep hf ek h4 h8 (xc_stepCall hi ha hb ea eb w1 w1' w2 w2' (xc_48 hi ha hb h4 h8 ea eb ek hv (by omega) hcs (fun post2 H2 => xp_vfS h16 hS H2) (fun e => absurd e fa_d10) (fun e => absurd e fa_d10) (fun _ _ => H) (fun _ z2 => absurd z z2) (fun e => absurd e fa_d12) (Or.inr (Or.inl rfl)))))
  · exact gc_1 (by omega) (by omega) (fun post' H => xt_call (by omega) ht hi et ep hf ek h4 h8 (xc_stepCall hi ha hb ea eb w1 w1' w2 w2' (xc_48 hi ha hb h4 h8 ea eb ek hv (by omega) hcs (fun post2 H2 => xp_vfS h16 hS H2) (fun e => absurd e fa_d10) (fun e => absurd e fa_d10) (fun _ z2 => absurd z2 z) (fun _ _ => H) (fun e => absurd e fa_d12) (Or.inr (Or.inl rfl)))))
theorem gt_call2 {t k kd pa pb v : Nat} {z0 z1 : Int32} (hk : k < 19) (ht : t < 14) (hi : 14 * f + t < 70) (hT : fa_VI (c_V, c_vo, c_kn, c_kA, c_kB)) (et : c_ta k = nI t) (hcs : c_cs < 640) (hf : a_fixed t = 0) (ek : a_kind (14 * f + t) = nI kd) (h4 : 4 ≤ kd) (h8 : kd < 8) (ha : pa < 14) (hb : pb < 14) (ea : a_partA (14 * f + t) = nI pa) (eb : a_partB (14 * f + t) = nI pb) (w1 : a_fixed pa = 0 → z1 = 0) (w1' : ¬ a_fixed pa = 0 → z1 = 1) (w2 : a_fixed pb = 0 → z0 = 0) (w2' : ¬ a_fixed pb = 0 → z0 = 2) (ep : c_ph k = nI 2) (hS : fa_Sel (c_V, c_vo, c_kn, c_kA, c_kB) (nI (kd - 4)) (z1 + z0) (a_value pa) (a_value pb) v) :
    fa_GC (f_made, f_height, f_versions, f_codeSize, f_tasks, f_values, f_frames, f_called, f_ended, a_kind, a_partA, a_partB, a_partC, a_number, a_size, a_stack, a_versionOf, a_known, a_knownA, a_knownB, a_entry, a_fixed, a_value, a_code, a_extra, a_task, a_phase, a_hole, a_pile, a_frameA, a_frameB, a_back, a_calledOf) f 1 (c_V, c_cs, k + 1, c_vo, c_kn, c_kA, c_kB, c_en, c_cd, c_ex, c_ta, c_ph, c_ho) (c_V, c_cs + 1, k, c_vo, c_kn, c_kA, c_kB, c_en, upd c_cd c_cs 4, upd c_ex c_cs (nI v), c_ta, upd c_ph k (nI 3), c_ho) := by
  have hg : kd - 4 < 4 := by omega
  obtain ⟨hv1, hv, _, _, _⟩ := fa_SelF hT hg hS
  have h16 : c_V ≤ 16 := hT.2.1
  exact gc_1 (by omega) (by omega) (fun post' H => xt_call (by omega) ht hi et ep hf ek h4 h8 (xc_stepCall hi ha hb ea eb w1 w1' w2 w2' (xc_48 hi ha hb h4 h8 ea eb ek hv (by omega) hcs (fun post2 H2 => xp_vfS h16 hS H2) (fun e => absurd e fa_d20) (fun e => absurd e fa_d20) (fun e => absurd e fa_d21) (fun e => absurd e fa_d21) (fun _ => H) (Or.inr (Or.inr rfl)))))
end
section
variable {u : SX} {f t k : Nat} {s : fa_CS}
theorem gc_call0 {kd pa pb : Nat} {z0 z1 : Int32} (hw : z1 + z0 = 0 ∨ z1 + z0 = 1 ∨ z1 + z0 = 2 ∨ z1 + z0 = 3) (hk : k < 19) (ht : t < 14) (hi : 14 * f + t < 70) (hT : fa_VI (cs_T s)) (htk : cs_tk s = k + 1) (et : cs_ta s k = nI t) (hcs : cs_cs s < 640) (hf : xu_fx u t = 0) (ek : xu_ki u (14 * f + t) = nI kd) (h4 : 4 ≤ kd) (h8 : kd < 8) (ha : pa < 14) (hb : pb < 14) (ea : xu_pA u (14 * f + t) = nI pa) (eb : xu_pB u (14 * f + t) = nI pb) (w1 : xu_fx u pa = 0 → z1 = 0) (w1' : ¬ xu_fx u pa = 0 → z1 = 1) (w2 : xu_fx u pb = 0 → z0 = 0) (w2' : ¬ xu_fx u pb = 0 → z0 = 2) (ep : cs_ph s k = nI 0) :
    ∃ v s', fa_Sel (cs_T s') (nI (kd - 4)) (z1 + z0) (xu_vl u pa) (xu_vl u pb) v ∧ fa_GC u f 1 s s' ∧ cs_cs s' = cs_cs s ∧ cs_ta s' k = nI t ∧ cs_ph s' k = nI 1 ∧ fa_FR k (cs_cs s) s s' ∧
      (fa_kn (cs_T s') v &&& 1 = 0 → cs_tk s' = k + 2 ∧ cs_ta s' (k + 1) = nI pa ∧ cs_ph s' (k + 1) = nI 0) ∧ (¬ fa_kn (cs_T s') v &&& 1 = 0 → cs_tk s' = k + 1) := by
  obtain ⟨c_V, c_cs, c_tk, c_vo, c_kn, c_kA, c_kB, c_en, c_cd, c_ex, c_ta, c_ph, c_ho⟩ := s; have e0 : c_tk = k + 1 := htk; subst e0
  obtain ⟨v, V1, vo1, kn1, kA1, kB1, en1, hS, hX, hI, hE, g1, g2⟩ := gt_call0 (f_made := u.1) (f_height := u.2.1) (f_versions := u.2.2.1) (f_codeSize := u.2.2.2.1) (f_tasks := u.2.2.2.2.1) (f_values := u.2.2.2.2.2.1) (f_frames := u.2.2.2.2.2.2.1) (f_called := u.2.2.2.2.2.2.2.1) (f_ended := u.2.2.2.2.2.2.2.2.1) (a_kind := u.2.2.2.2.2.2.2.2.2.1) (a_partA := u.2.2.2.2.2.2.2.2.2.2.1) (a_partB := u.2.2.2.2.2.2.2.2.2.2.2.1) (a_partC := u.2.2.2.2.2.2.2.2.2.2.2.2.1) (a_number := u.2.2.2.2.2.2.2.2.2.2.2.2.2.1) (a_size := u.2.2.2.2.2.2.2.2.2.2.2.2.2.2.1) (a_stack := u.2.2.2.2.2.2.2.2.2.2.2.2.2.2.2.1) (a_versionOf := u.2.2.2.2.2.2.2.2.2.2.2.2.2.2.2.2.1) (a_known := u.2.2.2.2.2.2.2.2.2.2.2.2.2.2.2.2.2.1) (a_knownA := u.2.2.2.2.2.2.2.2.2.2.2.2.2.2.2.2.2.2.1) (a_knownB := u.2.2.2.2.2.2.2.2.2.2.2.2.2.2.2.2.2.2.2.1) (a_entry := u.2.2.2.2.2.2.2.2.2.2.2.2.2.2.2.2.2.2.2.2.1) (a_fixed := u.2.2.2.2.2.2.2.2.2.2.2.2.2.2.2.2.2.2.2.2.2.1) (a_value := u.2.2.2.2.2.2.2.2.2.2.2.2.2.2.2.2.2.2.2.2.2.2.1) (a_code := u.2.2.2.2.2.2.2.2.2.2.2.2.2.2.2.2.2.2.2.2.2.2.2.1) (a_extra := u.2.2.2.2.2.2.2.2.2.2.2.2.2.2.2.2.2.2.2.2.2.2.2.2.1) (a_task := u.2.2.2.2.2.2.2.2.2.2.2.2.2.2.2.2.2.2.2.2.2.2.2.2.2.1) (a_phase := u.2.2.2.2.2.2.2.2.2.2.2.2.2.2.2.2.2.2.2.2.2.2.2.2.2.2.1) (a_hole := u.2.2.2.2.2.2.2.2.2.2.2.2.2.2.2.2.2.2.2.2.2.2.2.2.2.2.2.1) (a_pile := u.2.2.2.2.2.2.2.2.2.2.2.2.2.2.2.2.2.2.2.2.2.2.2.2.2.2.2.2.1) (a_frameA := u.2.2.2.2.2.2.2.2.2.2.2.2.2.2.2.2.2.2.2.2.2.2.2.2.2.2.2.2.2.1) (a_frameB := u.2.2.2.2.2.2.2.2.2.2.2.2.2.2.2.2.2.2.2.2.2.2.2.2.2.2.2.2.2.2.1) (a_back := u.2.2.2.2.2.2.2.2.2.2.2.2.2.2.2.2.2.2.2.2.2.2.2.2.2.2.2.2.2.2.2.1) (a_calledOf := u.2.2.2.2.2.2.2.2.2.2.2.2.2.2.2.2.2.2.2.2.2.2.2.2.2.2.2.2.2.2.2.2) (c_en := c_en) (c_cd := c_cd) (c_ex := c_ex) (c_ho := c_ho) hw hk ht hi hT et hcs hf ek h4 h8 ha hb ea eb w1 w1' w2 w2' ep
  by_cases z : kn1 v &&& 1 = 0
  · exact ⟨v, (V1, c_cs, k + 2, vo1, kn1, kA1, kB1, en1, c_cd, c_ex, upd c_ta (k + 1) (nI pa), upd (upd c_ph k (nI 1)) (k + 1) 0, c_ho), hS, g1 z, (rfl : c_cs = c_cs), (pk_un (by omega)).trans et, ((pk_un (by omega)).trans pk_us : upd (upd c_ph k (nI 1)) (k + 1) 0 k = nI 1),
      fa_FR_mk2 hX hI hE (fun j hj => ⟨rfl, rfl⟩) (fun j hj => ⟨pk_un (by omega), (pk_un (by omega)).trans (pk_un (by omega)), rfl⟩),
      fun _ => ⟨(rfl : k + 2 = k + 2), (pk_us : upd c_ta (k + 1) (nI pa) (k + 1) = nI pa), (pk_us : upd (upd c_ph k (nI 1)) (k + 1) 0 (k + 1) = 0)⟩, fun z2 => absurd z z2⟩
  · exact ⟨v, (V1, c_cs, k + 1, vo1, kn1, kA1, kB1, en1, c_cd, c_ex, c_ta, upd c_ph k (nI 1), c_ho), hS, g2 z, (rfl : c_cs = c_cs), et, (pk_us : upd c_ph k (nI 1) k = nI 1),
      fa_FR_mk2 hX hI hE (fun j hj => ⟨rfl, rfl⟩) (fun j hj => ⟨rfl, pk_un (by omega), rfl⟩),
      fun z2 => absurd z2 z, fun _ => (rfl : k + 1 = k + 1)⟩
theorem gc_call1 {kd pa pb v : Nat} {z0 z1 : Int32} (hk : k < 19) (ht : t < 14) (hi : 14 * f + t < 70) (hT : fa_VI (cs_T s)) (htk : cs_tk s = k + 1) (et : cs_ta s k = nI t) (hcs : cs_cs s < 640) (hf : xu_fx u t = 0) (ek : xu_ki u (14 * f + t) = nI kd) (h4 : 4 ≤ kd) (h8 : kd < 8) (ha : pa < 14) (hb : pb < 14) (ea : xu_pA u (14 * f + t) = nI pa) (eb : xu_pB u (14 * f + t) = nI pb) (w1 : xu_fx u pa = 0 → z1 = 0) (w1' : ¬ xu_fx u pa = 0 → z1 = 1) (w2 : xu_fx u pb = 0 → z0 = 0) (w2' : ¬ xu_fx u pb = 0 → z0 = 2) (ep : cs_ph s k = nI 1) (hS : fa_Sel (cs_T s) (nI (kd - 4)) (z1 + z0) (xu_vl u pa) (xu_vl u pb) v) :
    ∃ s', cs_T s' = cs_T s ∧ fa_GC u f 1 s s' ∧ cs_cs s' = cs_cs s ∧ cs_ta s' k = nI t ∧ cs_ph s' k = nI 2 ∧ fa_FR k (cs_cs s) s s' ∧
      (fa_kn (cs_T s') v &&& 2 = 0 → cs_tk s' = k + 2 ∧ cs_ta s' (k + 1) = nI pb ∧ cs_ph s' (k + 1) = nI 0) ∧ (¬ fa_kn (cs_T s') v &&& 2 = 0 → cs_tk s' = k + 1) := by
  obtain ⟨c_V, c_cs, c_tk, c_vo, c_kn, c_kA, c_kB, c_en, c_cd, c_ex, c_ta, c_ph, c_ho⟩ := s; have e0 : c_tk = k + 1 := htk; subst e0
  obtain ⟨g1, g2⟩ := gt_call1 (f_made := u.1) (f_height := u.2.1) (f_versions := u.2.2.1) (f_codeSize := u.2.2.2.1) (f_tasks := u.2.2.2.2.1) (f_values := u.2.2.2.2.2.1) (f_frames := u.2.2.2.2.2.2.1) (f_called := u.2.2.2.2.2.2.2.1) (f_ended := u.2.2.2.2.2.2.2.2.1) (a_kind := u.2.2.2.2.2.2.2.2.2.1) (a_partA := u.2.2.2.2.2.2.2.2.2.2.1) (a_partB := u.2.2.2.2.2.2.2.2.2.2.2.1) (a_partC := u.2.2.2.2.2.2.2.2.2.2.2.2.1) (a_number := u.2.2.2.2.2.2.2.2.2.2.2.2.2.1) (a_size := u.2.2.2.2.2.2.2.2.2.2.2.2.2.2.1) (a_stack := u.2.2.2.2.2.2.2.2.2.2.2.2.2.2.2.1) (a_versionOf := u.2.2.2.2.2.2.2.2.2.2.2.2.2.2.2.2.1) (a_known := u.2.2.2.2.2.2.2.2.2.2.2.2.2.2.2.2.2.1) (a_knownA := u.2.2.2.2.2.2.2.2.2.2.2.2.2.2.2.2.2.2.1) (a_knownB := u.2.2.2.2.2.2.2.2.2.2.2.2.2.2.2.2.2.2.2.1) (a_entry := u.2.2.2.2.2.2.2.2.2.2.2.2.2.2.2.2.2.2.2.2.1) (a_fixed := u.2.2.2.2.2.2.2.2.2.2.2.2.2.2.2.2.2.2.2.2.2.1) (a_value := u.2.2.2.2.2.2.2.2.2.2.2.2.2.2.2.2.2.2.2.2.2.2.1) (a_code := u.2.2.2.2.2.2.2.2.2.2.2.2.2.2.2.2.2.2.2.2.2.2.2.1) (a_extra := u.2.2.2.2.2.2.2.2.2.2.2.2.2.2.2.2.2.2.2.2.2.2.2.2.1) (a_task := u.2.2.2.2.2.2.2.2.2.2.2.2.2.2.2.2.2.2.2.2.2.2.2.2.2.1) (a_phase := u.2.2.2.2.2.2.2.2.2.2.2.2.2.2.2.2.2.2.2.2.2.2.2.2.2.2.1) (a_hole := u.2.2.2.2.2.2.2.2.2.2.2.2.2.2.2.2.2.2.2.2.2.2.2.2.2.2.2.1) (a_pile := u.2.2.2.2.2.2.2.2.2.2.2.2.2.2.2.2.2.2.2.2.2.2.2.2.2.2.2.2.1) (a_frameA := u.2.2.2.2.2.2.2.2.2.2.2.2.2.2.2.2.2.2.2.2.2.2.2.2.2.2.2.2.2.1) (a_frameB := u.2.2.2.2.2.2.2.2.2.2.2.2.2.2.2.2.2.2.2.2.2.2.2.2.2.2.2.2.2.2.1) (a_back := u.2.2.2.2.2.2.2.2.2.2.2.2.2.2.2.2.2.2.2.2.2.2.2.2.2.2.2.2.2.2.2.1) (a_calledOf := u.2.2.2.2.2.2.2.2.2.2.2.2.2.2.2.2.2.2.2.2.2.2.2.2.2.2.2.2.2.2.2.2) (c_en := c_en) (c_cd := c_cd) (c_ex := c_ex) (c_ho := c_ho) hk ht hi hT et hcs hf ek h4 h8 ha hb ea eb w1 w1' w2 w2' ep hS
  by_cases z : c_kn v &&& 2 = 0
  · exact ⟨(c_V, c_cs, k + 2, c_vo, c_kn, c_kA, c_kB, c_en, c_cd, c_ex, upd c_ta (k + 1) (nI pb), upd (upd c_ph k (nI 2)) (k + 1) 0, c_ho), (rfl : (c_V, c_vo, c_kn, c_kA, c_kB) = (c_V, c_vo, c_kn, c_kA, c_kB)), g1 z, (rfl : c_cs = c_cs), (pk_un (by omega)).trans et, ((pk_un (by omega)).trans pk_us : upd (upd c_ph k (nI 2)) (k + 1) 0 k = nI 2),
      fa_FR_mk hT (fun j hj => ⟨rfl, rfl⟩) (fun j hj => ⟨pk_un (by omega), (pk_un (by omega)).trans (pk_un (by omega)), rfl⟩),
      fun _ => ⟨(rfl : k + 2 = k + 2), (pk_us : upd c_ta (k + 1) (nI pb) (k + 1) = nI pb), (pk_us : upd (upd c_ph k (nI 2)) (k + 1) 0 (k + 1) = 0)⟩, fun z2 => absurd z z2⟩
  · exact ⟨(c_V, c_cs, k + 1, c_vo, c_kn, c_kA, c_kB, c_en, c_cd, c_ex, c_ta, upd c_ph k (nI 2), c_ho), (rfl : (c_V, c_vo, c_kn, c_kA, c_kB) = (c_V, c_vo, c_kn, c_kA, c_kB)), g2 z, (rfl : c_cs = c_cs), et, (pk_us : upd c_ph k (nI 2) k = nI 2),
      fa_FR_mk hT (fun j hj => ⟨rfl, rfl⟩) (fun j hj => ⟨rfl, pk_un (by omega), rfl⟩),
      fun z2 => absurd z2 z, fun _ => (rfl : k + 1 = k + 1)⟩
theorem gc_call2 {kd pa pb v : Nat} {z0 z1 : Int32} (hk : k < 19) (ht : t < 14) (hi : 14 * f + t < 70) (hT : fa_VI (cs_T s)) (htk : cs_tk s = k + 1) (et : cs_ta s k = nI t) (hcs : cs_cs s < 640) (hf : xu_fx u t = 0) (ek : xu_ki u (14 * f + t) = nI kd) (h4 : 4 ≤ kd) (h8 : kd < 8) (ha : pa < 14) (hb : pb < 14) (ea : xu_pA u (14 * f + t) = nI pa) (eb : xu_pB u (14 * f + t) = nI pb) (w1 : xu_fx u pa = 0 → z1 = 0) (w1' : ¬ xu_fx u pa = 0 → z1 = 1) (w2 : xu_fx u pb = 0 → z0 = 0) (w2' : ¬ xu_fx u pb = 0 → z0 = 2) (ep : cs_ph s k = nI 2) (hS : fa_Sel (cs_T s) (nI (kd - 4)) (z1 + z0) (xu_vl u pa) (xu_vl u pb) v) :
    ∃ s', cs_T s' = cs_T s ∧ fa_GC u f 1 s s' ∧ cs_tk s' = k ∧ cs_cs s' = cs_cs s + 1 ∧ cs_cd s' (cs_cs s) = 4 ∧ cs_ex s' (cs_cs s) = nI v ∧ fa_FR k (cs_cs s) s s' := by
  obtain ⟨c_V, c_cs, c_tk, c_vo, c_kn, c_kA, c_kB, c_en, c_cd, c_ex, c_ta, c_ph, c_ho⟩ := s; have e0 : c_tk = k + 1 := htk; subst e0
  have g := gt_call2 (f_made := u.1) (f_height := u.2.1) (f_versions := u.2.2.1) (f_codeSize := u.2.2.2.1) (f_tasks := u.2.2.2.2.1) (f_values := u.2.2.2.2.2.1) (f_frames := u.2.2.2.2.2.2.1) (f_called := u.2.2.2.2.2.2.2.1) (f_ended := u.2.2.2.2.2.2.2.2.1) (a_kind := u.2.2.2.2.2.2.2.2.2.1) (a_partA := u.2.2.2.2.2.2.2.2.2.2.1) (a_partB := u.2.2.2.2.2.2.2.2.2.2.2.1) (a_partC := u.2.2.2.2.2.2.2.2.2.2.2.2.1) (a_number := u.2.2.2.2.2.2.2.2.2.2.2.2.2.1) (a_size := u.2.2.2.2.2.2.2.2.2.2.2.2.2.2.1) (a_stack := u.2.2.2.2.2.2.2.2.2.2.2.2.2.2.2.1) (a_versionOf := u.2.2.2.2.2.2.2.2.2.2.2.2.2.2.2.2.1) (a_known := u.2.2.2.2.2.2.2.2.2.2.2.2.2.2.2.2.2.1) (a_knownA := u.2.2.2.2.2.2.2.2.2.2.2.2.2.2.2.2.2.2.1) (a_knownB := u.2.2.2.2.2.2.2.2.2.2.2.2.2.2.2.2.2.2.2.1) (a_entry := u.2.2.2.2.2.2.2.2.2.2.2.2.2.2.2.2.2.2.2.2.1) (a_fixed := u.2.2.2.2.2.2.2.2.2.2.2.2.2.2.2.2.2.2.2.2.2.1) (a_value := u.2.2.2.2.2.2.2.2.2.2.2.2.2.2.2.2.2.2.2.2.2.2.1) (a_code := u.2.2.2.2.2.2.2.2.2.2.2.2.2.2.2.2.2.2.2.2.2.2.2.1) (a_extra := u.2.2.2.2.2.2.2.2.2.2.2.2.2.2.2.2.2.2.2.2.2.2.2.2.1) (a_task := u.2.2.2.2.2.2.2.2.2.2.2.2.2.2.2.2.2.2.2.2.2.2.2.2.2.1) (a_phase := u.2.2.2.2.2.2.2.2.2.2.2.2.2.2.2.2.2.2.2.2.2.2.2.2.2.2.1) (a_hole := u.2.2.2.2.2.2.2.2.2.2.2.2.2.2.2.2.2.2.2.2.2.2.2.2.2.2.2.1) (a_pile := u.2.2.2.2.2.2.2.2.2.2.2.2.2.2.2.2.2.2.2.2.2.2.2.2.2.2.2.2.1) (a_frameA := u.2.2.2.2.2.2.2.2.2.2.2.2.2.2.2.2.2.2.2.2.2.2.2.2.2.2.2.2.2.1) (a_frameB := u.2.2.2.2.2.2.2.2.2.2.2.2.2.2.2.2.2.2.2.2.2.2.2.2.2.2.2.2.2.2.1) (a_back := u.2.2.2.2.2.2.2.2.2.2.2.2.2.2.2.2.2.2.2.2.2.2.2.2.2.2.2.2.2.2.2.1) (a_calledOf := u.2.2.2.2.2.2.2.2.2.2.2.2.2.2.2.2.2.2.2.2.2.2.2.2.2.2.2.2.2.2.2.2) (c_en := c_en) (c_cd := c_cd) (c_ex := c_ex) (c_ho := c_ho) hk ht hi hT et hcs hf ek h4 h8 ha hb ea eb w1 w1' w2 w2' ep hS
  refine ⟨(c_V, c_cs + 1, k, c_vo, c_kn, c_kA, c_kB, c_en, upd c_cd c_cs 4, upd c_ex c_cs (nI v), c_ta, upd c_ph k (nI 3), c_ho), (rfl : (c_V, c_vo, c_kn, c_kA, c_kB) = (c_V, c_vo, c_kn, c_kA, c_kB)), g, (rfl : k = k), (rfl : c_cs + 1 = c_cs + 1), (pk_us : upd c_cd c_cs 4 c_cs = 4), (pk_us : upd c_ex c_cs (nI v) c_cs = nI v), fa_FR_mk hT (fun j hj => ?_) (fun j hj => ⟨rfl, pk_un (by omega), rfl⟩)⟩
  have hj' : j < c_cs := hj
  exact ⟨pk_un (by omega), pk_un (by omega)⟩
end
end
section
/-! The code that is made for a term is code for that term -/
/-- the program as it lies in the component's arrays -/
def fa_PU (P : fa_P) (u : SX) (f : Nat) : Prop := ∀ t, t ≤ fa_rt P f → xu_ki u (14 * f + t) = nI (fa_kd P f t) ∧ (fa_kd P f t = 9 ∨ fa_kd P f t = 10 → xu_nu u (14 * f + t) = fa_nm P f t) ∧
  (fa_kd P f t ≤ 8 → xu_pA u (14 * f + t) = nI (fa_pa P f t) ∧ xu_pB u (14 * f + t) = nI (fa_pb P f t)) ∧ (fa_kd P f t = 8 → xu_pC u (14 * f + t) = nI (fa_pc P f t))
def fa_fv (u : SX) (t : Nat) : Option Int32 := if xu_fx u t = 0 then none else some (xu_vl u t)
theorem fa_fvN {u : SX} {t : Nat} (h : fa_fv u t = none) : xu_fx u t = 0 := by
  unfold fa_fv at h
  by_cases z : xu_fx u t = 0
  · exact z
  · rw [if_neg z] at h; exact nomatch h
theorem fa_fvS {u : SX} {t : Nat} {x : Int32} (h : fa_fv u t = some x) : ¬ xu_fx u t = 0 ∧ xu_vl u t = x := by
  unfold fa_fv at h
  by_cases z : xu_fx u t = 0
  · rw [if_pos z] at h; exact nomatch h
  · rw [if_neg z] at h; exact ⟨z, Option.some.inj h⟩
theorem fa_fvI {u : SX} {t : Nat} (z : ¬ xu_fx u t = 0) : fa_fv u t = some (xu_vl u t) := if_neg z
def fa_CD (P : fa_P) (f : Nat) (u : SX) (n t k : Nat) (s : fa_CS) : Prop := ∃ K s', K ≤ 4 * fa_sz P f t ∧ fa_GC u f K s s' ∧ cs_tk s' = k ∧
  fa_CF P f (fa_fv u) (cs_T s') (cs_cd s') (cs_ex s') n t (cs_cs s) (cs_cs s') ∧ fa_FR k (cs_cs s) s s'
theorem fa_FR_w {k k' p p' : Nat} {s s' : fa_CS} (h : fa_FR k' p' s s') (hk : k ≤ k') (hp : p ≤ p') : fa_FR k p s s' :=
  ⟨h.1, h.2.1, h.2.2.1, fun j hj => h.2.2.2.1 j (by omega), fun j hj => h.2.2.2.2 j (by omega)⟩
section
variable {P : fa_P} {f : Nat} {u : SX}
/-- an argument of a call: its code, or none -/
theorem cs_opd {n t k bt pd v ph z : Nat} {s0 s1 : fa_CS} {K : Nat} (ih : cs_tk s1 = k + 2 → cs_ta s1 (k + 1) = nI pd → cs_ph s1 (k + 1) = nI 0 → fa_CD P f u n pd (k + 1) s1)
    (hg : fa_GC u f K s0 s1) (hFR : fa_FR k (cs_cs s0) s0 s1) (hc : cs_cs s0 ≤ cs_cs s1) (et : cs_ta s1 k = nI t) (ep : cs_ph s1 k = nI ph) (hv : v < s1.1) (hz : 4 * fa_sz P f pd ≤ z)
    (b1 : fa_kn (cs_T s1) v &&& nI bt = 0 → cs_tk s1 = k + 2 ∧ cs_ta s1 (k + 1) = nI pd ∧ cs_ph s1 (k + 1) = nI 0) (b2 : ¬ fa_kn (cs_T s1) v &&& nI bt = 0 → cs_tk s1 = k + 1) :
    ∃ K2 s2, K2 ≤ K + z ∧ fa_GC u f K2 s0 s2 ∧ cs_tk s2 = k + 1 ∧ cs_ta s2 k = nI t ∧ cs_ph s2 k = nI ph ∧ fa_FR k (cs_cs s0) s0 s2 ∧ fa_FR k (cs_cs s1) s1 s2 ∧ cs_cs s1 ≤ cs_cs s2 ∧
      (fa_kn (cs_T s2) v &&& nI bt = 0 → fa_CF P f (fa_fv u) (cs_T s2) (cs_cd s2) (cs_ex s2) n pd (cs_cs s1) (cs_cs s2)) ∧ (¬ fa_kn (cs_T s2) v &&& nI bt = 0 → cs_cs s2 = cs_cs s1) := by
  by_cases hb : fa_kn (cs_T s1) v &&& nI bt = 0
  · obtain ⟨h1, h2, h3⟩ := b1 hb
    obtain ⟨K2, s2, hK, g2, tk2, cf, fr⟩ := ih h1 h2 h3
    have e := fr.2.2.2.2 k (by omega)
    have ev := (fr.1.2 v hv).2.1
    have lt := fa_CF_lt cf
    refine ⟨K + K2, s2, by omega, fa_GC_tr hg g2, tk2, e.1.trans et, e.2.1.trans ep, fa_FR_tr hFR fr (by omega) hc, ?_, by omega, fun _ => cf, fun w => ?_⟩
    · exact ⟨fr.1, fr.2.1, fr.2.2.1, fr.2.2.2.1, fun j hj => fr.2.2.2.2 j (by omega)⟩
    · rw [ev] at w; exact absurd hb w
  · refine ⟨K, s1, by omega, hg, b2 hb, et, ep, hFR, ⟨fa_VX_rf _, hFR.2.1, fa_EX_rf, fun _ _ => ⟨rfl, rfl⟩, fun _ _ => ⟨rfl, rfl, rfl⟩⟩, by omega, fun w => absurd w hb, fun _ => rfl⟩
theorem cs_term (hP : fa_PW P) (hf : f < 4) (hU : fa_PU P u f) {kn kA kB : Int32} (hv : ∀ t, t ≤ fa_rt P f → fa_FE P f kn kA kB (fa_fv u) t) :
    ∀ (n t k : Nat) (s : fa_CS), t < n → t ≤ fa_rt P f → k + t < 19 → cs_cs s + 2 * fa_sz P f t ≤ 639 → fa_VI (cs_T s) → cs_tk s = k + 1 → cs_ta s k = nI t → cs_ph s k = nI 0 → fa_CD P f u n t k s := by
  have hrt := (hP f hf).1
  intro n
  induction n with
  | zero => intro t k s hn; omega
  | succ n ih =>
    intro t k s hn ht hk hcs hT htk et ep
    have hw := (hP f hf).2.2 t ht
    have hz := fa_sz1 hw
    obtain ⟨u1, u2, u3, u4⟩ := hU t ht
    cases ev : fa_fv u t with
    | some x =>
      obtain ⟨hx, hx2⟩ := fa_fvS ev
      obtain ⟨s', g, tk', c', cd', ex', fr⟩ := gc_fix (f := f) (by omega) (by omega) (by omega) hT htk et ep (by omega) hx
      refine ⟨1, s', by omega, g, tk', ⟨by omega, fun y hy => ?_, fun hy => ?_⟩, fr⟩
      · rw [ev] at hy
        exact ⟨c', cd', ex'.trans (hx2.trans (Option.some.inj hy))⟩
      · rw [ev] at hy; exact nomatch hy
    | none =>
      have hfx := fa_fvN ev
      obtain ⟨v9, v10, v11, v12, v13, v4, v7, v8⟩ := hv t ht
      rcases hw with hw | hw | hw | hw
      · rw [v9 hw.1] at ev; exact nomatch ev
      · have ek : xu_ki u (14 * f + t) = 10 := by rw [u1, hw.1]; rfl
        have en := u2 (Or.inr hw.1)
        clear v9 v10 v11 v12 v13 v4 v7 v8 u2 u3 u4
        obtain ⟨s', g, tk', c', cd', ex', fr⟩ := gc_arg (f := f) (by omega) (by omega) (by omega) hT htk et ep (by omega) hfx ek
        refine ⟨1, s', by omega, g, tk', ⟨by omega, fun y hy => ?_, fun hy => ?_⟩, fr⟩
        · rw [ev] at hy; exact nomatch hy
        · exact ⟨fun _ => ⟨c', cd', ex'.trans en⟩, fun z => absurd z (by omega), fun z1 z2 => absurd z2 (by omega), fun z => absurd z (by omega)⟩
      · obtain ⟨eA, eB⟩ := u3 (by omega)
        clear v9 v10 v11 v12 v13 v4 v7 v8 u2 u3 u4
        have szA := fa_sz1 ((hP f hf).2.2 (fa_pa P f t) (by omega))
        have szB := fa_sz1 ((hP f hf).2.2 (fa_pb P f t) (by omega))
        by_cases h4 : fa_kd P f t < 4
        · obtain ⟨s1, g1, tk1, c1, ta1, ph1, tb1, pb1, fr1⟩ := gc_op01 (f := f) (ph := 0) (by omega) (by omega) (by omega) hT htk et ep (by omega) hfx u1 h4 (by rw [if_pos rfl]; exact eA)
          obtain ⟨K2, s2, hK2, g2, tk2, cf2, fr2⟩ := ih (fa_pa P f t) (k + 1) s1 (by omega) (by omega) (by omega) (by omega) fr1.2.1 tk1 ta1 ph1
          have l2 := fa_CF_len hP hf hv _ _ _ _ (by omega) cf2
          have m2 := fa_CF_lt cf2
          have e2 := fr2.2.2.2.2 k (by omega)
          obtain ⟨s3, g3, tk3, c3, ta3, ph3, tb3, pb3, fr3⟩ := gc_op01 (f := f) (ph := 1) (by omega) (by omega) (by omega) fr2.2.1 tk2 (e2.1.trans tb1) (e2.2.1.trans pb1) (by omega) hfx u1 h4 (by rw [if_neg (by decide)]; exact eB)
          obtain ⟨K4, s4, hK4, g4, tk4, cf4, fr4⟩ := ih (fa_pb P f t) (k + 1) s3 (by omega) (by omega) (by omega) (by omega) fr3.2.1 tk3 ta3 ph3
          have l4 := fa_CF_len hP hf hv _ _ _ _ (by omega) cf4
          have m4 := fa_CF_lt cf4
          have e4 := fr4.2.2.2.2 k (by omega)
          obtain ⟨s5, g5, tk5, c5, cd5, fr5⟩ := gc_op2 (f := f) (by omega) (by omega) (by omega) fr4.2.1 tk4 (e4.1.trans tb3) (e4.2.1.trans pb3) (by omega) hfx u1 h4
          have f45 : fa_FR k (cs_cs s3) s3 s5 := fa_FR_tr (k' := k) (p' := cs_cs s4) ⟨fr4.1, fr4.2.1, fr4.2.2.1, fr4.2.2.2.1, fun j hj => fr4.2.2.2.2 j (by omega)⟩ fr5 (by omega) (by omega)
          have f25 : fa_FR k (cs_cs s2) s2 s5 := fa_FR_tr fr3 f45 (by omega) (by omega)
          have f15 : fa_FR k (cs_cs s1) s1 s5 := fa_FR_tr (p' := cs_cs s2) ⟨fr2.1, fr2.2.1, fr2.2.2.1, fr2.2.2.2.1, fun j hj => fr2.2.2.2.2 j (by omega)⟩ f25 (by omega) (by omega)
          refine ⟨1 + K2 + 1 + K4 + 1, s5, by omega, fa_GC_tr (fa_GC_tr (fa_GC_tr (fa_GC_tr g1 g2) g3) g4) g5, tk5, ⟨by omega, fun y hy => ?_, fun hy => ?_⟩, fa_FR_tr fr1 f15 (by omega) (by omega)⟩
          · rw [ev] at hy; exact nomatch hy
          · refine ⟨fun z => absurd z (by omega), fun _ => ⟨cs_cs s2, cs_cs s4, ?_, ?_, cd5, c5⟩, fun z1 z2 => absurd z1 (by omega), fun z => absurd z (by omega)⟩
            · rw [← c1]; exact fa_CF_ext f25.1 _ _ _ _ (fun j _ hj => f25.2.2.2.1 j hj) cf2
            · rw [← c3]; exact fa_CF_ext fr5.1 _ _ _ _ (fun j _ hj => fr5.2.2.2.1 j hj) cf4
        · have w1 : xu_fx u (fa_pa P f t) = 0 → fa_w1 (xu_fx u (fa_pa P f t)) = 0 := fun z => if_pos z
          have w1' : ¬ xu_fx u (fa_pa P f t) = 0 → fa_w1 (xu_fx u (fa_pa P f t)) = 1 := fun z => if_neg z
          have w2 : xu_fx u (fa_pb P f t) = 0 → fa_w2 (xu_fx u (fa_pb P f t)) = 0 := fun z => if_pos z
          have w2' : ¬ xu_fx u (fa_pb P f t) = 0 → fa_w2 (xu_fx u (fa_pb P f t)) = 2 := fun z => if_neg z
          have hg4 : fa_kd P f t - 4 < 4 := by omega
          obtain ⟨v, s1, hS, g1, c1, ta1, ph1, fr1, b1, b2⟩ := gc_call0 (f := f) (fa_wv (xu_fx u (fa_pa P f t)) (xu_fx u (fa_pb P f t))) (by omega) (by omega) (by omega) hT htk et (by omega) hfx u1 (by omega) hw.1 (by omega) (by omega) eA eB w1 w1' w2 w2' ep
          obtain ⟨F1, F2, F3, F4, F5⟩ := fa_SelF fr1.2.1 hg4 hS
          obtain ⟨K2, s2, hK2, g2, tk2, ta2, ph2, fr2, fr12, lc2, q1, q2⟩ := cs_opd (P := P) (f := f) (u := u) (n := n) (t := t) (k := k) (bt := 1) (pd := fa_pa P f t) (v := v) (ph := 1) (z := 4 * fa_sz P f (fa_pa P f t)) (s0 := s) (s1 := s1) (K := 1)
            (fun y1 y2 y3 => ih (fa_pa P f t) (k + 1) s1 (by omega) (by omega) (by omega) (by omega) fr1.2.1 y1 y2 y3) g1 fr1 (by omega) ta1 ph1 F1 (by omega) b1 b2
          have l2 : cs_cs s2 ≤ cs_cs s1 + 2 * fa_sz P f (fa_pa P f t) := by
            by_cases z : fa_kn (cs_T s2) v &&& nI 1 = 0
            · exact fa_CF_len hP hf hv _ _ _ _ (by omega) (q1 z)
            · have := q2 z; omega
          have hS2 := fa_SelX fr12.1 fr12.2.1.2.1 hS
          obtain ⟨s3, T3, g3, c3, ta3, ph3, fr3, b3, b4⟩ := gc_call1 (f := f) (by omega) (by omega) (by omega) fr2.2.1 tk2 ta2 (by omega) hfx u1 (by omega) hw.1 (by omega) (by omega) eA eB w1 w1' w2 w2' ph2 hS2
          have v3 : v < s3.1 := Nat.lt_of_lt_of_le (Nat.lt_of_lt_of_le F1 fr12.1.1) fr3.1.1
          obtain ⟨K4, s4, hK4, g4, tk4, ta4, ph4, fr4, fr34, lc4, q3, q4⟩ := cs_opd (P := P) (f := f) (u := u) (n := n) (t := t) (k := k) (bt := 2) (pd := fa_pb P f t) (v := v) (ph := 2) (z := 4 * fa_sz P f (fa_pb P f t)) (s0 := s2) (s1 := s3) (K := 1)
            (fun y1 y2 y3 => ih (fa_pb P f t) (k + 1) s3 (by omega) (by omega) (by omega) (by omega) fr3.2.1 y1 y2 y3) g3 fr3 (by omega) ta3 ph3 v3 (by omega) b3 b4
          have l4 : cs_cs s4 ≤ cs_cs s3 + 2 * fa_sz P f (fa_pb P f t) := by
            by_cases z : fa_kn (cs_T s4) v &&& nI 2 = 0
            · exact fa_CF_len hP hf hv _ _ _ _ (by omega) (q3 z)
            · have := q4 z; omega
          have hS4 := fa_SelX fr4.1 fr4.2.1.2.1 hS2
          obtain ⟨s5, T5, g5, tk5, c5, cd5, ex5, fr5⟩ := gc_call2 (f := f) (by omega) (by omega) (by omega) fr4.2.1 tk4 ta4 (by omega) hfx u1 (by omega) hw.1 (by omega) (by omega) eA eB w1 w1' w2 w2' ph4 hS4
          obtain ⟨G1, G2, G3, G4, G5⟩ := fa_SelF fr4.2.1 hg4 hS4
          have f25 : fa_FR k (cs_cs s2) s2 s5 := fa_FR_tr fr4 fr5 (by omega) (by omega)
          have k2 : fa_kn (cs_T s4) v = fa_kn (cs_T s2) v := (fr4.1.2 v (Nat.lt_of_lt_of_le F1 fr12.1.1)).2.1
          refine ⟨K2 + K4 + 1, s5, by omega, fa_GC_tr (fa_GC_tr g2 g4) g5, tk5, ⟨by omega, fun y hy => ?_, fun hy => ?_⟩, fa_FR_tr fr2 f25 (by omega) (by omega)⟩
          · rw [ev] at hy; exact nomatch hy
          · refine ⟨fun z => absurd z (by omega), fun z => absurd z h4, fun _ _ => ⟨v, cs_cs s2, cs_cs s4, ?_, ?_, ?_, ?_, ?_, ?_, cd5, ex5, c5⟩, fun z => absurd z (by omega)⟩
            · rw [T5]; exact G1
            · rw [T5]; exact G3
            · rw [T5, k2]
              intro z
              have q := q1 z
              rw [c1] at q
              have q' := fa_CF_ext f25.1 _ _ _ _ (fun j _ hj => f25.2.2.2.1 j hj) q
              rw [T5] at q'; exact q'
            · rw [T5]
              intro z
              obtain ⟨y1, y2⟩ := G4 z
              rw [k2] at z
              exact ⟨(q2 z).trans c1, by rw [y2]; exact fa_fvI (fa_wb1 y1)⟩
            · rw [T5]
              intro z
              have q := q3 z
              rw [c3] at q
              have q' := fa_CF_ext fr5.1 _ _ _ _ (fun j _ hj => fr5.2.2.2.1 j hj) q
              rw [T5] at q'; exact q'
            · rw [T5]
              intro z
              obtain ⟨y1, y2⟩ := G5 z
              exact ⟨(q4 z).trans c3, by rw [y2]; exact fa_fvI (fa_wb2 y1)⟩
      · obtain ⟨eA, eB⟩ := u3 (by omega)
        have eC := u4 hw.1
        have ek : xu_ki u (14 * f + t) = 8 := by rw [u1, hw.1]; rfl
        clear v9 v10 v11 v12 v13 v4 v7 v8 u2 u3 u4
        have szA := fa_sz1 ((hP f hf).2.2 (fa_pa P f t) (by omega))
        have szB := fa_sz1 ((hP f hf).2.2 (fa_pb P f t) (by omega))
        have szC := fa_sz1 ((hP f hf).2.2 (fa_pc P f t) (by omega))
        cases ea : fa_fv u (fa_pa P f t) with
        | some x =>
          obtain ⟨hx, hx2⟩ := fa_fvS ea
          have hs : fa_sd P f t x < t := by unfold fa_sd; split <;> omega
          have hs2 : fa_sz P f (fa_sd P f t x) + 1 ≤ fa_sz P f t := by unfold fa_sd; split <;> omega
          have edC : xu_vl u (fa_pa P f t) = 0 → xu_pC u (14 * f + t) = nI (fa_sd P f t x) := by
            intro z; rw [eC]; unfold fa_sd; rw [if_pos (hx2.symm.trans z)]
          have edB : ¬ xu_vl u (fa_pa P f t) = 0 → xu_pB u (14 * f + t) = nI (fa_sd P f t x) := by
            intro z; rw [eB]; unfold fa_sd; rw [if_neg (fun y => z (hx2.trans y))]
          obtain ⟨s1, g1, tk1, c1, ta1, ph1, fr1⟩ := gc_chK (f := f) (by omega) (by omega) (by omega) hT htk et ep hfx ek (by omega) eA hx edC edB
          obtain ⟨K2, s2, hK2, g2, tk2, cf2, fr2⟩ := ih (fa_sd P f t x) k s1 (by omega) (by omega) (by omega) (by omega) fr1.2.1 tk1 ta1 ph1
          have m2 := fa_CF_lt cf2
          refine ⟨1 + K2, s2, by omega, fa_GC_tr g1 g2, tk2, ⟨by omega, fun y hy => ?_, fun hy => ?_⟩, fa_FR_tr fr1 fr2 (by omega) (by omega)⟩
          · rw [ev] at hy; exact nomatch hy
          · refine ⟨fun z => absurd z (by omega), fun z => absurd z (by omega), fun z1 z2 => absurd z2 (by omega), fun _ => ⟨fun y hy => ?_, fun hy => ?_⟩⟩
            · rw [ea] at hy
              rw [← c1, ← Option.some.inj hy]; exact cf2
            · rw [ea] at hy; exact nomatch hy
        | none =>
          have hfa := fa_fvN ea
          obtain ⟨s1, g1, tk1, c1, ta1, ph1, tb1, pb1, fr1⟩ := gc_ch0 (f := f) (by omega) (by omega) (by omega) hT htk et ep hfx ek (by omega) eA hfa
          obtain ⟨K2, s2, hK2, g2, tk2, cf2, fr2⟩ := ih (fa_pa P f t) (k + 1) s1 (by omega) (by omega) (by omega) (by omega) fr1.2.1 tk1 ta1 ph1
          have l2 := fa_CF_len hP hf hv _ _ _ _ (by omega) cf2
          have m2 := fa_CF_lt cf2
          have e2 := fr2.2.2.2.2 k (by omega)
          obtain ⟨s3, g3, tk3, c3, ta3, ph3, tb3, pb3, cd3, ho3, fr3⟩ := gc_ch1 (f := f) (by omega) (by omega) (by omega) fr2.2.1 tk2 (e2.1.trans tb1) (e2.2.1.trans pb1) (by omega) hfx ek (by omega) eA eB hfa
          obtain ⟨K4, s4, hK4, g4, tk4, cf4, fr4⟩ := ih (fa_pb P f t) (k + 1) s3 (by omega) (by omega) (by omega) (by omega) fr3.2.1 tk3 ta3 ph3
          have l4 := fa_CF_len hP hf hv _ _ _ _ (by omega) cf4
          have m4 := fa_CF_lt cf4
          have e4 := fr4.2.2.2.2 k (by omega)
          obtain ⟨s5, g5, tk5, c5, ta5, ph5, tb5, pb5, cd5, ho5, ex5, cm5, ag5, fr5⟩ := gc_ch2 (f := f) (m := cs_cs s2) (by omega) (by omega) (by omega) fr4.2.1 tk4 (e4.1.trans tb3) (e4.2.1.trans pb3) (by omega) (by omega) hfx ek (by omega) eA eC hfa (e4.2.2.trans ho3)
          obtain ⟨K6, s6, hK6, g6, tk6, cf6, fr6⟩ := ih (fa_pc P f t) (k + 1) s5 (by omega) (by omega) (by omega) (by omega) fr5.2.1 tk5 ta5 ph5
          have l6 := fa_CF_len hP hf hv _ _ _ _ (by omega) cf6
          have m6 := fa_CF_lt cf6
          have e6 := fr6.2.2.2.2 k (by omega)
          obtain ⟨s7, g7, tk7, c7, ex7, cd7, xx7, fr7⟩ := gc_ch3 (f := f) (m := cs_cs s4) (by omega) (by omega) (by omega) fr6.2.1 tk6 (e6.1.trans tb5) (e6.2.1.trans pb5) (by omega) hfx ek (by omega) eA hfa (e6.2.2.trans ho5)
          have d6 : fa_FR k (cs_cs s5) s5 s6 := ⟨fr6.1, fr6.2.1, fr6.2.2.1, fr6.2.2.2.1, fun j hj => fr6.2.2.2.2 j (by omega)⟩
          have d4 : fa_FR k (cs_cs s3) s3 s4 := ⟨fr4.1, fr4.2.1, fr4.2.2.1, fr4.2.2.2.1, fun j hj => fr4.2.2.2.2 j (by omega)⟩
          have d2 : fa_FR k (cs_cs s1) s1 s2 := ⟨fr2.1, fr2.2.1, fr2.2.2.1, fr2.2.2.2.1, fun j hj => fr2.2.2.2.2 j (by omega)⟩
          have x7 : fa_VX (cs_T s6) (cs_T s7) := fr7.1
          have x5 : fa_VX (cs_T s4) (cs_T s7) := fa_VX_tr fr5.1 (fa_VX_tr fr6.1 x7)
          have x3 : fa_VX (cs_T s2) (cs_T s7) := fa_VX_tr fr3.1 (fa_VX_tr fr4.1 x5)
          have a67 : ∀ j, j ≠ cs_cs s4 → cs_cd s7 j = cs_cd s6 j ∧ cs_ex s7 j = cs_ex s6 j := fun j hj => ⟨cd7 j, xx7 j hj⟩
          have a57 : ∀ j, j < cs_cs s4 → cs_cd s7 j = cs_cd s5 j ∧ cs_ex s7 j = cs_ex s5 j := fun j hj => by
            have y := a67 j (by omega)
            have y2 := fr6.2.2.2.1 j (by omega)
            exact ⟨y.1.trans y2.1, y.2.trans y2.2⟩
          have a47 : ∀ j, cs_cs s2 < j → j < cs_cs s4 → cs_cd s7 j = cs_cd s4 j ∧ cs_ex s7 j = cs_ex s4 j := fun j h1 h2 => by
            have y := a57 j h2
            have y2 := ag5 j h1 h2
            exact ⟨y.1.trans y2.1, y.2.trans y2.2⟩
          have a27 : ∀ j, j < cs_cs s2 → cs_cd s7 j = cs_cd s2 j ∧ cs_ex s7 j = cs_ex s2 j := fun j h1 => by
            have y := a57 j (by omega)
            have y2 := fr5.2.2.2.1 j h1
            have y3 := fr4.2.2.2.1 j (by omega)
            have y4 := fr3.2.2.2.1 j h1
            exact ⟨y.1.trans (y2.1.trans (y3.1.trans y4.1)), y.2.trans (y2.2.trans (y3.2.trans y4.2))⟩
          have r27 : fa_FR k (cs_cs s2) s2 s7 := by
            have y4 : fa_FR k (cs_cs s2) s3 s4 := fa_FR_w d4 (Nat.le_refl k) (by omega)
            have y7 : fa_FR k (cs_cs s2) s5 s7 := fa_FR_tr (k' := k) (p' := cs_cs s4) (fa_FR_w d6 (Nat.le_refl k) (by omega)) fr7 (Nat.le_refl k) (by omega)
            exact fa_FR_tr fr3 (fa_FR_tr y4 (fa_FR_tr fr5 y7 (Nat.le_refl k) (Nat.le_refl _)) (Nat.le_refl k) (Nat.le_refl _)) (Nat.le_refl k) (Nat.le_refl _)
          have r17 : fa_FR k (cs_cs s1) s1 s7 := fa_FR_tr d2 r27 (Nat.le_refl k) (by omega)
          refine ⟨1 + K2 + 1 + K4 + 1 + K6 + 1, s7, by omega, fa_GC_tr (fa_GC_tr (fa_GC_tr (fa_GC_tr (fa_GC_tr (fa_GC_tr g1 g2) g3) g4) g5) g6) g7, tk7, ⟨by omega, fun y hy => ?_, fun hy => ?_⟩, fa_FR_tr fr1 r17 (Nat.le_refl k) (by omega)⟩
          · rw [ev] at hy; exact nomatch hy
          · refine ⟨fun z => absurd z (by omega), fun z => absurd z (by omega), fun z1 z2 => absurd z2 (by omega), fun _ => ⟨fun y hy => ?_, fun _ => ?_⟩⟩
            · rw [ea] at hy; exact nomatch hy
            · refine ⟨cs_cs s2, cs_cs s4, ?_, ?_, ?_, ?_, ?_, ?_, ?_⟩
              · rw [← c1]; exact fa_CF_ext x3 _ _ _ _ (fun j _ hj => a27 j hj) cf2
              · have y := (a57 (cs_cs s2) (by omega)).1
                have y3 := (fr4.2.2.2.1 (cs_cs s2) (by omega)).1
                exact y.trans (cm5.trans (y3.trans cd3))
              · exact (a57 (cs_cs s2) (by omega)).2.trans ex5
              · rw [← c3]; exact fa_CF_ext x5 _ _ _ _ (fun j h1 h2 => a47 j (by omega) h2) cf4
              · exact (cd7 _).trans ((fr6.2.2.2.1 (cs_cs s4) (by omega)).1.trans cd5)
              · rw [c7]; exact ex7
              · rw [← c5, c7]; exact fa_CF_ext x7 _ _ _ _ (fun j h1 _ => a67 j (by omega)) cf6
end
end
section
/-! settle: what is known of a term -/
theorem fa_nb0 : vp_nar .boolean 0 = 0 := by decide
theorem fa_nb1 : vp_nar .boolean 1 = 1 := by decide
theorem fa_sh0 {k : Int32} (h : k = 0 ∨ k = 1 ∨ k = 2 ∨ k = 3) : (k >>> ((0 : Int32) &&& 31)) &&& 1 = 1 ↔ ¬ k &&& 1 = 0 := by
  rcases h with rfl | rfl | rfl | rfl <;> decide
theorem fa_sh1 {k : Int32} (h : k = 0 ∨ k = 1 ∨ k = 2 ∨ k = 3) : (k >>> ((1 : Int32) &&& 31)) &&& 1 = 1 ↔ ¬ k &&& 2 = 0 := by
  rcases h with rfl | rfl | rfl | rfl <;> decide
section
variable {f_made f_height f_versions f_codeSize f_tasks f_values f_frames f_called f_ended : Int32} {a_kind a_partA a_partB a_partC a_number a_size a_stack a_versionOf a_known a_knownA a_knownB a_entry a_fixed a_value a_code a_extra a_task a_phase a_hole a_pile a_frameA a_frameB a_back a_calledOf : Nat → Int32}
theorem st_pre {post : SX → Prop} {v f t : Nat} {k : Int32} (hv : v < 16) (ht : t < 14) (hi : 14 * f + t < 70) (ev : a_versionOf v = nI f) (ek : a_kind (14 * f + t) = k) :
    vp_in (nI v) 16 ∧ (14 : Int32) * a_versionOf (nI v).toNatClampNeg + nI t = nI (14 * f + t) ∧ vp_in (nI (14 * f + t)) 70 ∧ a_kind (nI (14 * f + t)).toNatClampNeg = k ∧ vp_in (nI t) 14 ∧ upd a_fixed (nI t).toNatClampNeg (vp_nar .boolean 0) = upd a_fixed t 0 := by
  refine ⟨vp_in_nI hv (by omega), ?_, vp_in_nI hi (by omega), (fa_ix (by omega)).trans ek, vp_in_nI ht (by omega), fa_uxe (by omega) fa_nb0⟩
  rw [nI_clamp (by omega), ev]; exact fa_at
theorem st_9 {post : SX → Prop} {v f t : Nat} (hv : v < 16) (ht : t < 14) (hi : 14 * f + t < 70) (ev : a_versionOf v = nI f) (ek : a_kind (14 * f + t) = 9) (H : post (f_made, f_height, f_versions, f_codeSize, f_tasks, f_values, f_frames, f_called, f_ended, a_kind, a_partA, a_partB, a_partC, a_number, a_size, a_stack, a_versionOf, a_known, a_knownA, a_knownB, a_entry, upd (upd a_fixed t 0) t 1, upd a_value t (a_number (14 * f + t)), a_code, a_extra, a_task, a_phase, a_hole, a_pile, a_frameA, a_frameB, a_back, a_calledOf)) : wpX_settle post (f_made, f_height, f_versions, f_codeSize, f_tasks, f_values, f_frames, f_called, f_ended, a_kind, a_partA, a_partB, a_partC, a_number, a_size, a_stack, a_versionOf, a_known, a_knownA, a_knownB, a_entry, a_fixed, a_value, a_code, a_extra, a_task, a_phase, a_hole, a_pile, a_frameA, a_frameB, a_back, a_calledOf) (nI v) (nI t) := by
  obtain ⟨p1, p2, p3, p4, p5, p6⟩ := st_pre (post := post) (a_fixed := a_fixed) hv ht hi ev ek
  exact And.intro p1 (nm_r p2 (And.intro p3 (nm_r p4 (And.intro p5 (nm_r p6 (br_t rfl (And.intro p5 (nm_r (fa_uxe (by omega) fa_nb1) (And.intro p3 (And.intro p5 (nm_r (fa_uxe (by omega) (fa_ix (by omega))) H)))))))))))
theorem st_92 {post : SX → Prop} {v i t : Nat} {z w : Int32} (hv : v < 16) (ht : t < 14) (hi : i < 70) (hz : vp_nar .boolean z = z) (w0 : a_number i = 0 → w = a_knownA v) (w1 : ¬ a_number i = 0 → w = a_knownB v)
    (H : post (f_made, f_height, f_versions, f_codeSize, f_tasks, f_values, f_frames, f_called, f_ended, a_kind, a_partA, a_partB, a_partC, a_number, a_size, a_stack, a_versionOf, a_known, a_knownA, a_knownB, a_entry, upd a_fixed t z, upd a_value t w, a_code, a_extra, a_task, a_phase, a_hole, a_pile, a_frameA, a_frameB, a_back, a_calledOf)) : wX_settle_92 post (nI v) (nI t) (nI i) z (nI t) f_made f_height f_versions f_codeSize f_tasks f_values f_frames f_called f_ended a_kind a_partA a_partB a_partC a_number a_size a_stack a_versionOf a_known a_knownA a_knownB a_entry a_fixed a_value a_code a_extra a_task a_phase a_hole a_pile a_frameA a_frameB a_back a_calledOf := by
  have p5 : vp_in (nI t) 14 := vp_in_nI ht (by omega)
  have pv : vp_in (nI v) 16 := vp_in_nI hv (by omega)
  unfold wX_settle_92
  refine And.intro p5 (nm_r (fa_uxe (by omega) hz) (And.intro (vp_in_nI hi (by omega)) ?_))
  rw [nI_clamp (show i < 2 ^ 31 by omega)]
  refine br_c (fun y => And.intro pv (And.intro p5 ?_)) (fun y => And.intro pv (And.intro p5 ?_))
  · rw [w0 y] at H
    exact nm_r (fa_uxe (by omega) (fa_ix (by omega))) H
  · rw [w1 y] at H
    exact nm_r (fa_uxe (by omega) (fa_ix (by omega))) H
theorem st_10 {post : SX → Prop} {v f t : Nat} (hv : v < 16) (ht : t < 14) (hi : 14 * f + t < 70) (ev : a_versionOf v = nI f) {z w : Int32} (ek : a_kind (14 * f + t) = 10) (z1 : ((a_known v) >>> ((a_number (14 * f + t)) &&& 31)) &&& 1 = 1 → z = 1) (z0 : ¬ ((a_known v) >>> ((a_number (14 * f + t)) &&& 31)) &&& 1 = 1 → z = 0)
    (w0 : a_number (14 * f + t) = 0 → w = a_knownA v) (w1 : ¬ a_number (14 * f + t) = 0 → w = a_knownB v)
    (H : post (f_made, f_height, f_versions, f_codeSize, f_tasks, f_values, f_frames, f_called, f_ended, a_kind, a_partA, a_partB, a_partC, a_number, a_size, a_stack, a_versionOf, a_known, a_knownA, a_knownB, a_entry, upd (upd a_fixed t 0) t z, upd a_value t w, a_code, a_extra, a_task, a_phase, a_hole, a_pile, a_frameA, a_frameB, a_back, a_calledOf)) : wpX_settle post (f_made, f_height, f_versions, f_codeSize, f_tasks, f_values, f_frames, f_called, f_ended, a_kind, a_partA, a_partB, a_partC, a_number, a_size, a_stack, a_versionOf, a_known, a_knownA, a_knownB, a_entry, a_fixed, a_value, a_code, a_extra, a_task, a_phase, a_hole, a_pile, a_frameA, a_frameB, a_back, a_calledOf) (nI v) (nI t) := by
  obtain ⟨p1, p2, p3, p4, p5, p6⟩ := st_pre (post := post) (a_fixed := a_fixed) hv ht hi ev ek
  have d : ¬ (10 : Int32) = 9 := by decide
  refine And.intro p1 (nm_r p2 (And.intro p3 (nm_r p4 (And.intro p5 (nm_r p6 (br_f d (br_t rfl (And.intro p1 (And.intro p3 ?_)))))))))
  rw [nI_clamp (show v < 2 ^ 31 by omega), nI_clamp (show 14 * f + t < 2 ^ 31 by omega)]
  refine br_c (fun y => ?_) (fun y => ?_)
  · rw [z1 y] at H
    exact st_92 hv ht hi fa_nb1 w0 w1 H
  · rw [z0 y] at H
    exact st_92 hv ht hi fa_nb0 w0 w1 H
theorem st_call {post : SX → Prop} {v f t : Nat} (hv : v < 16) (ht : t < 14) (hi : 14 * f + t < 70) (ev : a_versionOf v = nI f) {kd : Nat} (ek : a_kind (14 * f + t) = nI kd) (h4 : 4 ≤ kd) (h8 : kd < 8) (H : post (f_made, f_height, f_versions, f_codeSize, f_tasks, f_values, f_frames, f_called, f_ended, a_kind, a_partA, a_partB, a_partC, a_number, a_size, a_stack, a_versionOf, a_known, a_knownA, a_knownB, a_entry, upd a_fixed t 0, a_value, a_code, a_extra, a_task, a_phase, a_hole, a_pile, a_frameA, a_frameB, a_back, a_calledOf)) : wpX_settle post (f_made, f_height, f_versions, f_codeSize, f_tasks, f_values, f_frames, f_called, f_ended, a_kind, a_partA, a_partB, a_partC, a_number, a_size, a_stack, a_versionOf, a_known, a_knownA, a_knownB, a_entry, a_fixed, a_value, a_code, a_extra, a_task, a_phase, a_hole, a_pile, a_frameA, a_frameB, a_back, a_calledOf) (nI v) (nI t) := by
  obtain ⟨p1, p2, p3, p4, p5, p6⟩ := st_pre (post := post) (a_fixed := a_fixed) hv ht hi ev ek
  exact And.intro p1 (nm_r p2 (And.intro p3 (nm_r p4 (And.intro p5 (nm_r p6 (br_f (fa_ne (b := 9) (by omega) (by omega) (by omega)) (br_f (fa_ne (b := 10) (by omega) (by omega) (by omega)) (br_t (nI_le (a := 4) h4 (by omega)) (br_f (fa_ne (b := 8) (by omega) (by omega) (by omega)) H)))))))))
theorem st_170 {post : SX → Prop} {i t kd pa pb : Nat} {z : Int32} (ht : t < 14) (hi : i < 70) (ha : pa < 14) (hb : pb < 14) (hk : kd < 4) (ea : a_partA i = nI pa) (eb : a_partB i = nI pb) (hz : vp_nar .boolean z = z)
    (H : post (f_made, f_height, f_versions, f_codeSize, f_tasks, f_values, f_frames, f_called, f_ended, a_kind, a_partA, a_partB, a_partC, a_number, a_size, a_stack, a_versionOf, a_known, a_knownA, a_knownB, a_entry, upd a_fixed t z, upd a_value t (fa_cmb kd (a_value pa) (a_value pb)), a_code, a_extra, a_task, a_phase, a_hole, a_pile, a_frameA, a_frameB, a_back, a_calledOf)) : wX_settle_170 post (nI t) (nI i) (nI kd) z (nI t) f_made f_height f_versions f_codeSize f_tasks f_values f_frames f_called f_ended a_kind a_partA a_partB a_partC a_number a_size a_stack a_versionOf a_known a_knownA a_knownB a_entry a_fixed a_value a_code a_extra a_task a_phase a_hole a_pile a_frameA a_frameB a_back a_calledOf := by
  have p5 : vp_in (nI t) 14 := vp_in_nI ht (by omega)
  have p3 : vp_in (nI i) 70 := vp_in_nI hi (by omega)
  have ea' : a_partA (nI i).toNatClampNeg = nI pa := (fa_ix (by omega)).trans ea
  have eb' : a_partB (nI i).toNatClampNeg = nI pb := (fa_ix (by omega)).trans eb
  have iA : vp_in (a_partA (nI i).toNatClampNeg) 14 := by rw [ea']; exact vp_in_nI ha (by omega)
  have iB : vp_in (a_partB (nI i).toNatClampNeg) 14 := by rw [eb']; exact vp_in_nI hb (by omega)
  have va : a_value (a_partA (nI i).toNatClampNeg).toNatClampNeg = a_value pa := by rw [ea']; exact fa_ix (by omega)
  have vb : a_value (a_partB (nI i).toNatClampNeg).toNatClampNeg = a_value pb := by rw [eb']; exact fa_ix (by omega)
  unfold wX_settle_170
  refine And.intro p5 (nm_r (fa_uxe (by omega) hz) (And.intro p3 (And.intro iA (And.intro p3 (And.intro iB ?_)))))
  rw [va, vb]
  exact xp_comb hk (And.intro p5 (nm_r (fa_ux (by omega)) H))
theorem st_op {post : SX → Prop} {v f t : Nat} (hv : v < 16) (ht : t < 14) (hi : 14 * f + t < 70) (ev : a_versionOf v = nI f) {kd pa pb : Nat} {z : Int32} (ek : a_kind (14 * f + t) = nI kd) (hk : kd < 4) (ha : pa < t) (hb : pb < t) (ea : a_partA (14 * f + t) = nI pa) (eb : a_partB (14 * f + t) = nI pb)
    (za : a_fixed pa = 0 → z = 0) (zb : a_fixed pb = 0 → z = 0) (zz : ¬ a_fixed pa = 0 → ¬ a_fixed pb = 0 → z = 1)
    (H : post (f_made, f_height, f_versions, f_codeSize, f_tasks, f_values, f_frames, f_called, f_ended, a_kind, a_partA, a_partB, a_partC, a_number, a_size, a_stack, a_versionOf, a_known, a_knownA, a_knownB, a_entry, upd (upd a_fixed t 0) t z, upd a_value t (fa_cmb kd (a_value pa) (a_value pb)), a_code, a_extra, a_task, a_phase, a_hole, a_pile, a_frameA, a_frameB, a_back, a_calledOf)) : wpX_settle post (f_made, f_height, f_versions, f_codeSize, f_tasks, f_values, f_frames, f_called, f_ended, a_kind, a_partA, a_partB, a_partC, a_number, a_size, a_stack, a_versionOf, a_known, a_knownA, a_knownB, a_entry, a_fixed, a_value, a_code, a_extra, a_task, a_phase, a_hole, a_pile, a_frameA, a_frameB, a_back, a_calledOf) (nI v) (nI t) := by
  obtain ⟨p1, p2, p3, p4, p5, p6⟩ := st_pre (post := post) (a_fixed := a_fixed) hv ht hi ev ek
  have ea' : a_partA (nI (14 * f + t)).toNatClampNeg = nI pa := (fa_ix (by omega)).trans ea
  have eb' : a_partB (nI (14 * f + t)).toNatClampNeg = nI pb := (fa_ix (by omega)).trans eb
  have iA : vp_in (a_partA (nI (14 * f + t)).toNatClampNeg) 14 := by rw [ea']; exact vp_in_nI (by omega) (by omega)
  have iB : vp_in (a_partB (nI (14 * f + t)).toNatClampNeg) 14 := by rw [eb']; exact vp_in_nI (by omega) (by omega)
  have fa : upd a_fixed t 0 (a_partA (nI (14 * f + t)).toNatClampNeg).toNatClampNeg = a_fixed pa := by rw [ea', nI_clamp (by omega)]; exact pk_un (by omega)
  have fb : upd a_fixed t 0 (a_partB (nI (14 * f + t)).toNatClampNeg).toNatClampNeg = a_fixed pb := by rw [eb', nI_clamp (by omega)]; exact pk_un (by omega)
  refine And.intro p1 (nm_r p2 (And.intro p3 (nm_r p4 (And.intro p5 (nm_r p6 (br_f (fa_ne (b := 9) (by omega) (by omega) (by omega)) (br_f (fa_ne (b := 10) (by omega) (by omega) (by omega)) (br_f (nI_ge (b := 4) hk (by omega)) (And.intro p3 (And.intro iA ?_))))))))))
  rw [fa, fb]
  unfold wX_settle_169
  refine br_c (fun y => ?_) (fun y => And.intro p3 (And.intro iB (br_c (fun y2 => ?_) (fun y2 => ?_))))
  · rw [za y] at H
    exact st_170 ht hi (by omega) (by omega) hk ea eb fa_nb0 H
  · rw [zb y2] at H
    exact st_170 ht hi (by omega) (by omega) hk ea eb fa_nb0 H
  · rw [zz y y2] at H
    exact st_170 ht hi (by omega) (by omega) hk ea eb fa_nb1 H
theorem st_ch0 {post : SX → Prop} {v f t : Nat} (hv : v < 16) (ht : t < 14) (hi : 14 * f + t < 70) (ev : a_versionOf v = nI f) {pa : Nat} (ek : a_kind (14 * f + t) = 8) (ha : pa < t) (ea : a_partA (14 * f + t) = nI pa) (hf : a_fixed pa = 0) (H : post (f_made, f_height, f_versions, f_codeSize, f_tasks, f_values, f_frames, f_called, f_ended, a_kind, a_partA, a_partB, a_partC, a_number, a_size, a_stack, a_versionOf, a_known, a_knownA, a_knownB, a_entry, upd a_fixed t 0, a_value, a_code, a_extra, a_task, a_phase, a_hole, a_pile, a_frameA, a_frameB, a_back, a_calledOf)) : wpX_settle post (f_made, f_height, f_versions, f_codeSize, f_tasks, f_values, f_frames, f_called, f_ended, a_kind, a_partA, a_partB, a_partC, a_number, a_size, a_stack, a_versionOf, a_known, a_knownA, a_knownB, a_entry, a_fixed, a_value, a_code, a_extra, a_task, a_phase, a_hole, a_pile, a_frameA, a_frameB, a_back, a_calledOf) (nI v) (nI t) := by
  obtain ⟨p1, p2, p3, p4, p5, p6⟩ := st_pre (post := post) (a_fixed := a_fixed) hv ht hi ev ek
  have ea' : a_partA (nI (14 * f + t)).toNatClampNeg = nI pa := (fa_ix (by omega)).trans ea
  have iA : vp_in (a_partA (nI (14 * f + t)).toNatClampNeg) 14 := by rw [ea']; exact vp_in_nI (by omega) (by omega)
  have fa : upd a_fixed t 0 (a_partA (nI (14 * f + t)).toNatClampNeg).toNatClampNeg = a_fixed pa := by rw [ea', nI_clamp (by omega)]; exact pk_un (by omega)
  have d9 : ¬ (8 : Int32) = 9 := by decide
  have d10 : ¬ (8 : Int32) = 10 := by decide
  exact And.intro p1 (nm_r p2 (And.intro p3 (nm_r p4 (And.intro p5 (nm_r p6 (br_f d9 (br_f d10 (br_t (by decide) (br_t rfl (And.intro p3 (And.intro iA (br_t (fa.trans hf) H))))))))))))
theorem st_258 {post : SX → Prop} {t pd : Nat} {z : Int32} (ht : t < 14) (hd : pd < 14) (hz : vp_nar .boolean (a_fixed pd) = z)
    (H : post (f_made, f_height, f_versions, f_codeSize, f_tasks, f_values, f_frames, f_called, f_ended, a_kind, a_partA, a_partB, a_partC, a_number, a_size, a_stack, a_versionOf, a_known, a_knownA, a_knownB, a_entry, upd a_fixed t z, upd a_value t (a_value pd), a_code, a_extra, a_task, a_phase, a_hole, a_pile, a_frameA, a_frameB, a_back, a_calledOf)) : wX_settle_258 post (nI t) (nI pd) f_made f_height f_versions f_codeSize f_tasks f_values f_frames f_called f_ended a_kind a_partA a_partB a_partC a_number a_size a_stack a_versionOf a_known a_knownA a_knownB a_entry a_fixed a_value a_code a_extra a_task a_phase a_hole a_pile a_frameA a_frameB a_back a_calledOf := by
  have p5 : vp_in (nI t) 14 := vp_in_nI ht (by omega)
  have pd5 : vp_in (nI pd) 14 := vp_in_nI hd (by omega)
  unfold wX_settle_258
  rw [nI_clamp (show pd < 2 ^ 31 by omega)]
  exact And.intro pd5 (And.intro p5 (nm_r (fa_uxe (by omega) hz) (And.intro pd5 (And.intro p5 (nm_r (fa_ux (by omega)) H)))))
theorem st_ch1 {post : SX → Prop} {v f t : Nat} (hv : v < 16) (ht : t < 14) (hi : 14 * f + t < 70) (ev : a_versionOf v = nI f) {pa pd : Nat} {z : Int32} (ek : a_kind (14 * f + t) = 8) (ha : pa < t) (hd : pd < t) (ea : a_partA (14 * f + t) = nI pa) (hf : ¬ a_fixed pa = 0)
    (edC : a_value pa = 0 → a_partC (14 * f + t) = nI pd) (edB : ¬ a_value pa = 0 → a_partB (14 * f + t) = nI pd) (hz : vp_nar .boolean (a_fixed pd) = z)
    (H : post (f_made, f_height, f_versions, f_codeSize, f_tasks, f_values, f_frames, f_called, f_ended, a_kind, a_partA, a_partB, a_partC, a_number, a_size, a_stack, a_versionOf, a_known, a_knownA, a_knownB, a_entry, upd (upd a_fixed t 0) t z, upd a_value t (a_value pd), a_code, a_extra, a_task, a_phase, a_hole, a_pile, a_frameA, a_frameB, a_back, a_calledOf)) : wpX_settle post (f_made, f_height, f_versions, f_codeSize, f_tasks, f_values, f_frames, f_called, f_ended, a_kind, a_partA, a_partB, a_partC, a_number, a_size, a_stack, a_versionOf, a_known, a_knownA, a_knownB, a_entry, a_fixed, a_value, a_code, a_extra, a_task, a_phase, a_hole, a_pile, a_frameA, a_frameB, a_back, a_calledOf) (nI v) (nI t) := by
  obtain ⟨p1, p2, p3, p4, p5, p6⟩ := st_pre (post := post) (a_fixed := a_fixed) hv ht hi ev ek
  have ea' : a_partA (nI (14 * f + t)).toNatClampNeg = nI pa := (fa_ix (by omega)).trans ea
  have iA : vp_in (a_partA (nI (14 * f + t)).toNatClampNeg) 14 := by rw [ea']; exact vp_in_nI (by omega) (by omega)
  have fa : upd a_fixed t 0 (a_partA (nI (14 * f + t)).toNatClampNeg).toNatClampNeg = a_fixed pa := by rw [ea', nI_clamp (by omega)]; exact pk_un (by omega)
  have va : a_value (a_partA (nI (14 * f + t)).toNatClampNeg).toNatClampNeg = a_value pa := by rw [ea']; exact fa_ix (by omega)
  have hz' : vp_nar .boolean (upd a_fixed t 0 pd) = z := by rw [pk_un (show pd ≠ t by omega)]; exact hz
  have d9 : ¬ (8 : Int32) = 9 := by decide
  have d10 : ¬ (8 : Int32) = 10 := by decide
  refine And.intro p1 (nm_r p2 (And.intro p3 (nm_r p4 (And.intro p5 (nm_r p6 (br_f d9 (br_f d10 (br_t (by decide) (br_t rfl (And.intro p3 (And.intro iA (br_f (fun w => hf (fa.symm.trans w)) (And.intro p3 (And.intro iA ?_))))))))))))))
  rw [va]
  refine br_c (fun y => And.intro p3 ?_) (fun y => And.intro p3 ?_)
  · have e : a_partC (nI (14 * f + t)).toNatClampNeg = nI pd := (fa_ix (by omega)).trans (edC y)
    rw [e]
    exact st_258 ht (by omega) hz' H
  · have e : a_partB (nI (14 * f + t)).toNatClampNeg = nI pd := (fa_ix (by omega)).trans (edB y)
    rw [e]
    exact st_258 ht (by omega) hz' H
end
end
section
/-! settle gives what is known -/
def fa_fo (fx vl : Nat → Int32) (t : Nat) : Option Int32 := if fx t = 0 then none else some (vl t)
theorem fa_foN {fx vl : Nat → Int32} {t : Nat} (h : fx t = 0) : fa_fo fx vl t = none := if_pos h
theorem fa_foS {fx vl : Nat → Int32} {t : Nat} (h : ¬ fx t = 0) : fa_fo fx vl t = some (vl t) := if_neg h
/-- the program as it lies in arrays -/
def fa_PR (P : fa_P) (ki pA pB pC nu : Nat → Int32) (f : Nat) : Prop := ∀ t, t ≤ fa_rt P f → ki (14 * f + t) = nI (fa_kd P f t) ∧ (fa_kd P f t = 9 ∨ fa_kd P f t = 10 → nu (14 * f + t) = fa_nm P f t) ∧
  (fa_kd P f t ≤ 8 → pA (14 * f + t) = nI (fa_pa P f t) ∧ pB (14 * f + t) = nI (fa_pb P f t)) ∧ (fa_kd P f t = 8 → pC (14 * f + t) = nI (fa_pc P f t))
section
variable {P : fa_P} {f t : Nat} {kn kA kB : Int32} {fv fv' : Nat → Option Int32}
theorem fe_9 (h : fa_kd P f t = 9) (e : fv t = some (fa_nm P f t)) : fa_FE P f kn kA kB fv t :=
  ⟨fun _ => e, fun z => absurd z (by omega), fun z => absurd z (by omega), fun z => absurd z (by omega), fun z => absurd z (by omega), fun z => absurd z (by omega), fun _ z => absurd z (by omega), fun z => absurd z (by omega)⟩
theorem fe_10a (h : fa_kd P f t = 10) (hn : fa_nm P f t = 0) (e0 : kn &&& 1 = 0 → fv t = none) (e1 : ¬ kn &&& 1 = 0 → fv t = some kA) : fa_FE P f kn kA kB fv t :=
  ⟨fun z => absurd z (by omega), fun _ _ => e0, fun _ _ => e1, fun _ z => absurd hn z, fun _ z => absurd hn z, fun z => absurd z (by omega), fun _ z => absurd z (by omega), fun z => absurd z (by omega)⟩
theorem fe_10b (h : fa_kd P f t = 10) (hn : ¬ fa_nm P f t = 0) (e0 : kn &&& 2 = 0 → fv t = none) (e1 : ¬ kn &&& 2 = 0 → fv t = some kB) : fa_FE P f kn kA kB fv t :=
  ⟨fun z => absurd z (by omega), fun _ z => absurd z hn, fun _ z => absurd z hn, fun _ _ => e0, fun _ _ => e1, fun z => absurd z (by omega), fun _ z => absurd z (by omega), fun z => absurd z (by omega)⟩
theorem fe_4 (h : fa_kd P f t < 4) (e : fv t = (fv (fa_pa P f t)).bind (fun x => (fv (fa_pb P f t)).bind (fun y => some (fa_cmb (fa_kd P f t) x y)))) : fa_FE P f kn kA kB fv t :=
  ⟨fun z => absurd z (by omega), fun z => absurd z (by omega), fun z => absurd z (by omega), fun z => absurd z (by omega), fun z => absurd z (by omega), fun _ => e, fun z => absurd z (by omega), fun z => absurd z (by omega)⟩
theorem fe_7 (h : 4 ≤ fa_kd P f t) (h8 : fa_kd P f t < 8) (e : fv t = none) : fa_FE P f kn kA kB fv t :=
  ⟨fun z => absurd z (by omega), fun z => absurd z (by omega), fun z => absurd z (by omega), fun z => absurd z (by omega), fun z => absurd z (by omega), fun z => absurd z (by omega), fun _ _ => e, fun z => absurd z (by omega)⟩
theorem fe_8 (h : fa_kd P f t = 8) (e : fv t = (fv (fa_pa P f t)).bind (fun x => fv (fa_sd P f t x))) : fa_FE P f kn kA kB fv t :=
  ⟨fun z => absurd z (by omega), fun z => absurd z (by omega), fun z => absurd z (by omega), fun z => absurd z (by omega), fun z => absurd z (by omega), fun z => absurd z (by omega), fun _ z => absurd z (by omega), fun _ => e⟩
theorem fe_cg (hw : fa_TW P f t) (hc : ∀ j, j ≤ t → fv' j = fv j) (h : fa_FE P f kn kA kB fv t) : fa_FE P f kn kA kB fv' t := by
  obtain ⟨v9, v10, v11, v12, v13, v4, v7, v8⟩ := h
  have e := hc t (Nat.le_refl t)
  rcases hw with hw | hw | hw | hw
  · exact fe_9 hw.1 (e.trans (v9 hw.1))
  · by_cases hn : fa_nm P f t = 0
    · exact fe_10a hw.1 hn (fun z => e.trans (v10 hw.1 hn z)) (fun z => e.trans (v11 hw.1 hn z))
    · exact fe_10b hw.1 hn (fun z => e.trans (v12 hw.1 hn z)) (fun z => e.trans (v13 hw.1 hn z))
  · have eA := hc (fa_pa P f t) (Nat.le_of_lt hw.2.1)
    have eB := hc (fa_pb P f t) (Nat.le_of_lt hw.2.2.1)
    by_cases h4 : fa_kd P f t < 4
    · refine fe_4 h4 ?_
      rw [e, eA, eB]; exact v4 h4
    · exact fe_7 (Nat.le_of_not_lt h4) hw.1 (e.trans (v7 (Nat.le_of_not_lt h4) hw.1))
  · have eA := hc (fa_pa P f t) (Nat.le_of_lt hw.2.1)
    refine fe_8 hw.1 ?_
    rw [e, eA, v8 hw.1]
    congr 1
    funext x
    have hs : fa_sd P f t x < t := by
      obtain ⟨_, _, h2, h3, _⟩ := hw
      unfold fa_sd; split
      · exact h3
      · exact h2
    exact (hc _ (Nat.le_of_lt hs)).symm
end
section
variable {f_made f_height f_versions f_codeSize f_tasks f_values f_frames f_called f_ended : Int32} {a_kind a_partA a_partB a_partC a_number a_size a_stack a_versionOf a_known a_knownA a_knownB a_entry a_fixed a_value a_code a_extra a_task a_phase a_hole a_pile a_frameA a_frameB a_back a_calledOf : Nat → Int32}
theorem st_any {P : fa_P} {f v t : Nat} (hP : fa_PW P) (hf : f < 4) (ht : t ≤ fa_rt P f) (hv : v < 16) (ev : a_versionOf v = nI f) (hkn : a_known v = 0 ∨ a_known v = 1 ∨ a_known v = 2 ∨ a_known v = 3)
    (hR : fa_PR P a_kind a_partA a_partB a_partC a_number f) (h01 : ∀ j, j < t → a_fixed j = 0 ∨ a_fixed j = 1) :
    ∃ fx' vl', (∀ post : SX → Prop, post (f_made, f_height, f_versions, f_codeSize, f_tasks, f_values, f_frames, f_called, f_ended, a_kind, a_partA, a_partB, a_partC, a_number, a_size, a_stack, a_versionOf, a_known, a_knownA, a_knownB, a_entry, fx', vl', a_code, a_extra, a_task, a_phase, a_hole, a_pile, a_frameA, a_frameB, a_back, a_calledOf) → wpX_settle post (f_made, f_height, f_versions, f_codeSize, f_tasks, f_values, f_frames, f_called, f_ended, a_kind, a_partA, a_partB, a_partC, a_number, a_size, a_stack, a_versionOf, a_known, a_knownA, a_knownB, a_entry, a_fixed, a_value, a_code, a_extra, a_task, a_phase, a_hole, a_pile, a_frameA, a_frameB, a_back, a_calledOf) (nI v) (nI t)) ∧ (∀ j, j ≠ t → fx' j = a_fixed j ∧ vl' j = a_value j) ∧ (fx' t = 0 ∨ fx' t = 1) ∧
      fa_FE P f (a_known v) (a_knownA v) (a_knownB v) (fa_fo fx' vl') t := by
  have hrt := (hP f hf).1
  have hw := (hP f hf).2.2 t ht
  obtain ⟨u1, u2, u3, u4⟩ := hR t ht
  have h14 : t < 14 := by omega
  have h70 : 14 * f + t < 70 := by omega
  have n10 : ¬ (1 : Int32) = 0 := by decide
  have aw : ∀ {x y z : Int32} {j : Nat}, j ≠ t → upd (upd a_fixed t x) t y j = a_fixed j ∧ upd a_value t z j = a_value j := fun hj => ⟨(pk_un hj).trans (pk_un hj), pk_un hj⟩
  have ag : ∀ {x y z : Int32} {j : Nat}, j < t → fa_fo (upd (upd a_fixed t x) t y) (upd a_value t z) j = fa_fo a_fixed a_value j := by
    intro x y z j hj
    have e := aw (x := x) (y := y) (z := z) (show j ≠ t by omega)
    unfold fa_fo
    rw [e.1, e.2]
  have ag0 : ∀ {x : Int32} {j : Nat}, j < t → fa_fo (upd a_fixed t x) a_value j = fa_fo a_fixed a_value j := by
    intro x j hj
    unfold fa_fo
    rw [pk_un (show j ≠ t by omega)]
  rcases hw with hw | hw | hw | hw
  · have ek : a_kind (14 * f + t) = 9 := by rw [u1, hw.1]; rfl
    refine ⟨_, _, fun post H => st_9 hv h14 h70 ev ek H, fun j hj => aw hj, Or.inr pk_us, fe_9 hw.1 ?_⟩
    rw [fa_foS (by rw [pk_us]; exact n10), pk_us, u2 (Or.inl hw.1)]
  · have ek : a_kind (14 * f + t) = 10 := by rw [u1, hw.1]; rfl
    have en := u2 (Or.inr hw.1)
    rcases hw.2.1 with hn | hn
    · have en0 : a_number (14 * f + t) = 0 := en.trans hn
      by_cases hb : a_known v &&& 1 = 0
      · have hs : ¬ ((a_known v) >>> ((a_number (14 * f + t)) &&& 31)) &&& 1 = 1 := by rw [en0]; exact fun w => (fa_sh0 hkn).mp w hb
        refine ⟨_, _, fun post H => st_10 (z := 0) (w := a_knownA v) hv h14 h70 ev ek (fun w => absurd w hs) (fun _ => rfl) (fun _ => rfl) (fun w => absurd en0 w) H, fun j hj => aw hj, Or.inl pk_us, fe_10a hw.1 hn (fun _ => fa_foN pk_us) (fun w => absurd hb w)⟩
      · have hs : ((a_known v) >>> ((a_number (14 * f + t)) &&& 31)) &&& 1 = 1 := by rw [en0]; exact (fa_sh0 hkn).mpr hb
        refine ⟨_, _, fun post H => st_10 (z := 1) (w := a_knownA v) hv h14 h70 ev ek (fun _ => rfl) (fun w => absurd hs w) (fun _ => rfl) (fun w => absurd en0 w) H, fun j hj => aw hj, Or.inr pk_us, fe_10a hw.1 hn (fun w => absurd w hb) (fun _ => ?_)⟩
        rw [fa_foS (by rw [pk_us]; exact n10), pk_us]
    · have en0 : a_number (14 * f + t) = 1 := en.trans hn
      have en1 : ¬ a_number (14 * f + t) = 0 := by rw [en0]; exact n10
      have hn1 : ¬ fa_nm P f t = 0 := by rw [hn]; exact n10
      by_cases hb : a_known v &&& 2 = 0
      · have hs : ¬ ((a_known v) >>> ((a_number (14 * f + t)) &&& 31)) &&& 1 = 1 := by rw [en0]; exact fun w => (fa_sh1 hkn).mp w hb
        refine ⟨_, _, fun post H => st_10 (z := 0) (w := a_knownB v) hv h14 h70 ev ek (fun w => absurd w hs) (fun _ => rfl) (fun w => absurd w en1) (fun _ => rfl) H, fun j hj => aw hj, Or.inl pk_us, fe_10b hw.1 hn1 (fun _ => fa_foN pk_us) (fun w => absurd hb w)⟩
      · have hs : ((a_known v) >>> ((a_number (14 * f + t)) &&& 31)) &&& 1 = 1 := by rw [en0]; exact (fa_sh1 hkn).mpr hb
        refine ⟨_, _, fun post H => st_10 (z := 1) (w := a_knownB v) hv h14 h70 ev ek (fun _ => rfl) (fun w => absurd hs w) (fun w => absurd w en1) (fun _ => rfl) H, fun j hj => aw hj, Or.inr pk_us, fe_10b hw.1 hn1 (fun w => absurd w hb) (fun _ => ?_)⟩
        rw [fa_foS (by rw [pk_us]; exact n10), pk_us]
  · obtain ⟨eA, eB⟩ := u3 (by omega)
    obtain ⟨hw1, hwA, hwB, _⟩ := hw
    by_cases h4 : fa_kd P f t < 4
    · by_cases fA : a_fixed (fa_pa P f t) = 0
      · refine ⟨_, _, fun post H => st_op (z := 0) hv h14 h70 ev u1 h4 hwA hwB eA eB (fun _ => rfl) (fun _ => rfl) (fun w => absurd fA w) H, fun j hj => aw hj, Or.inl pk_us, fe_4 h4 ?_⟩
        rw [fa_foN pk_us, ag hwA, fa_foN fA]; rfl
      · by_cases fB : a_fixed (fa_pb P f t) = 0
        · refine ⟨_, _, fun post H => st_op (z := 0) hv h14 h70 ev u1 h4 hwA hwB eA eB (fun _ => rfl) (fun _ => rfl) (fun _ w => absurd fB w) H, fun j hj => aw hj, Or.inl pk_us, fe_4 h4 ?_⟩
          rw [fa_foN pk_us, ag hwA, ag hwB, fa_foS fA, fa_foN fB]; rfl
        · refine ⟨_, _, fun post H => st_op (z := 1) hv h14 h70 ev u1 h4 hwA hwB eA eB (fun w => absurd w fA) (fun w => absurd w fB) (fun _ _ => rfl) H, fun j hj => aw hj, Or.inr pk_us, fe_4 h4 ?_⟩
          rw [fa_foS (by rw [pk_us]; exact n10), ag hwA, ag hwB, fa_foS fA, fa_foS fB, pk_us]; rfl
    · refine ⟨upd a_fixed t 0, a_value, fun post H => st_call hv h14 h70 ev u1 (Nat.le_of_not_lt h4) hw1 H, fun j hj => ⟨pk_un hj, rfl⟩, Or.inl pk_us, fe_7 (Nat.le_of_not_lt h4) hw1 (fa_foN pk_us)⟩
  · obtain ⟨eA, eB⟩ := u3 (by omega)
    have eC := u4 hw.1
    have ek : a_kind (14 * f + t) = 8 := by rw [u1, hw.1]; rfl
    obtain ⟨hw1, hwA, hwB, hwC, _⟩ := hw
    by_cases fA : a_fixed (fa_pa P f t) = 0
    · refine ⟨upd a_fixed t 0, a_value, fun post H => st_ch0 hv h14 h70 ev ek hwA eA fA H, fun j hj => ⟨pk_un hj, rfl⟩, Or.inl pk_us, fe_8 hw1 ?_⟩
      rw [fa_foN pk_us, ag0 hwA, fa_foN fA]; rfl
    · have hd : fa_sd P f t (a_value (fa_pa P f t)) < t := by unfold fa_sd; split <;> omega
      have edC : a_value (fa_pa P f t) = 0 → a_partC (14 * f + t) = nI (fa_sd P f t (a_value (fa_pa P f t))) := by
        intro z; rw [eC]; unfold fa_sd; rw [if_pos z]
      have edB : ¬ a_value (fa_pa P f t) = 0 → a_partB (14 * f + t) = nI (fa_sd P f t (a_value (fa_pa P f t))) := by
        intro z; rw [eB]; unfold fa_sd; rw [if_neg z]
      have hz : vp_nar .boolean (a_fixed (fa_sd P f t (a_value (fa_pa P f t)))) = a_fixed (fa_sd P f t (a_value (fa_pa P f t))) := by
        rcases h01 _ hd with e | e
        · rw [e]; exact fa_nb0
        · rw [e]; exact fa_nb1
      refine ⟨_, _, fun post H => st_ch1 hv h14 h70 ev ek hwA hd eA fA edC edB hz H, fun j hj => aw hj, ?_, fe_8 hw1 ?_⟩
      · rw [pk_us]; exact h01 _ hd
      · rw [ag hwA, fa_foS fA]
        show _ = fa_fo _ _ (fa_sd P f t (a_value (fa_pa P f t)))
        rw [ag hd]
        unfold fa_fo
        rw [pk_us, pk_us]
end
end
section
/-! makeCode -/
/-- version j has its code -/
def fa_VK (P : fa_P) (T : fa_V) (en cd ex : Nat → Int32) (cs j : Nat) : Prop := ∃ g fv e q, g < 4 ∧ fa_vo T j = nI g ∧
  (∀ t, t ≤ fa_rt P g → fa_FE P g (fa_kn T j) (fa_kA T j) (fa_kB T j) fv t) ∧ en j = nI e ∧ fa_CF P g fv T cd ex 14 (fa_rt P g) e q ∧ cd q = 9 ∧ q < cs
theorem fa_VKx {P : fa_P} {T T' : fa_V} {en cd ex en' cd' ex' : Nat → Int32} {cs cs' j : Nat} (hT : fa_VX T T') (hj : j < T.1) (he : en' j = en j) (hc : ∀ i, i < cs → cd' i = cd i ∧ ex' i = ex i) (hcs : cs ≤ cs')
    (h : fa_VK P T en cd ex cs j) : fa_VK P T' en' cd' ex' cs' j := by
  obtain ⟨g, fv, e, q, h1, h2, h3, h4, h5, h6, h7⟩ := h
  have w := hT.2 j hj
  refine ⟨g, fv, e, q, h1, w.1.trans h2, ?_, he.trans h4, fa_CF_ext hT _ _ _ _ (fun i _ hi => hc i (by omega)) h5, (hc q h7).1.trans h6, by omega⟩
  rw [w.2.1, w.2.2.1, w.2.2.2]; exact h3
def fa_MK (P : fa_P) (T : fa_V) (en cd ex : Nat → Int32) (cs v : Nat) (T' : fa_V) (en' cd' ex' : Nat → Int32) (cs' : Nat) : Prop :=
  fa_VX T T' ∧ fa_VI T' ∧ cs ≤ cs' ∧ cs' ≤ cs + 29 ∧ (∀ j, j < cs → cd' j = cd j ∧ ex' j = ex j) ∧ (∀ j, j < T.1 → j ≠ v → en' j = en j) ∧ (∀ j, T.1 ≤ j → j < T'.1 → en' j = -1) ∧ fa_VK P T' en' cd' ex' cs' v
section
variable {f_made f_height f_versions f_codeSize f_tasks f_values f_frames f_called f_ended : Int32} {a_kind a_partA a_partB a_partC a_number a_size a_stack a_versionOf a_known a_knownA a_knownB a_entry a_fixed a_value a_code a_extra a_task a_phase a_hole a_pile a_frameA a_frameB a_back a_calledOf : Nat → Int32}
theorem mk_84 {post : SX → Prop} {cs : Nat} (h : cs < 640) (H : post (f_made, f_height, f_versions, nI (cs + 1), f_tasks, f_values, f_frames, f_called, f_ended, a_kind, a_partA, a_partB, a_partC, a_number, a_size, a_stack, a_versionOf, a_known, a_knownA, a_knownB, a_entry, a_fixed, a_value, upd a_code cs 9, upd a_extra cs 0, a_task, a_phase, a_hole, a_pile, a_frameA, a_frameB, a_back, a_calledOf)) : wX_makeCode_84 post f_made f_height f_versions (nI cs) f_tasks f_values f_frames f_called f_ended a_kind a_partA a_partB a_partC a_number a_size a_stack a_versionOf a_known a_knownA a_knownB a_entry a_fixed a_value a_code a_extra a_task a_phase a_hole a_pile a_frameA a_frameB a_back a_calledOf := by
  unfold wX_makeCode_84
  exact xp_emit h H
theorem mk_60 {post : SX → Prop} {P : fa_P} {V cs v f : Nat} (hP : fa_PW P) (hf : f < 4) (hR : fa_PR P a_kind a_partA a_partB a_partC a_number f) (hT : fa_VI (V, a_versionOf, a_known, a_knownA, a_knownB)) (hv : v < V) (ev : a_versionOf v = nI f) (hcs : cs + 29 ≤ 640)
    (hF : ∀ t, t ≤ fa_rt P f → fa_FE P f (a_known v) (a_knownA v) (a_knownB v) (fa_fo a_fixed a_value) t) (he : a_entry v = nI cs) (ht : a_task 0 = nI (fa_rt P f)) (hp : a_phase 0 = nI 0)
    (H : ∀ V' cs' tk' vo' kn' kA' kB' en' cd' ex' ta' ph' ho', fa_MK P (V, a_versionOf, a_known, a_knownA, a_knownB) a_entry a_code a_extra cs v (V', vo', kn', kA', kB') en' cd' ex' cs' →
      post (f_made, f_height, nI V', nI cs', tk', f_values, f_frames, f_called, f_ended, a_kind, a_partA, a_partB, a_partC, a_number, a_size, a_stack, vo', kn', kA', kB', en', a_fixed, a_value, cd', ex', ta', ph', ho', a_pile, a_frameA, a_frameB, a_back, a_calledOf)) :
    ∃ n, wX_makeCode_60 post (nI f) n (nI 0) f_made f_height (nI V) (nI cs) (nI 1) f_values f_frames f_called f_ended a_kind a_partA a_partB a_partC a_number a_size a_stack a_versionOf a_known a_knownA a_knownB a_entry a_fixed a_value a_code a_extra a_task a_phase a_hole a_pile a_frameA a_frameB a_back a_calledOf := by
  obtain ⟨hr1, hr2, hr3⟩ := hP f hf
  obtain ⟨K, s', hK, g, tk, cf, fr⟩ := cs_term (u := (f_made, f_height, nI V, nI cs, nI 1, f_values, f_frames, f_called, f_ended, a_kind, a_partA, a_partB, a_partC, a_number, a_size, a_stack, a_versionOf, a_known, a_knownA, a_knownB, a_entry, a_fixed, a_value, a_code, a_extra, a_task, a_phase, a_hole, a_pile, a_frameA, a_frameB, a_back, a_calledOf)) hP hf hR hF 14 (fa_rt P f) 0 (V, cs, 1, a_versionOf, a_known, a_knownA, a_knownB, a_entry, a_code, a_extra, a_task, a_phase, a_hole)
    hr1 (Nat.le_refl _) (by omega) (by show cs + 2 * fa_sz P f (fa_rt P f) ≤ 639; omega) hT rfl ht hp
  obtain ⟨V', q, tk', vo', kn', kA', kB', en', cd', ex', ta', ph', ho'⟩ := s'
  have e0 : tk' = 0 := tk
  subst e0
  have lq : q ≤ cs + 2 * fa_sz P f (fa_rt P f) := fa_CF_len hP hf hF _ _ _ _ (Nat.le_refl _) cf
  have mq : cs < q := fa_CF_lt cf
  obtain ⟨fX, fI, fE, fC, _⟩ := fr
  refine ⟨1 + K, g post 1 0 (by omega) ?_⟩
  rw [Nat.zero_add]
  show wX_makeCode_60 post (nI f) 1 (nI K) f_made f_height (nI V') (nI q) (nI 0) f_values f_frames f_called f_ended a_kind a_partA a_partB a_partC a_number a_size a_stack vo' kn' kA' kB' en' a_fixed a_value cd' ex' ta' ph' ho' a_pile a_frameA a_frameB a_back a_calledOf
  refine br_f (nI_ge (b := 80) (by omega) (by omega)) (br_t (by decide) (mk_84 (by omega) (H V' (q + 1) (nI 0) vo' kn' kA' kB' en' _ _ ta' ph' ho' ?_)))
  have w : vo' v = a_versionOf v ∧ kn' v = a_known v ∧ kA' v = a_knownA v ∧ kB' v = a_knownB v := fX.2 v hv
  refine ⟨fX, fI, by omega, by omega, fun j hj => ?_, fun j hj _ => fE.1 j hj, fE.2, f, fa_fo a_fixed a_value, cs, q, hf, w.1.trans ev, ?_, (fE.1 v hv).trans he, ?_, pk_us, by omega⟩
  · have y := fC j hj
    exact ⟨(pk_un (by omega)).trans y.1, (pk_un (by omega)).trans y.2⟩
  · show ∀ t, t ≤ fa_rt P f → fa_FE P f (kn' v) (kA' v) (kB' v) (fa_fo a_fixed a_value) t
    rw [w.2.1, w.2.2.1, w.2.2.2]; exact hF
  · exact fa_CF_ext (fa_VX_rf _) _ _ _ _ (fun j _ hj => ⟨pk_un (by omega), pk_un (by omega)⟩) cf
theorem mk_9x {post : SX → Prop} {P : fa_P} {V cs v f : Nat} (hP : fa_PW P) (hf : f < 4) (hR : fa_PR P a_kind a_partA a_partB a_partC a_number f) (hT : fa_VI (V, a_versionOf, a_known, a_knownA, a_knownB)) (hv : v < V) (ev : a_versionOf v = nI f) (hcs : cs + 29 ≤ 640)
    (hsz : a_size f = nI (fa_rt P f + 1))
    (hF : ∀ t, t ≤ fa_rt P f → fa_FE P f (a_known v) (a_knownA v) (a_knownB v) (fa_fo a_fixed a_value) t)
    (H : ∀ V' cs' tk' vo' kn' kA' kB' en' cd' ex' ta' ph' ho', fa_MK P (V, a_versionOf, a_known, a_knownA, a_knownB) a_entry a_code a_extra cs v (V', vo', kn', kA', kB') en' cd' ex' cs' →
      post (f_made, f_height, nI V', nI cs', tk', f_values, f_frames, f_called, f_ended, a_kind, a_partA, a_partB, a_partC, a_number, a_size, a_stack, vo', kn', kA', kB', en', a_fixed, a_value, cd', ex', ta', ph', ho', a_pile, a_frameA, a_frameB, a_back, a_calledOf)) :
    wX_makeCode_9 post (nI v) (nI f) 1 (nI (fa_rt P f + 1)) f_made f_height (nI V) (nI cs) f_tasks f_values f_frames f_called f_ended a_kind a_partA a_partB a_partC a_number a_size a_stack a_versionOf a_known a_knownA a_knownB a_entry a_fixed a_value a_code a_extra a_task a_phase a_hole a_pile a_frameA a_frameB a_back a_calledOf := by
  have hr1 := (hP f hf).1
  have h16 : V ≤ 16 := hT.2.1
  have es : a_size (nI f).toNatClampNeg = nI (fa_rt P f + 1) := (fa_ix (by omega)).trans hsz
  have i4 : vp_in (nI f) 4 := vp_in_nI hf (by omega)
  rw [wX_makeCode_9]
  refine And.intro i4 (br_t (by rw [es]; exact nI_le (Nat.le_refl _) (by omega)) (And.intro (vp_in_nI (show v < 16 by omega) (by omega)) (nm_r (fa_ux (by omega)) (And.intro i4 ?_))))
  rw [es, nI_pred]
  refine xp_begin (k := 0) (by omega) (mk_60 hP hf hR hT hv ev hcs hF pk_us pk_us pk_us (fun V' cs' tk' vo' kn' kA' kB' en' cd' ex' ta' ph' ho' hM => H V' cs' tk' vo' kn' kA' kB' en' cd' ex' ta' ph' ho' ?_))
  obtain ⟨m1, m2, m3, m4, m5, m6, m7, m8⟩ := hM
  exact ⟨m1, m2, m3, m4, m5, fun j hj hjv => (m6 j hj hjv).trans (pk_un hjv), m7, m8⟩
theorem mk_9 {post : SX → Prop} {P : fa_P} {V cs v f : Nat} (hP : fa_PW P) (hf : f < 4) (hR : fa_PR P a_kind a_partA a_partB a_partC a_number f) (hT : fa_VI (V, a_versionOf, a_known, a_knownA, a_knownB)) (hv : v < V) (ev : a_versionOf v = nI f) (hcs : cs + 29 ≤ 640)
    (hsz : a_size f = nI (fa_rt P f + 1))
    (H : ∀ V' cs' tk' vo' kn' kA' kB' en' fx' vl' cd' ex' ta' ph' ho', fa_MK P (V, a_versionOf, a_known, a_knownA, a_knownB) a_entry a_code a_extra cs v (V', vo', kn', kA', kB') en' cd' ex' cs' →
      post (f_made, f_height, nI V', nI cs', tk', f_values, f_frames, f_called, f_ended, a_kind, a_partA, a_partB, a_partC, a_number, a_size, a_stack, vo', kn', kA', kB', en', fx', vl', cd', ex', ta', ph', ho', a_pile, a_frameA, a_frameB, a_back, a_calledOf)) :
    ∀ k i fx vl, i + k = fa_rt P f + 1 → (∀ t, t < i → fa_FE P f (a_known v) (a_knownA v) (a_knownB v) (fa_fo fx vl) t ∧ (fx t = 0 ∨ fx t = 1)) →
      wX_makeCode_9 post (nI v) (nI f) (k + 1) (nI i) f_made f_height (nI V) (nI cs) f_tasks f_values f_frames f_called f_ended a_kind a_partA a_partB a_partC a_number a_size a_stack a_versionOf a_known a_knownA a_knownB a_entry fx vl a_code a_extra a_task a_phase a_hole a_pile a_frameA a_frameB a_back a_calledOf := by
  have hr1 := (hP f hf).1
  have h16 : V ≤ 16 := hT.2.1
  have es : a_size (nI f).toNatClampNeg = nI (fa_rt P f + 1) := (fa_ix (by omega)).trans hsz
  have i4 : vp_in (nI f) 4 := vp_in_nI hf (by omega)
  intro k
  induction k with
  | zero =>
    intro i fx vl hi hI
    have e : i = fa_rt P f + 1 := hi
    subst e
    exact mk_9x hP hf hR hT hv ev hcs hsz (fun t ht => (hI t (by omega)).1) (fun V' cs' tk' vo' kn' kA' kB' en' cd' ex' ta' ph' ho' hM => H V' cs' tk' vo' kn' kA' kB' en' fx vl cd' ex' ta' ph' ho' hM)
  | succ k ih =>
    intro i fx vl hi hI
    obtain ⟨fx', vl', hst, hag, h01, hFE⟩ := st_any (f_made := f_made) (f_height := f_height) (f_versions := nI V) (f_codeSize := nI cs) (f_tasks := f_tasks) (f_values := f_values) (f_frames := f_frames) (f_called := f_called) (f_ended := f_ended) (a_size := a_size) (a_stack := a_stack) (a_entry := a_entry) (a_fixed := fx) (a_value := vl) (a_code := a_code) (a_extra := a_extra) (a_task := a_task) (a_phase := a_phase) (a_hole := a_hole) (a_pile := a_pile) (a_frameA := a_frameA) (a_frameB := a_frameB) (a_back := a_back) (a_calledOf := a_calledOf)
      (t := i) hP hf (by omega) (show v < 16 by omega) ev (hT.2.2.2 v hv).2 hR (fun j hj => (hI j hj).2)
    rw [wX_makeCode_9]
    refine And.intro i4 (br_f (by rw [es]; exact nI_ge (by omega) (by omega)) (hst _ (nm_r (nI_1 i) (ih (i + 1) fx' vl' (by omega) (fun t ht => ?_)))))
    by_cases z : t = i
    · subst z; exact ⟨hFE, h01⟩
    · have y := hI t (by omega)
      refine ⟨fe_cg ((hP f hf).2.2 t (by omega)) (fun j hj => ?_) y.1, by rw [(hag t z).1]; exact y.2⟩
      have y2 := hag j (by omega)
      unfold fa_fo
      rw [y2.1, y2.2]
theorem mk_code {post : SX → Prop} {P : fa_P} {V cs v : Nat} (hP : fa_PW P) (hR : ∀ f, f < 4 → fa_PR P a_kind a_partA a_partB a_partC a_number f) (hT : fa_VI (V, a_versionOf, a_known, a_knownA, a_knownB)) (hv : v < V) (hcs : cs + 29 ≤ 640)
    (hsz : ∀ f, f < 4 → a_size f = nI (fa_rt P f + 1))
    (H : ∀ V' cs' tk' vo' kn' kA' kB' en' fx' vl' cd' ex' ta' ph' ho', fa_MK P (V, a_versionOf, a_known, a_knownA, a_knownB) a_entry a_code a_extra cs v (V', vo', kn', kA', kB') en' cd' ex' cs' →
      post (f_made, f_height, nI V', nI cs', tk', f_values, f_frames, f_called, f_ended, a_kind, a_partA, a_partB, a_partC, a_number, a_size, a_stack, vo', kn', kA', kB', en', fx', vl', cd', ex', ta', ph', ho', a_pile, a_frameA, a_frameB, a_back, a_calledOf)) :
    wpX_makeCode post (f_made, f_height, nI V, nI cs, f_tasks, f_values, f_frames, f_called, f_ended, a_kind, a_partA, a_partB, a_partC, a_number, a_size, a_stack, a_versionOf, a_known, a_knownA, a_knownB, a_entry, a_fixed, a_value, a_code, a_extra, a_task, a_phase, a_hole, a_pile, a_frameA, a_frameB, a_back, a_calledOf) (nI v) := by
  have h16 : V ≤ 16 := hT.2.1
  obtain ⟨f, hf, ev⟩ := (hT.2.2.2 v hv).1
  have ev' : a_versionOf v = nI f := ev
  exact And.intro (vp_in_nI (show v < 16 by omega) (by omega)) (nm_r ((fa_ix (by omega)).trans ev') ⟨fa_rt P f + 1 + 1, mk_9 hP hf (hR f hf) hT hv ev' hcs (hsz f hf) H (fa_rt P f + 1) 0 a_fixed a_value (by omega) (fun t ht => absurd ht (by omega))⟩)
end
end
section
/-! prepare -/
def fa_RD (P : fa_P) (u : SX) (f : Nat) (a : Int32) : Prop := ∃ V, V ≤ 16 ∧ 4 < V ∧ (∀ j, j < V → fa_VOK P u V j) ∧ xu_vo u 4 = nI f ∧ xu_kn u 4 = 1 ∧ xu_kA u 4 = a
/-- at the head of prepare's second loop -/
def fa_PI (P : fa_P) (f : Nat) (a : Int32) (i : Nat) (T : fa_V) (en cd ex : Nat → Int32) (cs : Nat) : Prop :=
  fa_VI T ∧ 4 < T.1 ∧ fa_vo T 4 = nI f ∧ fa_kn T 4 = 1 ∧ fa_kA T 4 = a ∧ cs ≤ 29 * (i + 1) ∧ (∀ j, j < T.1 → en j = -1 ∨ fa_VK P T en cd ex cs j) ∧ (∀ j, j < T.1 → j < i → fa_VK P T en cd ex cs j)
theorem fa_PIm {P : fa_P} {f v i : Nat} {a : Int32} {T T' : fa_V} {en cd ex en' cd' ex' : Nat → Int32} {cs cs' : Nat} (h4 : 4 < T.1) (hvo : fa_vo T 4 = nI f) (hkn : fa_kn T 4 = 1) (hkA : fa_kA T 4 = a)
    (hE : ∀ j, j < T.1 → en j = -1 ∨ fa_VK P T en cd ex cs j) (hD : ∀ j, j < T.1 → j < i → j ≠ v → fa_VK P T en cd ex cs j) (hcs : cs' ≤ 29 * (i + 1)) (hiT : i ≤ T.1) (hM : fa_MK P T en cd ex cs v T' en' cd' ex' cs') : fa_PI P f a i T' en' cd' ex' cs' := by
  obtain ⟨m1, m2, m3, m4, m5, m6, m7, m8⟩ := hM
  have w := m1.2 4 h4
  have w1 := m1.1
  refine ⟨m2, by omega, w.1.trans hvo, w.2.1.trans hkn, w.2.2.1.trans hkA, hcs, fun j hj => ?_, fun j hj hji => ?_⟩
  · by_cases z : j < T.1
    · by_cases y : j = v
      · subst y; exact Or.inr m8
      · rcases hE j z with e | e
        · exact Or.inl ((m6 j z y).trans e)
        · exact Or.inr (fa_VKx m1 z (m6 j z y) m5 m3 e)
    · exact Or.inl (m7 j (by omega) hj)
  · by_cases z : j < T.1
    · by_cases y : j = v
      · subst y; exact m8
      · exact fa_VKx m1 z (m6 j z y) m5 m3 (hD j z hji y)
    · exact absurd hji (by omega)
section
variable {f_made f_height f_versions f_codeSize f_tasks f_values f_frames f_called f_ended : Int32} {a_kind a_partA a_partB a_partC a_number a_size a_stack a_versionOf a_known a_knownA a_knownB a_entry a_fixed a_value a_code a_extra a_task a_phase a_hole a_pile a_frameA a_frameB a_back a_calledOf : Nat → Int32}
theorem pr_49 {post : Int32 → SX → Prop} {P : fa_P} {f : Nat} {a : Int32} (hP : fa_PW P) (hR : ∀ f, f < 4 → fa_PR P a_kind a_partA a_partB a_partC a_number f) (hsz : ∀ f, f < 4 → a_size f = nI (fa_rt P f + 1))
    (H : ∀ V' cs' tk' vo' kn' kA' kB' en' fx' vl' cd' ex' ta' ph' ho', fa_RD P (f_made, f_height, nI V', nI cs', tk', f_values, f_frames, f_called, f_ended, a_kind, a_partA, a_partB, a_partC, a_number, a_size, a_stack, vo', kn', kA', kB', en', fx', vl', cd', ex', ta', ph', ho', a_pile, a_frameA, a_frameB, a_back, a_calledOf) f a → post (nI 4) (f_made, f_height, nI V', nI cs', tk', f_values, f_frames, f_called, f_ended, a_kind, a_partA, a_partB, a_partC, a_number, a_size, a_stack, vo', kn', kA', kB', en', fx', vl', cd', ex', ta', ph', ho', a_pile, a_frameA, a_frameB, a_back, a_calledOf)) :
    ∀ k i V' cs' tk' vo' kn' kA' kB' en' fx' vl' cd' ex' ta' ph' ho', i + k = 16 → fa_PI P f a i (V', vo', kn', kA', kB') en' cd' ex' cs' → wX_prepare_49 post (nI 4) (k + 1) (nI i) f_made f_height (nI V') (nI cs') tk' f_values f_frames f_called f_ended a_kind a_partA a_partB a_partC a_number a_size a_stack vo' kn' kA' kB' en' fx' vl' cd' ex' ta' ph' ho' a_pile a_frameA a_frameB a_back a_calledOf := by
  have fin : ∀ i V' cs' tk' vo' kn' kA' kB' en' fx' vl' cd' ex' ta' ph' ho', i ≤ 16 → V' ≤ i → fa_PI P f a i (V', vo', kn', kA', kB') en' cd' ex' cs' → post (nI 4) (f_made, f_height, nI V', nI cs', tk', f_values, f_frames, f_called, f_ended, a_kind, a_partA, a_partB, a_partC, a_number, a_size, a_stack, vo', kn', kA', kB', en', fx', vl', cd', ex', ta', ph', ho', a_pile, a_frameA, a_frameB, a_back, a_calledOf) := by
    intro i V' cs' tk' vo' kn' kA' kB' en' fx' vl' cd' ex' ta' ph' ho' hi hVi hI
    obtain ⟨i1, i2, i3, i4, i5, i6, i7, i8⟩ := hI
    refine H V' cs' tk' vo' kn' kA' kB' en' fx' vl' cd' ex' ta' ph' ho' ⟨V', i1.2.1, i2, fun j hj => ?_, i3, i4, i5⟩
    obtain ⟨g, fv, e, q, h1, h2, h3, h4, h5, h6, h7⟩ := i8 j hj (by omega)
    exact ⟨g, fv, e, q, h1, h2, h3, h4, h5, h6, by omega⟩
  intro k
  induction k with
  | zero =>
    intro i V' cs' tk' vo' kn' kA' kB' en' fx' vl' cd' ex' ta' ph' ho' hi hI
    have h16 : V' ≤ 16 := hI.1.2.1
    rw [wX_prepare_49]
    exact br_t (nI_le (by omega) (by omega)) (fin i V' cs' tk' vo' kn' kA' kB' en' fx' vl' cd' ex' ta' ph' ho' (by omega) (by omega) hI)
  | succ k ih =>
    intro i V' cs' tk' vo' kn' kA' kB' en' fx' vl' cd' ex' ta' ph' ho' hi hI
    have h16 : V' ≤ 16 := hI.1.2.1
    rw [wX_prepare_49]
    by_cases hV : V' ≤ i
    · exact br_t (nI_le hV (by omega)) (fin i V' cs' tk' vo' kn' kA' kB' en' fx' vl' cd' ex' ta' ph' ho' (by omega) hV hI)
    · refine br_f (nI_ge (by omega) (by omega)) (br_f (nI_ge (b := 16) (by omega) (by omega)) (And.intro (vp_in_nI (by omega) (by omega)) ?_))
      rw [nI_clamp (show i < 2 ^ 31 by omega)]
      obtain ⟨i1, i2, i3, i4, i5, i6, i7, i8⟩ := hI
      rcases i7 i (by show i < V'; omega) with e | e
      · refine br_f (by rw [e]; decide) (mk_code hP hR i1 (by omega) (by omega) hsz ?_)
        intro V1 cs1 tk1 vo1 kn1 kA1 kB1 en1 fx1 vl1 cd1 ex1 ta1 ph1 ho1 hM
        have m4 := hM.2.2.2.1
        refine nm_r (nI_1 i) (ih (i + 1) V1 cs1 tk1 vo1 kn1 kA1 kB1 en1 fx1 vl1 cd1 ex1 ta1 ph1 ho1 (by omega) (fa_PIm i2 i3 i4 i5 i7 (fun j hj hji hne => i8 j hj (by omega)) (by omega) (by show i + 1 ≤ V'; omega) hM))
      · have e' := e
        obtain ⟨g, fv, en0, q, h1, h2, h3, h4, h5, h6, h7⟩ := e'
        have lq := fa_CF_lt h5
        refine br_t (by rw [h4]; exact nI_pos' (by omega)) (nm_r (nI_1 i) (ih (i + 1) V' cs' tk' vo' kn' kA' kB' en' fx' vl' cd' ex' ta' ph' ho' (by omega) ⟨i1, i2, i3, i4, i5, by omega, i7, fun j hj hji => ?_⟩))
        by_cases z : j = i
        · subst z; exact e
        · exact i8 j hj (by omega)
theorem pr_12 {post : Int32 → SX → Prop} {P : fa_P} {f : Nat} {a : Int32} (hP : fa_PW P) (hf : f < 4) (hR : ∀ f, f < 4 → fa_PR P a_kind a_partA a_partB a_partC a_number f) (hsz : ∀ f, f < 4 → a_size f = nI (fa_rt P f + 1))
    (H : ∀ V' cs' tk' vo' kn' kA' kB' en' fx' vl' cd' ex' ta' ph' ho', fa_RD P (f_made, f_height, nI V', nI cs', tk', f_values, f_frames, f_called, f_ended, a_kind, a_partA, a_partB, a_partC, a_number, a_size, a_stack, vo', kn', kA', kB', en', fx', vl', cd', ex', ta', ph', ho', a_pile, a_frameA, a_frameB, a_back, a_calledOf) f a → post (nI 4) (f_made, f_height, nI V', nI cs', tk', f_values, f_frames, f_called, f_ended, a_kind, a_partA, a_partB, a_partC, a_number, a_size, a_stack, vo', kn', kA', kB', en', fx', vl', cd', ex', ta', ph', ho', a_pile, a_frameA, a_frameB, a_back, a_calledOf)) :
    ∀ k i vo kn kA kB en, i + k = 4 → (∀ j, j < i → vo j = nI j ∧ kn j = 0 ∧ en j = -1) → wX_prepare_12 post (nI f) a (k + 1) (nI i) f_made f_height (nI i) (nI 0) f_tasks f_values f_frames f_called f_ended a_kind a_partA a_partB a_partC a_number a_size a_stack vo kn kA kB en a_fixed a_value a_code a_extra a_task a_phase a_hole a_pile a_frameA a_frameB a_back a_calledOf := by
  intro k
  induction k with
  | zero =>
    intro i vo kn kA kB en hi hI
    have e : i = 4 := hi
    subst e
    rw [wX_prepare_12]
    have hn : ∀ j, j < 4 → ¬ fa_mt vo kn kA kB (nI f) 1 a 0 j := fun j hj w => absurd ((hI j hj).2.1.symm.trans w.2.1) (by decide)
    have hx := fa_VXu (V := 4) (vo := vo) (kn := kn) (kA := kA) (kB := kB) (x1 := nI f) (x2 := 1) (x3 := a) (x4 := 0)
    have p1 : upd vo 4 (nI f) 4 = nI f := pk_us
    have p2 : upd kn 4 1 4 = 1 := pk_us
    have p3 : upd kA 4 a 4 = a := pk_us
    have hT : fa_VI (5, upd vo 4 (nI f), upd kn 4 1, upd kA 4 a, upd kB 4 0) := by
      refine ⟨show 4 ≤ 5 by decide, show 5 ≤ 16 by decide, fun j hj => ?_, fun j hj => ?_⟩
      · have e := hx.2 j hj
        exact ⟨e.1.trans (hI j hj).1, e.2.1.trans (hI j hj).2.1⟩
      · by_cases z : j < 4
        · have e := hx.2 j z
          exact ⟨⟨j, z, e.1.trans (hI j z).1⟩, Or.inl (e.2.1.trans (hI j z).2.1)⟩
        · have hj' : j < 5 := hj
          have e : j = 4 := by omega
          subst e
          exact ⟨⟨f, hf, p1⟩, Or.inr (Or.inl p2)⟩
    refine br_t (by decide) (xp_vfN (V := 4) (by omega) hn (mk_code (V := 5) (cs := 0) (v := 4) hP hR hT (by omega) (by omega) hsz ?_))
    intro V1 cs1 tk1 vo1 kn1 kA1 kB1 en1 fx1 vl1 cd1 ex1 ta1 ph1 ho1 hM
    have m4 := hM.2.2.2.1
    refine ⟨16 + 1, pr_49 hP hR hsz H 16 0 V1 cs1 tk1 vo1 kn1 kA1 kB1 en1 fx1 vl1 cd1 ex1 ta1 ph1 ho1 rfl (fa_PIm (v := 4) (T := (5, upd vo 4 (nI f), upd kn 4 1, upd kA 4 a, upd kB 4 0)) (show 4 < 5 by decide) p1 p2 p3 (fun j hj => Or.inl ?_) (fun j _ hj => absurd hj (by omega)) (by omega) (show 0 ≤ 5 by decide) hM)⟩
    have hj' : j < 5 := hj
    by_cases z : j = 4
    · subst z; exact pk_us
    · exact (pk_un z).trans (hI j (by omega)).2.2
  | succ k ih =>
    intro i vo kn kA kB en hi hI
    rw [wX_prepare_12]
    refine br_f (nI_ge (b := 4) (by omega) (by omega)) (xp_addV (by omega) (nm_r (nI_1 i) (ih (i + 1) _ _ _ _ _ (by omega) (fun j hj => ?_))))
    by_cases z : j = i
    · subst z; exact ⟨pk_us, pk_us, pk_us⟩
    · have y := hI j (by omega)
      exact ⟨(pk_un z).trans y.1, (pk_un z).trans y.2.1, (pk_un z).trans y.2.2⟩
theorem xq_prep {post : Int32 → SX → Prop} {P : fa_P} {f : Nat} {a : Int32} (hP : fa_PW P) (hf : f < 4) (hR : ∀ f, f < 4 → fa_PR P a_kind a_partA a_partB a_partC a_number f) (hsz : ∀ f, f < 4 → a_size f = nI (fa_rt P f + 1))
    (H : ∀ V' cs' tk' vo' kn' kA' kB' en' fx' vl' cd' ex' ta' ph' ho', fa_RD P (f_made, f_height, nI V', nI cs', tk', f_values, f_frames, f_called, f_ended, a_kind, a_partA, a_partB, a_partC, a_number, a_size, a_stack, vo', kn', kA', kB', en', fx', vl', cd', ex', ta', ph', ho', a_pile, a_frameA, a_frameB, a_back, a_calledOf) f a → post (nI 4) (f_made, f_height, nI V', nI cs', tk', f_values, f_frames, f_called, f_ended, a_kind, a_partA, a_partB, a_partC, a_number, a_size, a_stack, vo', kn', kA', kB', en', fx', vl', cd', ex', ta', ph', ho', a_pile, a_frameA, a_frameB, a_back, a_calledOf)) : wpX_prepare post (f_made, f_height, f_versions, f_codeSize, f_tasks, f_values, f_frames, f_called, f_ended, a_kind, a_partA, a_partB, a_partC, a_number, a_size, a_stack, a_versionOf, a_known, a_knownA, a_knownB, a_entry, a_fixed, a_value, a_code, a_extra, a_task, a_phase, a_hole, a_pile, a_frameA, a_frameB, a_back, a_calledOf) (nI f) a :=
  ⟨4 + 1, pr_12 hP hf hR hsz H 4 0 a_versionOf a_known a_knownA a_knownB a_entry rfl (fun j hj => absurd hj (by omega))⟩
end
end
section
/-! execute -/
theorem gx_end {u : SX} {p h c : Nat} {pile fA fB bk co : Nat → Int32} (ha : p < 640) (hc : xu_cd u p = 9) (hb : bk 0 = 0) :
    fa_GX u 1 (p, h, 1, c, pile, fA, fB, bk, co, -1) (0, h, 0, c, pile, fA, fB, bk, co, 0) := by
  obtain ⟨f_made, f_height, f_versions, f_codeSize, f_tasks, f_values, f_frames, f_called, f_ended, a_kind, a_partA, a_partB, a_partC, a_number, a_size, a_stack, a_versionOf, a_known, a_knownA, a_knownB, a_entry, a_fixed, a_value, a_code, a_extra, a_task, a_phase, a_hole, a_pile, a_frameA, a_frameB, a_back, a_calledOf⟩ := u
  exact gx_1 (fun post' H => xs_end ha hc (by rw [hb]; exact H))
section
variable {f_made f_height f_versions f_codeSize f_tasks f_values f_frames f_called f_ended : Int32} {a_kind a_partA a_partB a_partC a_number a_size a_stack a_versionOf a_known a_knownA a_knownB a_entry a_fixed a_value a_code a_extra a_task a_phase a_hole a_pile a_frameA a_frameB a_back a_calledOf : Nat → Int32}
theorem xe_fin {post : SX → Prop} {i p h fr c : Nat} {pile fA fB bk co : Nat → Int32} {e : Int32} (he : 0 ≤ e)
    (H : post (f_made, f_height, f_versions, f_codeSize, f_tasks, nI h, nI fr, nI c, e, a_kind, a_partA, a_partB, a_partC, a_number, a_size, a_stack, a_versionOf, a_known, a_knownA, a_knownB, a_entry, a_fixed, a_value, a_code, a_extra, a_task, a_phase, a_hole, pile, fA, fB, bk, co)) : fa_WX post (f_made, f_height, f_versions, f_codeSize, f_tasks, f_values, f_frames, f_called, f_ended, a_kind, a_partA, a_partB, a_partC, a_number, a_size, a_stack, a_versionOf, a_known, a_knownA, a_knownB, a_entry, a_fixed, a_value, a_code, a_extra, a_task, a_phase, a_hole, a_pile, a_frameA, a_frameB, a_back, a_calledOf) 1 i (p, h, fr, c, pile, fA, fB, bk, co, e) := by
  show wX_execute_55 post 1 (nI p) (nI i) f_made f_height f_versions f_codeSize f_tasks (nI h) (nI fr) (nI c) e a_kind a_partA a_partB a_partC a_number a_size a_stack a_versionOf a_known a_knownA a_knownB a_entry a_fixed a_value a_code a_extra a_task a_phase a_hole pile fA fB bk co
  exact br_c (fun _ => H) (fun _ => br_t he H)
theorem xe_22x {post : SX → Prop} {P : fa_P} {f : Nat} {a b : Int32} (hP : fa_PW P) (hf : f < 4) (hRD : fa_RD P (f_made, f_height, f_versions, f_codeSize, f_tasks, f_values, f_frames, f_called, f_ended, a_kind, a_partA, a_partB, a_partC, a_number, a_size, a_stack, a_versionOf, a_known, a_knownA, a_knownB, a_entry, a_fixed, a_value, a_code, a_extra, a_task, a_phase, a_hole, a_pile, a_frameA, a_frameB, a_back, a_calledOf) f a)
    (H0 : ∀ x s', fa_evC P 61 f a b (0, fun _ => 0) = (some x, s') → ∀ x_f x_p x_A x_B x_b, x_p 0 = x → post (f_made, f_height, f_versions, f_codeSize, f_tasks, nI 1, x_f, nI s'.1, 0, a_kind, a_partA, a_partB, a_partC, a_number, a_size, a_stack, a_versionOf, a_known, a_knownA, a_knownB, a_entry, a_fixed, a_value, a_code, a_extra, a_task, a_phase, a_hole, x_p, x_A, x_B, x_b, s'.2))
    (H1 : ∀ s', fa_evC P 61 f a b (0, fun _ => 0) = (none, s') → ∀ x_v x_f x_p x_A x_B x_b, post (f_made, f_height, f_versions, f_codeSize, f_tasks, x_v, x_f, nI s'.1, 1, a_kind, a_partA, a_partB, a_partC, a_number, a_size, a_stack, a_versionOf, a_known, a_knownA, a_knownB, a_entry, a_fixed, a_value, a_code, a_extra, a_task, a_phase, a_hole, x_p, x_A, x_B, x_b, s'.2)) :
    wpX_push (fun u => match u with | (f_made, f_height, f_versions, f_codeSize, f_tasks, f_values, f_frames, f_called, f_ended, a_kind, a_partA, a_partB, a_partC, a_number, a_size, a_stack, a_versionOf, a_known, a_knownA, a_knownB, a_entry, a_fixed, a_value, a_code, a_extra, a_task, a_phase, a_hole, a_pile, a_frameA, a_frameB, a_back, a_calledOf) => (wpX_callVersion (fun r_36 u => match u with | (f_made, f_height, f_versions, f_codeSize, f_tasks, f_values, f_frames, f_called, f_ended, a_kind, a_partA, a_partB, a_partC, a_number, a_size, a_stack, a_versionOf, a_known, a_knownA, a_knownB, a_entry, a_fixed, a_value, a_code, a_extra, a_task, a_phase, a_hole, a_pile, a_frameA, a_frameB, a_back, a_calledOf) => (∃ n55 : Nat, wX_execute_55 post n55 r_36 0 f_made f_height f_versions f_codeSize f_tasks f_values f_frames f_called f_ended a_kind a_partA a_partB a_partC a_number a_size a_stack a_versionOf a_known a_knownA a_knownB a_entry a_fixed a_value a_code a_extra a_task a_phase a_hole a_pile a_frameA a_frameB a_back a_calledOf)) (f_made, f_height, f_versions, f_codeSize, f_tasks, f_values, f_frames, f_called, f_ended, a_kind, a_partA, a_partB, a_partC, a_number, a_size, a_stack, a_versionOf, a_known, a_knownA, a_knownB, a_entry, a_fixed, a_value, a_code, a_extra, a_task, a_phase, a_hole, a_pile, a_frameA, a_frameB, a_back, a_calledOf) (nI 4) 0)) (f_made, f_height, f_versions, f_codeSize, f_tasks, nI 0, nI 0, nI 0, -1, a_kind, a_partA, a_partB, a_partC, a_number, a_size, a_stack, a_versionOf, a_known, a_knownA, a_knownB, a_entry, a_fixed, a_value, a_code, a_extra, a_task, a_phase, a_hole, a_pile, a_frameA, a_frameB, a_back, fun _ => 0) b := by
  obtain ⟨V, hV, hV4, hO, ho4, hk4, hA4⟩ := hRD
  obtain ⟨g', fv, en, q, hg', ho', hFE, hen, hCF, hq9, hq⟩ := hO 4 hV4
  have eg : g' = f := (nI_eq (by omega) (by omega)).mp (ho'.symm.trans ho4)
  subst eg
  have ho4' : a_versionOf 4 = nI g' := ho4
  have hk4' : a_known 4 = 1 := hk4
  have hA4' : a_knownA 4 = a := hA4
  have hen' : a_entry 4 = nI en := hen
  have kb : a_known 4 &&& 2 = 0 := by rw [hk4']; decide
  have ka : ¬ a_known 4 &&& 1 = 0 := by rw [hk4']; decide
  obtain ⟨hr1, hr2, hr3⟩ := hP g' hf
  have hlen := fa_CF_len hP hf hFE 14 _ _ _ (Nat.le_refl _) hCF
  have hlt := fa_CF_lt hCF
  have e1 : fa_evC P 61 g' a b (0, fun _ => 0) = fa_evT P (fa_evC P 60) g' a b 14 (fa_rt P g') (1, upd (fun _ => 0) g' (0 + 1)) := by
    rw [fa_evC]; exact if_neg (by decide)
  refine xp_push (h := 0) (by omega) rfl ?_
  refine xv_B (v := 4) (fr := 0) (c := 0) (g := g') (h := 0) (by omega) (by omega) (by omega) hf (by omega) ho4' kb (xv_89f (v := 4) (by omega) (by omega) hen' ka ?_)
  have hX := xr_term (u := (f_made, f_height, f_versions, f_codeSize, f_tasks, f_values, f_frames, f_called, f_ended, a_kind, a_partA, a_partB, a_partC, a_number, a_size, a_stack, a_versionOf, a_known, a_knownA, a_knownB, a_entry, a_fixed, a_value, a_code, a_extra, a_task, a_phase, a_hole, a_pile, a_frameA, a_frameB, a_back, a_calledOf)) (V := V) (a := a) (b := b) hP (fa_mnC hP 60) (xr_call hP hV hO 60) hf hFE (fun _ => hA4'.symm) (fun z => absurd kb z) 14 (fa_rt P g') en q 0 0 1 (upd a_pile 0 b) a_frameA (upd a_frameB 0 (upd a_pile 0 b 0)) (upd a_back 0 0) (upd (fun _ => 0) g' (0 + 1))
    hr1 (Nat.le_refl _) hCF (by omega) (by omega) (by omega) (by omega) (by omega) (fun z => absurd z ka) (fun _ => by rw [pk_us, pk_us])
  have mT := fa_mnT hP (fa_mnC hP 60) hf (a := a) (b := b) 14 (fa_rt P g') (1, upd (fun _ => 0) g' (0 + 1)) (Nat.le_refl _) (show 1 ≤ 60 by decide)
  rw [e1] at H0 H1
  rcases fa_rc (fa_evT P (fa_evC P 60) g' a b 14 (fa_rt P g') (1, upd (fun _ => 0) g' (0 + 1))) with ⟨s1, eT⟩ | ⟨xT, s1, eT⟩
  · obtain ⟨k1, at', h', fr', pile', fA', fB', bk', hk1, g1⟩ := hX.2 s1 eT
    rw [eT] at mT
    have m1 : 1 ≤ s1.1 := mT.1
    have m2 : s1.1 ≤ 60 := mT.2.1
    exact ⟨1 + k1, g1 post 1 0 (by omega) (xe_fin (by decide) (H1 s1 eT (nI h') (nI fr') pile' fA' fB' bk'))⟩
  · obtain ⟨k1, pile', fA', fB', bk', hk1, g1, hx1, hp1, hf1⟩ := hX.1 xT s1 eT
    rw [eT] at mT
    have m1 : 1 ≤ s1.1 := mT.1
    have m2 : s1.1 ≤ 60 := mT.2.1
    have ge := gx_end (u := (f_made, f_height, f_versions, f_codeSize, f_tasks, f_values, f_frames, f_called, f_ended, a_kind, a_partA, a_partB, a_partC, a_number, a_size, a_stack, a_versionOf, a_known, a_knownA, a_knownB, a_entry, a_fixed, a_value, a_code, a_extra, a_task, a_phase, a_hole, a_pile, a_frameA, a_frameB, a_back, a_calledOf)) (p := q) (h := 0 + 1) (c := s1.1) (pile := pile') (fA := fA') (fB := fB') (bk := bk') (co := s1.2) hq hq9 ((hf1 0 (Nat.le_refl _)).2.2.trans pk_us)
    exact ⟨1 + (k1 + 1), (fa_GX_tr g1 ge) post 1 0 (by omega) (xe_fin (by decide) (H0 xT s1 eT (nI 0) pile' fA' fB' bk' hx1))⟩
theorem xe_22 {post : SX → Prop} {P : fa_P} {f : Nat} {a b : Int32} (hP : fa_PW P) (hf : f < 4) (hRD : fa_RD P (f_made, f_height, f_versions, f_codeSize, f_tasks, f_values, f_frames, f_called, f_ended, a_kind, a_partA, a_partB, a_partC, a_number, a_size, a_stack, a_versionOf, a_known, a_knownA, a_knownB, a_entry, a_fixed, a_value, a_code, a_extra, a_task, a_phase, a_hole, a_pile, a_frameA, a_frameB, a_back, a_calledOf) f a)
    (H0 : ∀ x s', fa_evC P 61 f a b (0, fun _ => 0) = (some x, s') → ∀ x_f x_p x_A x_B x_b, x_p 0 = x → post (f_made, f_height, f_versions, f_codeSize, f_tasks, nI 1, x_f, nI s'.1, 0, a_kind, a_partA, a_partB, a_partC, a_number, a_size, a_stack, a_versionOf, a_known, a_knownA, a_knownB, a_entry, a_fixed, a_value, a_code, a_extra, a_task, a_phase, a_hole, x_p, x_A, x_B, x_b, s'.2))
    (H1 : ∀ s', fa_evC P 61 f a b (0, fun _ => 0) = (none, s') → ∀ x_v x_f x_p x_A x_B x_b, post (f_made, f_height, f_versions, f_codeSize, f_tasks, x_v, x_f, nI s'.1, 1, a_kind, a_partA, a_partB, a_partC, a_number, a_size, a_stack, a_versionOf, a_known, a_knownA, a_knownB, a_entry, a_fixed, a_value, a_code, a_extra, a_task, a_phase, a_hole, x_p, x_A, x_B, x_b, s'.2)) :
    ∀ k i co, i + k = 4 → (∀ j, j < i ∨ 4 ≤ j → co j = 0) → wX_execute_22 post (nI 4) b f_made f_height f_versions f_codeSize f_tasks (nI 0) (nI 0) (nI 0) (-1) (k + 1) (nI i) a_kind a_partA a_partB a_partC a_number a_size a_stack a_versionOf a_known a_knownA a_knownB a_entry a_fixed a_value a_code a_extra a_task a_phase a_hole a_pile a_frameA a_frameB a_back co := by
  intro k
  induction k with
  | zero =>
    intro i co hi hI
    have e : i = 4 := hi
    subst e
    have ec : co = fun _ => 0 := funext (fun j => hI j (by omega))
    subst ec
    rw [wX_execute_22]
    exact br_t (by decide) (xe_22x hP hf hRD H0 H1)
  | succ k ih =>
    intro i co hi hI
    rw [wX_execute_22]
    refine br_f (nI_ge (b := 4) (by omega) (by omega)) (And.intro (vp_in_nI (by omega) (by omega)) (nm_r (fa_ux (by omega)) (nm_r (nI_1 i) (ih (i + 1) _ (by omega) (fun j hj => ?_)))))
    by_cases z : j = i
    · subst z; exact pk_us
    · exact (pk_un z).trans (hI j (by omega))
theorem xe_exec {post : SX → Prop} {P : fa_P} {f : Nat} {a b : Int32} (hP : fa_PW P) (hf : f < 4) (hRD : fa_RD P (f_made, f_height, f_versions, f_codeSize, f_tasks, f_values, f_frames, f_called, f_ended, a_kind, a_partA, a_partB, a_partC, a_number, a_size, a_stack, a_versionOf, a_known, a_knownA, a_knownB, a_entry, a_fixed, a_value, a_code, a_extra, a_task, a_phase, a_hole, a_pile, a_frameA, a_frameB, a_back, a_calledOf) f a) (hco : ∀ j, 4 ≤ j → a_calledOf j = 0)
    (H0 : ∀ x s', fa_evC P 61 f a b (0, fun _ => 0) = (some x, s') → ∀ x_f x_p x_A x_B x_b, x_p 0 = x → post (f_made, f_height, f_versions, f_codeSize, f_tasks, nI 1, x_f, nI s'.1, 0, a_kind, a_partA, a_partB, a_partC, a_number, a_size, a_stack, a_versionOf, a_known, a_knownA, a_knownB, a_entry, a_fixed, a_value, a_code, a_extra, a_task, a_phase, a_hole, x_p, x_A, x_B, x_b, s'.2))
    (H1 : ∀ s', fa_evC P 61 f a b (0, fun _ => 0) = (none, s') → ∀ x_v x_f x_p x_A x_B x_b, post (f_made, f_height, f_versions, f_codeSize, f_tasks, x_v, x_f, nI s'.1, 1, a_kind, a_partA, a_partB, a_partC, a_number, a_size, a_stack, a_versionOf, a_known, a_knownA, a_knownB, a_entry, a_fixed, a_value, a_code, a_extra, a_task, a_phase, a_hole, x_p, x_A, x_B, x_b, s'.2)) :
    wpX_execute post (f_made, f_height, f_versions, f_codeSize, f_tasks, f_values, f_frames, f_called, f_ended, a_kind, a_partA, a_partB, a_partC, a_number, a_size, a_stack, a_versionOf, a_known, a_knownA, a_knownB, a_entry, a_fixed, a_value, a_code, a_extra, a_task, a_phase, a_hole, a_pile, a_frameA, a_frameB, a_back, a_calledOf) (nI 4) b :=
  ⟨4 + 1, xe_22 hP hf hRD H0 H1 4 0 a_calledOf rfl (fun j hj => hco j (by omega))⟩
end
end
section
/-! The reference's steps -/
def fa_en (cl t st : Nat) : Nat := (cl * 128 + t) * 4 + st
theorem fa_enE {cl t st : Nat} : (nI cl * 128 + nI t) * 4 + nI st = nI (fa_en cl t st) := by
  have e1 : nI cl * 128 = nI (cl * 128) := pk_mul cl 128
  have e2 : nI (cl * 128 + t) * 4 = nI ((cl * 128 + t) * 4) := pk_mul (cl * 128 + t) 4
  rw [e1, nI_add, e2, nI_add]; rfl
theorem fa_enL {cl t st : Nat} (hc : cl ≤ 60) (ht : t < 128) (hs : st < 4) : fa_en cl t st < 2 ^ 31 := by unfold fa_en; omega
theorem fa_en1 {cl t st : Nat} (hc : cl ≤ 60) (ht : t < 128) (hs : st < 4) : nI (fa_en cl t st) - nI (fa_en cl t st) / 4 * 4 = nI st := by
  have e : nI (fa_en cl t st) - nI (fa_en cl t st) / nI 4 * nI 4 = nI (fa_en cl t st % 4) := pk_rem (fa_enL hc ht hs) (by omega) (by omega)
  have e2 : fa_en cl t st % 4 = st := by unfold fa_en; omega
  rw [e2] at e; exact e
theorem fa_en2 {cl t st : Nat} (hc : cl ≤ 60) (ht : t < 128) (hs : st < 4) : nI (fa_en cl t st) / 4 - nI (fa_en cl t st) / 4 / 128 * 128 = nI t := by
  have e0 : nI (fa_en cl t st) / 4 = nI (fa_en cl t st / 4) := pk_div (d := 4) (fa_enL hc ht hs) (by omega) (by omega)
  have e1 : fa_en cl t st / 4 = cl * 128 + t := by unfold fa_en; omega
  rw [e0, e1]
  have e : nI (cl * 128 + t) - nI (cl * 128 + t) / nI 128 * nI 128 = nI ((cl * 128 + t) % 128) := pk_rem (by omega) (by omega) (by omega)
  have e2 : (cl * 128 + t) % 128 = t := by omega
  rw [e2] at e; exact e
theorem fa_en3 {cl t st : Nat} (hc : cl ≤ 60) (ht : t < 128) (hs : st < 4) : nI (fa_en cl t st) / 512 = nI cl := by
  have e0 : nI (fa_en cl t st) / 512 = nI (fa_en cl t st / 512) := pk_div (d := 512) (fa_enL hc ht hs) (by omega) (by omega)
  have e1 : fa_en cl t st / 512 = cl := by unfold fa_en; omega
  rw [e0, e1]
theorem fa_3m {t : Nat} : (3 : Int32) * nI t = nI (3 * t) := pk_mul 3 t
section
variable {yf_made yf_depth yf_waiting yf_held yf_called yf_tired : Int32} {ya_kinds ya_parts ya_numbers ya_roots ya_stack ya_waits ya_values ya_firsts ya_seconds ya_counts : Nat → Int32}
theorem yp_hold {post : SY → Prop} {h : Nat} {x y : Int32} (hh : h < 440) (e : x = y) (H : post (yf_made, yf_depth, yf_waiting, nI (h + 1), yf_called, yf_tired, ya_kinds, ya_parts, ya_numbers, ya_roots, ya_stack, ya_waits, upd ya_values h y, ya_firsts, ya_seconds, ya_counts)) : wpY_hold post (yf_made, yf_depth, yf_waiting, nI h, yf_called, yf_tired, ya_kinds, ya_parts, ya_numbers, ya_roots, ya_stack, ya_waits, ya_values, ya_firsts, ya_seconds, ya_counts) x := by
  subst e
  exact And.intro (vp_in_nI hh (by omega)) (nm_r (fa_ux (by omega)) (nm_r (nI_1 h) H))
theorem yp_wait {post : SY → Prop} {w cl t st : Nat} (hw : w < 440) (H : post (yf_made, yf_depth, nI (w + 1), yf_held, yf_called, yf_tired, ya_kinds, ya_parts, ya_numbers, ya_roots, ya_stack, upd ya_waits w (nI (fa_en cl t st)), ya_values, ya_firsts, ya_seconds, ya_counts)) : wpY_wait post (yf_made, yf_depth, nI w, yf_held, yf_called, yf_tired, ya_kinds, ya_parts, ya_numbers, ya_roots, ya_stack, ya_waits, ya_values, ya_firsts, ya_seconds, ya_counts) (nI t) (nI st) (nI cl) :=
  And.intro (vp_in_nI hw (by omega)) (nm_r (fa_uxe (by omega) fa_enE) (nm_r (nI_1 w) H))
theorem yb_9 {post : SY → Prop} {h t : Nat} {p1 : Int32} (ht : t < 70) (hh : h < 440) (ek : ya_kinds t = 9) (H : post (yf_made, yf_depth, yf_waiting, nI (h + 1), yf_called, yf_tired, ya_kinds, ya_parts, ya_numbers, ya_roots, ya_stack, ya_waits, upd ya_values h (ya_numbers t), ya_firsts, ya_seconds, ya_counts)) : wpY_begin post (yf_made, yf_depth, yf_waiting, nI h, yf_called, yf_tired, ya_kinds, ya_parts, ya_numbers, ya_roots, ya_stack, ya_waits, ya_values, ya_firsts, ya_seconds, ya_counts) (nI t) p1 := by
  have it : vp_in (nI t) 70 := vp_in_nI ht (by omega)
  exact And.intro it (br_t ((fa_ix (by omega)).trans ek) (And.intro it (yp_hold hh (fa_ix (by omega)) H)))
theorem yb_10 {post : SY → Prop} {h t cl : Nat} {x : Int32} (ht : t < 70) (hh : h < 440) (hc : cl < 61) (ek : ya_kinds t = 10) (x0 : ya_numbers t = 0 → x = ya_firsts cl) (x1 : ¬ ya_numbers t = 0 → x = ya_seconds cl)
    (H : post (yf_made, yf_depth, yf_waiting, nI (h + 1), yf_called, yf_tired, ya_kinds, ya_parts, ya_numbers, ya_roots, ya_stack, ya_waits, upd ya_values h x, ya_firsts, ya_seconds, ya_counts)) : wpY_begin post (yf_made, yf_depth, yf_waiting, nI h, yf_called, yf_tired, ya_kinds, ya_parts, ya_numbers, ya_roots, ya_stack, ya_waits, ya_values, ya_firsts, ya_seconds, ya_counts) (nI t) (nI cl) := by
  have it : vp_in (nI t) 70 := vp_in_nI ht (by omega)
  have ic : vp_in (nI cl) 61 := vp_in_nI hc (by omega)
  have ek' : ya_kinds (nI t).toNatClampNeg = 10 := (fa_ix (by omega)).trans ek
  have d : ¬ ya_kinds (nI t).toNatClampNeg = 9 := by rw [ek']; decide
  refine And.intro it (br_f d (And.intro it (br_t ek' (And.intro it ?_))))
  unfold wY_begin_60
  refine br_c (fun z => And.intro ic (yp_hold hh ?_ H)) (fun z => And.intro ic (yp_hold hh ?_ H))
  · rw [nI_clamp (by omega)]; rw [nI_clamp (by omega)] at z; exact (x0 z).symm
  · rw [nI_clamp (by omega)]; rw [nI_clamp (by omega)] at z; exact (x1 z).symm
theorem yb_w {post : SY → Prop} {w t cl kd pa : Nat} (ht : t < 70) (hw : w + 1 < 440) (ek : ya_kinds t = nI kd) (hk : kd ≤ 8) (ea : ya_parts (3 * t) = nI pa)
    (H : post (yf_made, yf_depth, nI (w + 2), yf_held, yf_called, yf_tired, ya_kinds, ya_parts, ya_numbers, ya_roots, ya_stack, upd (upd ya_waits w (nI (fa_en cl t 1))) (w + 1) (nI (fa_en cl pa 0)), ya_values, ya_firsts, ya_seconds, ya_counts)) : wpY_begin post (yf_made, yf_depth, nI w, yf_held, yf_called, yf_tired, ya_kinds, ya_parts, ya_numbers, ya_roots, ya_stack, ya_waits, ya_values, ya_firsts, ya_seconds, ya_counts) (nI t) (nI cl) := by
  have it : vp_in (nI t) 70 := vp_in_nI ht (by omega)
  have ek' : ya_kinds (nI t).toNatClampNeg = nI kd := (fa_ix (by omega)).trans ek
  have d9 : ¬ ya_kinds (nI t).toNatClampNeg = 9 := by rw [ek']; exact fa_ne (b := 9) (by omega) (by omega) (by omega)
  have d10 : ¬ ya_kinds (nI t).toNatClampNeg = 10 := by rw [ek']; exact fa_ne (b := 10) (by omega) (by omega) (by omega)
  refine And.intro it (br_f d9 (And.intro it (br_f d10 (yp_wait (st := 1) (by omega) (And.intro ?_ ?_)))))
  · rw [fa_3m]; exact vp_in_nI (by omega) (by omega)
  · have e : ya_parts ((3 : Int32) * nI t).toNatClampNeg = nI pa := by rw [fa_3m, nI_clamp (by omega)]; exact ea
    rw [e]
    exact yp_wait (st := 0) (by omega) H
theorem yg_8 {post : SY → Prop} {w h t cl pd st : Nat} (ht : t < 70) (hw : w < 440) (hh : h < 440) (ek : ya_kinds t = 8) (ec : ya_values h = 0 → ya_parts (3 * t + 2) = nI pd) (eb : ¬ ya_values h = 0 → ya_parts (3 * t + 1) = nI pd)
    (H : post (yf_made, yf_depth, nI (w + 1), nI h, yf_called, yf_tired, ya_kinds, ya_parts, ya_numbers, ya_roots, ya_stack, upd ya_waits w (nI (fa_en cl pd 0)), ya_values, ya_firsts, ya_seconds, ya_counts)) : wpY_goOn post (yf_made, yf_depth, nI w, nI (h + 1), yf_called, yf_tired, ya_kinds, ya_parts, ya_numbers, ya_roots, ya_stack, ya_waits, ya_values, ya_firsts, ya_seconds, ya_counts) (nI t) (nI st) (nI cl) := by
  have it : vp_in (nI t) 70 := vp_in_nI ht (by omega)
  have ek' : ya_kinds (nI t).toNatClampNeg = 8 := (fa_ix (by omega)).trans ek
  refine And.intro it (br_t ek' (nm_r (nI_pred h) (And.intro (vp_in_nI hh (by omega)) ?_)))
  rw [nI_clamp (show h < 2 ^ 31 by omega)]
  unfold wY_goOn_46
  have e2 : (3 : Int32) * nI t + 2 = nI (3 * t + 2) := by rw [fa_3m]; exact nI_add _ 2
  have e1 : (3 : Int32) * nI t + 1 = nI (3 * t + 1) := by rw [fa_3m]; exact nI_add _ 1
  refine br_c (fun z => ?_) (fun z => ?_)
  · rw [e2]
    refine And.intro (vp_in_nI (by omega) (by omega)) ?_
    rw [nI_clamp (by omega), ec z]
    exact yp_wait (st := 0) hw H
  · rw [e1]
    refine And.intro (vp_in_nI (by omega) (by omega)) ?_
    rw [nI_clamp (by omega), eb z]
    exact yp_wait (st := 0) hw H
theorem yg_1 {post : SY → Prop} {w t cl kd pb : Nat} (ht : t < 70) (hw : w + 1 < 440) (ek : ya_kinds t = nI kd) (hk : kd < 8) (eb : ya_parts (3 * t + 1) = nI pb)
    (H : post (yf_made, yf_depth, nI (w + 2), yf_held, yf_called, yf_tired, ya_kinds, ya_parts, ya_numbers, ya_roots, ya_stack, upd (upd ya_waits w (nI (fa_en cl t 2))) (w + 1) (nI (fa_en cl pb 0)), ya_values, ya_firsts, ya_seconds, ya_counts)) : wpY_goOn post (yf_made, yf_depth, nI w, yf_held, yf_called, yf_tired, ya_kinds, ya_parts, ya_numbers, ya_roots, ya_stack, ya_waits, ya_values, ya_firsts, ya_seconds, ya_counts) (nI t) (nI 1) (nI cl) := by
  have it : vp_in (nI t) 70 := vp_in_nI ht (by omega)
  have ek' : ya_kinds (nI t).toNatClampNeg = nI kd := (fa_ix (by omega)).trans ek
  have d8 : ¬ ya_kinds (nI t).toNatClampNeg = 8 := by rw [ek']; exact fa_ne (b := 8) (by omega) (by omega) (by omega)
  have e1 : (3 : Int32) * nI t + 1 = nI (3 * t + 1) := by rw [fa_3m]; exact nI_add _ 1
  refine And.intro it (br_f d8 (br_t rfl (yp_wait (st := 2) (by omega) (And.intro ?_ ?_))))
  · rw [e1]; exact vp_in_nI (by omega) (by omega)
  · have e : ya_parts ((3 : Int32) * nI t + 1).toNatClampNeg = nI pb := by rw [e1, nI_clamp (by omega)]; exact eb
    rw [e]
    exact yp_wait (st := 0) (by omega) H
theorem yg_op {post : SY → Prop} {h t kd : Nat} {p2 : Int32} (ht : t < 70) (hh : h + 1 < 440) (ek : ya_kinds t = nI kd) (hk : kd < 4)
    (H : post (yf_made, yf_depth, yf_waiting, nI (h + 1), yf_called, yf_tired, ya_kinds, ya_parts, ya_numbers, ya_roots, ya_stack, ya_waits, upd ya_values h (fa_cmb kd (ya_values h) (ya_values (h + 1))), ya_firsts, ya_seconds, ya_counts)) : wpY_goOn post (yf_made, yf_depth, yf_waiting, nI (h + 2), yf_called, yf_tired, ya_kinds, ya_parts, ya_numbers, ya_roots, ya_stack, ya_waits, ya_values, ya_firsts, ya_seconds, ya_counts) (nI t) (nI 2) p2 := by
  have it : vp_in (nI t) 70 := vp_in_nI ht (by omega)
  have ek' : ya_kinds (nI t).toNatClampNeg = nI kd := (fa_ix (by omega)).trans ek
  have d8 : ¬ ya_kinds (nI t).toNatClampNeg = 8 := by rw [ek']; exact fa_ne (b := 8) (by omega) (by omega) (by omega)
  have hy : ya_values (nI h + 1).toNatClampNeg = ya_values (h + 1) := by rw [nI_1]; exact fa_ix (by omega)
  refine And.intro it (br_f d8 (br_f fa_d21 (And.intro it ?_)))
  rw [ek']
  refine nm_r fa_s2 (And.intro (vp_in_nI (by omega) (by omega)) (nm_r (fa_ix (by omega)) (And.intro (by rw [nI_1]; exact vp_in_nI hh (by omega)) (nm_r hy (br_t (nI_le (b := 3) (by omega) (by omega)) ?_)))))
  unfold wY_finish_92
  match kd, hk with
  | 0, _ => exact br_t nI_0 (yp_hold (by omega) rfl H)
  | 1, _ => exact br_f (by decide) (br_t (by decide) (yp_hold (by omega) rfl H))
  | 2, _ => exact br_f (by decide) (br_f (by decide) (br_t (by decide) (yp_hold (by omega) rfl H)))
  | 3, _ =>
    refine br_f (by decide) (br_f (by decide) (br_f (by decide) (br_c (fun z => ?_) (fun z => ?_))))
    · rw [fa_cmb3t z] at H; exact yp_hold (by omega) rfl H
    · rw [fa_cmb3f z] at H; exact yp_hold (by omega) rfl H
theorem yc_60 {post : SY → Prop} {p0 p1 p2 : Int32} (H : post (yf_made, yf_depth, yf_waiting, yf_held, nI 60, 1, ya_kinds, ya_parts, ya_numbers, ya_roots, ya_stack, ya_waits, ya_values, ya_firsts, ya_seconds, ya_counts)) : wpY_call post (yf_made, yf_depth, yf_waiting, yf_held, nI 60, yf_tired, ya_kinds, ya_parts, ya_numbers, ya_roots, ya_stack, ya_waits, ya_values, ya_firsts, ya_seconds, ya_counts) p0 p1 p2 := br_t rfl H
theorem yc_c {post : SY → Prop} {w c g rt : Nat} {x y : Int32} (hc : c < 60) (hg : g < 4) (hw : w < 440) (er : ya_roots g = nI rt)
    (H : post (yf_made, yf_depth, nI (w + 1), yf_held, nI (c + 1), yf_tired, ya_kinds, ya_parts, ya_numbers, ya_roots, ya_stack, upd ya_waits w (nI (fa_en c rt 0)), ya_values, upd ya_firsts c x, upd ya_seconds c y, upd ya_counts g (ya_counts g + 1))) :
    wpY_call post (yf_made, yf_depth, nI w, yf_held, nI c, yf_tired, ya_kinds, ya_parts, ya_numbers, ya_roots, ya_stack, ya_waits, ya_values, ya_firsts, ya_seconds, ya_counts) (nI g) x y := by
  have ic : vp_in (nI c) 61 := vp_in_nI (by omega) (by omega)
  have ig : vp_in (nI g) 4 := vp_in_nI hg (by omega)
  have hu : upd ya_counts (nI g).toNatClampNeg (ya_counts (nI g).toNatClampNeg + 1) = upd ya_counts g (ya_counts g + 1) := by rw [nI_clamp (show g < 2 ^ 31 by omega)]
  refine br_f (fa_ne (b := 60) (by omega) (by omega) (by omega)) (And.intro ic (nm_r (fa_ux (by omega)) (And.intro ic (nm_r (fa_ux (by omega)) (And.intro ig (And.intro ig (nm_r hu (And.intro ig ?_))))))))
  rw [nI_clamp (show g < 2 ^ 31 by omega), er]
  exact yp_wait (st := 0) hw (nm_r (nI_1 c) H)
theorem yg_call {post : SY → Prop} {h t kd : Nat} {p2 : Int32} (ht : t < 70) (hh : h + 1 < 440) (ek : ya_kinds t = nI kd) (h4 : 4 ≤ kd) (h8 : kd < 8)
    (H : ∀ post' : SY → Prop, (∀ u, post u → post' u) → wpY_call post' (yf_made, yf_depth, yf_waiting, nI h, yf_called, yf_tired, ya_kinds, ya_parts, ya_numbers, ya_roots, ya_stack, ya_waits, ya_values, ya_firsts, ya_seconds, ya_counts) (nI (kd - 4)) (ya_values h) (ya_values (h + 1))) : wpY_goOn post (yf_made, yf_depth, yf_waiting, nI (h + 2), yf_called, yf_tired, ya_kinds, ya_parts, ya_numbers, ya_roots, ya_stack, ya_waits, ya_values, ya_firsts, ya_seconds, ya_counts) (nI t) (nI 2) p2 := by
  have it : vp_in (nI t) 70 := vp_in_nI ht (by omega)
  have ek' : ya_kinds (nI t).toNatClampNeg = nI kd := (fa_ix (by omega)).trans ek
  have d8 : ¬ ya_kinds (nI t).toNatClampNeg = 8 := by rw [ek']; exact fa_ne (b := 8) (by omega) (by omega) (by omega)
  have es : nI kd - 4 = nI (kd - 4) := pk_sub (b := 4) h4
  have hy : ya_values (nI h + 1).toNatClampNeg = ya_values (h + 1) := by rw [nI_1]; exact fa_ix (by omega)
  refine And.intro it (br_f d8 (br_f fa_d21 (And.intro it ?_)))
  rw [ek']
  refine nm_r fa_s2 (And.intro (vp_in_nI (by omega) (by omega)) (nm_r (fa_ix (by omega)) (And.intro (by rw [nI_1]; exact vp_in_nI hh (by omega)) (nm_r hy (br_f (nI_ge (a := 3) (by omega) (by omega)) ?_)))))
  rw [es]
  exact H _ (fun u hu => by obtain ⟨yf_made, yf_depth, yf_waiting, yf_held, yf_called, yf_tired, ya_kinds, ya_parts, ya_numbers, ya_roots, ya_stack, ya_waits, ya_values, ya_firsts, ya_seconds, ya_counts⟩ := u; exact hu)
theorem yw_0 {post : Int32 → SY → Prop} {n w cl t : Nat} (hw : w < 440) (hc : cl ≤ 60) (ht : t < 128) (e : ya_waits w = nI (fa_en cl t 0))
    (H : ∀ post' : SY → Prop, (∀ u, (match u with | (yf_made, yf_depth, yf_waiting, yf_held, yf_called, yf_tired, ya_kinds, ya_parts, ya_numbers, ya_roots, ya_stack, ya_waits, ya_values, ya_firsts, ya_seconds, ya_counts) => wY_work_50 post n yf_made yf_depth yf_waiting yf_held yf_called yf_tired ya_kinds ya_parts ya_numbers ya_roots ya_stack ya_waits ya_values ya_firsts ya_seconds ya_counts) → post' u) → wpY_begin post' (yf_made, yf_depth, nI w, yf_held, yf_called, 0, ya_kinds, ya_parts, ya_numbers, ya_roots, ya_stack, ya_waits, ya_values, ya_firsts, ya_seconds, ya_counts) (nI t) (nI cl)) : wY_work_50 post (n + 1) yf_made yf_depth (nI (w + 1)) yf_held yf_called 0 ya_kinds ya_parts ya_numbers ya_roots ya_stack ya_waits ya_values ya_firsts ya_seconds ya_counts := by
  have iw : vp_in (nI w) 440 := vp_in_nI hw (by omega)
  have e' : ya_waits (nI w).toNatClampNeg = nI (fa_en cl t 0) := (fa_ix (by omega)).trans e
  have r1 : ya_waits (nI w).toNatClampNeg - ya_waits (nI w).toNatClampNeg / 4 * 4 = nI 0 := by rw [e']; exact fa_en1 hc ht (by omega)
  have r2 : ya_waits (nI w).toNatClampNeg / 4 - ya_waits (nI w).toNatClampNeg / 4 / 128 * 128 = nI t := by rw [e']; exact fa_en2 hc ht (by omega)
  have r3 : ya_waits (nI w).toNatClampNeg / 512 = nI cl := by rw [e']; exact fa_en3 hc ht (by omega)
  have q4 : ¬ (4 : Int32) = 0 := by decide
  have q128 : ¬ (128 : Int32) = 0 := by decide
  have q512 : ¬ (512 : Int32) = 0 := by decide
  rw [wY_work_50]
  refine br_f (nI_nle (by omega) (by omega)) (br_t rfl (nm_r (nI_pred w) (And.intro iw (And.intro q4 (nm_r r1 (And.intro iw (And.intro q4 (And.intro q128 (nm_r r2 (And.intro iw (And.intro q512 (nm_r r3 (br_t nI_0 ?_)))))))))))))
  exact H _ (fun u hu => by obtain ⟨yf_made, yf_depth, yf_waiting, yf_held, yf_called, yf_tired, ya_kinds, ya_parts, ya_numbers, ya_roots, ya_stack, ya_waits, ya_values, ya_firsts, ya_seconds, ya_counts⟩ := u; exact hu)
theorem yw_1 {post : Int32 → SY → Prop} {n w cl t st : Nat} (hw : w < 440) (hc : cl ≤ 60) (ht : t < 128) (hs : st < 4) (hs0 : 0 < st) (e : ya_waits w = nI (fa_en cl t st))
    (H : ∀ post' : SY → Prop, (∀ u, (match u with | (yf_made, yf_depth, yf_waiting, yf_held, yf_called, yf_tired, ya_kinds, ya_parts, ya_numbers, ya_roots, ya_stack, ya_waits, ya_values, ya_firsts, ya_seconds, ya_counts) => wY_work_50 post n yf_made yf_depth yf_waiting yf_held yf_called yf_tired ya_kinds ya_parts ya_numbers ya_roots ya_stack ya_waits ya_values ya_firsts ya_seconds ya_counts) → post' u) → wpY_goOn post' (yf_made, yf_depth, nI w, yf_held, yf_called, 0, ya_kinds, ya_parts, ya_numbers, ya_roots, ya_stack, ya_waits, ya_values, ya_firsts, ya_seconds, ya_counts) (nI t) (nI st) (nI cl)) : wY_work_50 post (n + 1) yf_made yf_depth (nI (w + 1)) yf_held yf_called 0 ya_kinds ya_parts ya_numbers ya_roots ya_stack ya_waits ya_values ya_firsts ya_seconds ya_counts := by
  have iw : vp_in (nI w) 440 := vp_in_nI hw (by omega)
  have e' : ya_waits (nI w).toNatClampNeg = nI (fa_en cl t st) := (fa_ix (by omega)).trans e
  have r1 : ya_waits (nI w).toNatClampNeg - ya_waits (nI w).toNatClampNeg / 4 * 4 = nI st := by rw [e']; exact fa_en1 hc ht hs
  have r2 : ya_waits (nI w).toNatClampNeg / 4 - ya_waits (nI w).toNatClampNeg / 4 / 128 * 128 = nI t := by rw [e']; exact fa_en2 hc ht hs
  have r3 : ya_waits (nI w).toNatClampNeg / 512 = nI cl := by rw [e']; exact fa_en3 hc ht hs
  have q4 : ¬ (4 : Int32) = 0 := by decide
  have q128 : ¬ (128 : Int32) = 0 := by decide
  have q512 : ¬ (512 : Int32) = 0 := by decide
  rw [wY_work_50]
  refine br_f (nI_nle (by omega) (by omega)) (br_t rfl (nm_r (nI_pred w) (And.intro iw (And.intro q4 (nm_r r1 (And.intro iw (And.intro q4 (And.intro q128 (nm_r r2 (And.intro iw (And.intro q512 (nm_r r3 (br_f (nI_ne0 hs0 (by omega)) ?_)))))))))))))
  exact H _ (fun u hu => by obtain ⟨yf_made, yf_depth, yf_waiting, yf_held, yf_called, yf_tired, ya_kinds, ya_parts, ya_numbers, ya_roots, ya_stack, ya_waits, ya_values, ya_firsts, ya_seconds, ya_counts⟩ := u; exact hu)
end
end
section
/-! The reference's run gives a term's value -/
def yu_ki (u : SY) : Nat → Int32 := u.2.2.2.2.2.2.1
def yu_pt (u : SY) : Nat → Int32 := u.2.2.2.2.2.2.2.1
def yu_nu (u : SY) : Nat → Int32 := u.2.2.2.2.2.2.2.2.1
def yu_rt (u : SY) : Nat → Int32 := u.2.2.2.2.2.2.2.2.2.1
/-- waiting, held, called, tired, waits, values, firsts, seconds, counts -/
abbrev fa_YS : Type := Nat × Nat × Nat × Int32 × (Nat → Int32) × (Nat → Int32) × (Nat → Int32) × (Nat → Int32) × (Nat → Int32)
def fa_WY (post : Int32 → SY → Prop) (u : SY) (n : Nat) (s : fa_YS) : Prop := match u with
  | (yf_made, yf_depth, yf_waiting, yf_held, yf_called, yf_tired, ya_kinds, ya_parts, ya_numbers, ya_roots, ya_stack, ya_waits, ya_values, ya_firsts, ya_seconds, ya_counts) => match s with
    | (w1, h1, c1, t1, wa1, va1, fi1, se1, co1) => wY_work_50 post n yf_made yf_depth (nI w1) (nI h1) (nI c1) t1 ya_kinds ya_parts ya_numbers ya_roots ya_stack wa1 va1 fi1 se1 co1
def fa_GY (u : SY) (s s' : fa_YS) : Prop := ∃ k, ∀ post n, fa_WY post u n s' → fa_WY post u (n + k) s
theorem fa_GY_rf {u : SY} {s : fa_YS} : fa_GY u s s := ⟨0, fun _ _ h => h⟩
theorem fa_GY_tr {u : SY} {s1 s2 s3 : fa_YS} (h : fa_GY u s1 s2) (g : fa_GY u s2 s3) : fa_GY u s1 s3 := by
  obtain ⟨k1, h⟩ := h
  obtain ⟨k2, g⟩ := g
  refine ⟨k2 + k1, fun post n w => ?_⟩
  have w1 := h post (n + k2) (g post n w)
  rw [← Nat.add_assoc]; exact w1
section
variable {yf_made yf_depth yf_waiting yf_held yf_called yf_tired : Int32} {ya_kinds ya_parts ya_numbers ya_roots ya_stack ya_waits ya_values ya_firsts ya_seconds ya_counts : Nat → Int32}
variable {w1 h1 c1 w2 h2 c2 : Nat} {t2 : Int32} {wa1 va1 fi1 se1 co1 wa2 va2 fi2 se2 co2 : Nat → Int32}
theorem gy_0 {cl t : Nat} (hw : w1 < 440) (hc : cl ≤ 60) (ht : t < 70) (e : wa1 w1 = nI (fa_en cl t 0))
    (H : ∀ post' : SY → Prop, post' (yf_made, yf_depth, nI w2, nI h2, nI c2, t2, ya_kinds, ya_parts, ya_numbers, ya_roots, ya_stack, wa2, va2, fi2, se2, co2) → wpY_begin post' (yf_made, yf_depth, nI w1, nI h1, nI c1, 0, ya_kinds, ya_parts, ya_numbers, ya_roots, ya_stack, wa1, va1, fi1, se1, co1) (nI t) (nI cl)) :
    fa_GY (yf_made, yf_depth, yf_waiting, yf_held, yf_called, yf_tired, ya_kinds, ya_parts, ya_numbers, ya_roots, ya_stack, ya_waits, ya_values, ya_firsts, ya_seconds, ya_counts) (w1 + 1, h1, c1, 0, wa1, va1, fi1, se1, co1) (w2, h2, c2, t2, wa2, va2, fi2, se2, co2) :=
  ⟨1, fun post n hn => yw_0 hw hc (by omega) e (fun post' hp => H post' (hp _ hn))⟩
theorem gy_1 {cl t st : Nat} (hw : w1 < 440) (hc : cl ≤ 60) (ht : t < 70) (hs : st < 4) (hs0 : 0 < st) (e : wa1 w1 = nI (fa_en cl t st))
    (H : ∀ post' : SY → Prop, post' (yf_made, yf_depth, nI w2, nI h2, nI c2, t2, ya_kinds, ya_parts, ya_numbers, ya_roots, ya_stack, wa2, va2, fi2, se2, co2) → wpY_goOn post' (yf_made, yf_depth, nI w1, nI h1, nI c1, 0, ya_kinds, ya_parts, ya_numbers, ya_roots, ya_stack, wa1, va1, fi1, se1, co1) (nI t) (nI st) (nI cl)) :
    fa_GY (yf_made, yf_depth, yf_waiting, yf_held, yf_called, yf_tired, ya_kinds, ya_parts, ya_numbers, ya_roots, ya_stack, ya_waits, ya_values, ya_firsts, ya_seconds, ya_counts) (w1 + 1, h1, c1, 0, wa1, va1, fi1, se1, co1) (w2, h2, c2, t2, wa2, va2, fi2, se2, co2) :=
  ⟨1, fun post n hn => yw_1 hw hc (by omega) hs hs0 e (fun post' hp => H post' (hp _ hn))⟩
end
section
variable {u : SY} {w h c cl t : Nat} {wa va fi se co : Nat → Int32}
theorem gy_9 (hw : w < 440) (hc : cl ≤ 60) (ht : t < 70) (hh : h < 440) (e : wa w = nI (fa_en cl t 0)) (ek : yu_ki u t = 9) :
    fa_GY u (w + 1, h, c, 0, wa, va, fi, se, co) (w, h + 1, c, 0, wa, upd va h (yu_nu u t), fi, se, co) := by
  obtain ⟨yf_made, yf_depth, yf_waiting, yf_held, yf_called, yf_tired, ya_kinds, ya_parts, ya_numbers, ya_roots, ya_stack, ya_waits, ya_values, ya_firsts, ya_seconds, ya_counts⟩ := u
  exact gy_0 hw hc ht e (fun post' H => yb_9 ht hh ek H)
theorem gy_10 {x : Int32} (hw : w < 440) (hc : cl ≤ 60) (ht : t < 70) (hh : h < 440) (e : wa w = nI (fa_en cl t 0)) (ek : yu_ki u t = 10) (x0 : yu_nu u t = 0 → x = fi cl) (x1 : ¬ yu_nu u t = 0 → x = se cl) :
    fa_GY u (w + 1, h, c, 0, wa, va, fi, se, co) (w, h + 1, c, 0, wa, upd va h x, fi, se, co) := by
  obtain ⟨yf_made, yf_depth, yf_waiting, yf_held, yf_called, yf_tired, ya_kinds, ya_parts, ya_numbers, ya_roots, ya_stack, ya_waits, ya_values, ya_firsts, ya_seconds, ya_counts⟩ := u
  exact gy_0 hw hc ht e (fun post' H => yb_10 ht hh (by omega) ek x0 x1 H)
theorem gy_w {kd pa : Nat} (hw : w + 1 < 440) (hc : cl ≤ 60) (ht : t < 70) (e : wa w = nI (fa_en cl t 0)) (ek : yu_ki u t = nI kd) (hk : kd ≤ 8) (ea : yu_pt u (3 * t) = nI pa) :
    fa_GY u (w + 1, h, c, 0, wa, va, fi, se, co) (w + 2, h, c, 0, upd (upd wa w (nI (fa_en cl t 1))) (w + 1) (nI (fa_en cl pa 0)), va, fi, se, co) := by
  obtain ⟨yf_made, yf_depth, yf_waiting, yf_held, yf_called, yf_tired, ya_kinds, ya_parts, ya_numbers, ya_roots, ya_stack, ya_waits, ya_values, ya_firsts, ya_seconds, ya_counts⟩ := u
  exact gy_0 (by omega) hc ht e (fun post' H => yb_w ht hw ek hk ea H)
theorem gy_8 {pd : Nat} (hw : w < 440) (hc : cl ≤ 60) (ht : t < 70) (hh : h < 440) (e : wa w = nI (fa_en cl t 1)) (ek : yu_ki u t = 8) (ec : va h = 0 → yu_pt u (3 * t + 2) = nI pd) (eb : ¬ va h = 0 → yu_pt u (3 * t + 1) = nI pd) :
    fa_GY u (w + 1, h + 1, c, 0, wa, va, fi, se, co) (w + 1, h, c, 0, upd wa w (nI (fa_en cl pd 0)), va, fi, se, co) := by
  obtain ⟨yf_made, yf_depth, yf_waiting, yf_held, yf_called, yf_tired, ya_kinds, ya_parts, ya_numbers, ya_roots, ya_stack, ya_waits, ya_values, ya_firsts, ya_seconds, ya_counts⟩ := u
  exact gy_1 hw hc ht (by omega) (by omega) e (fun post' H => yg_8 ht hw hh ek ec eb H)
theorem gy_b {kd pb : Nat} (hw : w + 1 < 440) (hc : cl ≤ 60) (ht : t < 70) (e : wa w = nI (fa_en cl t 1)) (ek : yu_ki u t = nI kd) (hk : kd < 8) (eb : yu_pt u (3 * t + 1) = nI pb) :
    fa_GY u (w + 1, h, c, 0, wa, va, fi, se, co) (w + 2, h, c, 0, upd (upd wa w (nI (fa_en cl t 2))) (w + 1) (nI (fa_en cl pb 0)), va, fi, se, co) := by
  obtain ⟨yf_made, yf_depth, yf_waiting, yf_held, yf_called, yf_tired, ya_kinds, ya_parts, ya_numbers, ya_roots, ya_stack, ya_waits, ya_values, ya_firsts, ya_seconds, ya_counts⟩ := u
  exact gy_1 (by omega) hc ht (by omega) (by omega) e (fun post' H => yg_1 ht hw ek hk eb H)
theorem gy_op {kd : Nat} (hw : w < 440) (hc : cl ≤ 60) (ht : t < 70) (hh : h + 1 < 440) (e : wa w = nI (fa_en cl t 2)) (ek : yu_ki u t = nI kd) (hk : kd < 4) :
    fa_GY u (w + 1, h + 2, c, 0, wa, va, fi, se, co) (w, h + 1, c, 0, wa, upd va h (fa_cmb kd (va h) (va (h + 1))), fi, se, co) := by
  obtain ⟨yf_made, yf_depth, yf_waiting, yf_held, yf_called, yf_tired, ya_kinds, ya_parts, ya_numbers, ya_roots, ya_stack, ya_waits, ya_values, ya_firsts, ya_seconds, ya_counts⟩ := u
  exact gy_1 hw hc ht (by omega) (by omega) e (fun post' H => yg_op ht hh ek hk H)
theorem gy_c60 {kd : Nat} (hw : w < 440) (hc : cl ≤ 60) (ht : t < 70) (hh : h + 1 < 440) (e : wa w = nI (fa_en cl t 2)) (ek : yu_ki u t = nI kd) (h4 : 4 ≤ kd) (h8 : kd < 8) :
    fa_GY u (w + 1, h + 2, 60, 0, wa, va, fi, se, co) (w, h, 60, 1, wa, va, fi, se, co) := by
  obtain ⟨yf_made, yf_depth, yf_waiting, yf_held, yf_called, yf_tired, ya_kinds, ya_parts, ya_numbers, ya_roots, ya_stack, ya_waits, ya_values, ya_firsts, ya_seconds, ya_counts⟩ := u
  exact gy_1 hw hc ht (by omega) (by omega) e (fun post' H => yg_call ht hh ek h4 h8 (fun post2 hp => yc_60 (hp _ H)))
theorem gy_c {kd rt : Nat} (hw : w < 440) (hc : cl ≤ 60) (ht : t < 70) (hh : h + 1 < 440) (e : wa w = nI (fa_en cl t 2)) (ek : yu_ki u t = nI kd) (h4 : 4 ≤ kd) (h8 : kd < 8) (hcc : c < 60) (er : yu_rt u (kd - 4) = nI rt) :
    fa_GY u (w + 1, h + 2, c, 0, wa, va, fi, se, co) (w + 1, h, c + 1, 0, upd wa w (nI (fa_en c rt 0)), va, upd fi c (va h), upd se c (va (h + 1)), upd co (kd - 4) (co (kd - 4) + 1)) := by
  obtain ⟨yf_made, yf_depth, yf_waiting, yf_held, yf_called, yf_tired, ya_kinds, ya_parts, ya_numbers, ya_roots, ya_stack, ya_waits, ya_values, ya_firsts, ya_seconds, ya_counts⟩ := u
  exact gy_1 hw hc ht (by omega) (by omega) e (fun post' H => yg_call ht hh ek h4 h8 (fun post2 hp => yc_c hcc (by omega) hw er (hp _ H)))
end
/-- the program as it lies in the reference's arrays -/
def fa_PYR (P : fa_P) (ki pt nu rt : Nat → Int32) (f : Nat) : Prop := rt f = nI (14 * f + fa_rt P f) ∧ ∀ t, t ≤ fa_rt P f → ki (14 * f + t) = nI (fa_kd P f t) ∧ (fa_kd P f t = 9 ∨ fa_kd P f t = 10 → nu (14 * f + t) = fa_nm P f t) ∧
  (fa_kd P f t ≤ 8 → pt (3 * (14 * f + t)) = nI (14 * f + fa_pa P f t) ∧ pt (3 * (14 * f + t) + 1) = nI (14 * f + fa_pb P f t)) ∧ (fa_kd P f t = 8 → pt (3 * (14 * f + t) + 2) = nI (14 * f + fa_pc P f t))
def fa_PY (P : fa_P) (u : SY) : Prop := ∀ f, f < 4 → fa_PYR P (yu_ki u) (yu_pt u) (yu_nu u) (yu_rt u) f
def fa_YD (u : SY) (s0 : fa_YS) (w h c : Nat) (wa va fi se : Nat → Int32) (x : Int32) (s' : fa_S) : Prop :=
  ∃ wa' va' fi' se', fa_GY u s0 (w, h + 1, s'.1, 0, wa', va', fi', se', s'.2) ∧ va' h = x ∧ (∀ j, j < w → wa' j = wa j) ∧ (∀ j, j < h → va' j = va j) ∧ (∀ j, j < c → fi' j = fi j ∧ se' j = se j)
def fa_YI (u : SY) (s0 : fa_YS) (s' : fa_S) : Prop := ∃ w' h' wa' va' fi' se', fa_GY u s0 (w', h', s'.1, 1, wa', va', fi', se', s'.2)
def fa_YO (u : SY) (r : fa_R) (s0 : fa_YS) (w h c : Nat) (wa va fi se : Nat → Int32) : Prop :=
  (∀ x s', r = (some x, s') → fa_YD u s0 w h c wa va fi se x s') ∧ (∀ s', r = (none, s') → fa_YI u s0 s')
theorem fa_YIp {u : SY} {s0 s1 : fa_YS} {s' : fa_S} (g : fa_GY u s0 s1) (h : fa_YI u s1 s') : fa_YI u s0 s' := by
  obtain ⟨w', h', wa', va', fi', se', g2⟩ := h
  exact ⟨w', h', wa', va', fi', se', fa_GY_tr g g2⟩
theorem fa_YDp {u : SY} {s0 s1 : fa_YS} {w h c c1 : Nat} {wa va fi se wa1 va1 fi1 se1 : Nat → Int32} {x : Int32} {s' : fa_S} (g : fa_GY u s0 s1) (H : fa_YD u s1 w h c1 wa1 va1 fi1 se1 x s')
    (hw : ∀ j, j < w → wa1 j = wa j) (hv : ∀ j, j < h → va1 j = va j) (hc : c ≤ c1) (hf : ∀ j, j < c → fi1 j = fi j ∧ se1 j = se j) : fa_YD u s0 w h c wa va fi se x s' := by
  obtain ⟨wa', va', fi', se', g2, hx, h1, h2, h3⟩ := H
  refine ⟨wa', va', fi', se', fa_GY_tr g g2, hx, fun j hj => (h1 j hj).trans (hw j hj), fun j hj => (h2 j hj).trans (hv j hj), fun j hj => ?_⟩
  have y := h3 j (by omega)
  have y2 := hf j hj
  exact ⟨y.1.trans y2.1, y.2.trans y2.2⟩
theorem fa_YOs {u : SY} {r : fa_R} {s0 : fa_YS} {w h c : Nat} {wa va fi se : Nat → Int32} {x : Int32} {s' : fa_S} (e : r = (some x, s')) (H : fa_YD u s0 w h c wa va fi se x s') : fa_YO u r s0 w h c wa va fi se := by
  subst e
  refine ⟨fun x2 s2 e2 => ?_, fun s2 e2 => nomatch e2⟩
  cases e2; exact H
theorem fa_YOn {u : SY} {r : fa_R} {s0 : fa_YS} {w h c : Nat} {wa va fi se : Nat → Int32} {s' : fa_S} (e : r = (none, s')) (H : fa_YI u s0 s') : fa_YO u r s0 w h c wa va fi se := by
  subst e
  refine ⟨fun x2 s2 e2 => (by cases e2), fun s2 e2 => ?_⟩
  cases e2; exact H
def fa_YC (u : SY) (P : fa_P) (d : Nat) (C : Nat → Int32 → Int32 → fa_S → fa_R) : Prop :=
  ∀ (g w h c : Nat) (x y : Int32) (wa va fi se co : Nat → Int32) (s0 : fa_YS), g < 4 → h ≤ w → 2 * w + 14 * (60 - c) + 5 ≤ 880 → c ≤ 60 → 61 ≤ c + d →
    (c = 60 → fa_GY u s0 (w, h, 60, 1, wa, va, fi, se, co)) →
    (c < 60 → fa_GY u s0 (w + 1, h, c + 1, 0, upd wa w (nI (fa_en c (14 * g + fa_rt P g) 0)), va, upd fi c x, upd se c y, upd co g (co g + 1))) →
    fa_YO u (C g x y (c, co)) s0 w h c wa va fi se
theorem yr_term {u : SY} {P : fa_P} {d : Nat} {C : Nat → Int32 → Int32 → fa_S → fa_R} {f : Nat} {a b : Int32} (hP : fa_PW P) (hU : fa_PY P u) (hOK : fa_OKC C) (hC : fa_YC u P d C) (hf : f < 4) :
    ∀ (n t w h c cl : Nat) (wa va fi se co : Nat → Int32), t < n → t ≤ fa_rt P f → cl < c → c ≤ 60 → 61 ≤ c + d → fi cl = a → se cl = b → wa w = nI (fa_en cl (14 * f + t) 0) → h ≤ w →
      2 * w + fa_sz P f t + 14 * (60 - c) + 2 ≤ 880 →
      fa_YO u (fa_evT P C f a b n t (c, co)) (w + 1, h, c, 0, wa, va, fi, se, co) w h c wa va fi se := by
  have hrt := (hP f hf).1
  intro n
  induction n with
  | zero => intro t w h c cl wa va fi se co hn; omega
  | succ n ih =>
    intro t w h c cl wa va fi se co hn ht hcl hc hd hfi hse hwa hh hb
    have hw := (hP f hf).2.2 t ht
    have hz := fa_sz1 hw
    obtain ⟨u1, u2, u3, u4⟩ := (hU f hf).2 t ht
    have h70 : 14 * f + t < 70 := by omega
    rcases hw with hw | hw | hw | hw
    · have ek : yu_ki u (14 * f + t) = 9 := by rw [u1, hw.1]; rfl
      have en := u2 (Or.inl hw.1)
      clear u2 u3 u4
      have g := gy_9 (u := u) (w := w) (h := h) (c := c) (wa := wa) (va := va) (fi := fi) (se := se) (co := co) (by omega) (by omega) h70 (by omega) hwa ek
      rw [en] at g
      exact fa_YOs (fa_ev9 hw.1) ⟨wa, _, fi, se, g, pk_us, fun _ _ => rfl, fun j hj => pk_un (by omega), fun _ _ => ⟨rfl, rfl⟩⟩
    · have ek : yu_ki u (14 * f + t) = 10 := by rw [u1, hw.1]; rfl
      have en := u2 (Or.inr hw.1)
      clear u2 u3 u4
      have g := gy_10 (u := u) (w := w) (h := h) (c := c) (wa := wa) (va := va) (fi := fi) (se := se) (co := co) (x := if fa_nm P f t = 0 then a else b) (by omega) (by omega) h70 (by omega) hwa ek
        (fun z => by rw [en] at z; rw [if_pos z, hfi]) (fun z => by rw [en] at z; rw [if_neg z, hse])
      exact fa_YOs (fa_ev10 hw.1) ⟨wa, _, fi, se, g, pk_us, fun _ _ => rfl, fun j hj => pk_un (by omega), fun _ _ => ⟨rfl, rfl⟩⟩
    · obtain ⟨eA, eB⟩ := u3 (by omega)
      clear u2 u3 u4
      have szA := fa_sz1 ((hP f hf).2.2 (fa_pa P f t) (by omega))
      have szB := fa_sz1 ((hP f hf).2.2 (fa_pb P f t) (by omega))
      have mA := fa_mnT hP hOK hf (a := a) (b := b) n (fa_pa P f t) (c, co) (by omega) hc
      have g1 := gy_w (u := u) (w := w) (h := h) (c := c) (wa := wa) (va := va) (fi := fi) (se := se) (co := co) (by omega) (by omega) h70 hwa u1 (by omega) eA
      have hA := ih (fa_pa P f t) (w + 1) h c cl (upd (upd wa w (nI (fa_en cl (14 * f + t) 1))) (w + 1) (nI (fa_en cl (14 * f + fa_pa P f t) 0))) va fi se co (by omega) (by omega) hcl hc hd hfi hse pk_us (by omega) (by omega)
      have ev : ∃ G : Int32 → Int32 → fa_S → fa_R, fa_evT P C f a b (n + 1) t (c, co) = fa_bd (fa_evT P C f a b n (fa_pa P f t) (c, co)) (fun x s1 => fa_bd (fa_evT P C f a b n (fa_pb P f t) s1) (fun y s2 => G x y s2)) ∧
          (fa_kd P f t < 4 → ∀ x y s2, G x y s2 = (some (fa_cmb (fa_kd P f t) x y), s2)) ∧ (¬ fa_kd P f t < 4 → ∀ x y s2, G x y s2 = C (fa_kd P f t - 4) x y s2) := by
        by_cases h4 : fa_kd P f t < 4
        · exact ⟨_, fa_ev4 h4, fun _ _ _ _ => rfl, fun z => absurd h4 z⟩
        · exact ⟨_, fa_ev7 (Nat.le_of_not_lt h4) hw.1, fun z => absurd z h4, fun _ _ _ _ => rfl⟩
      obtain ⟨G, eG, G4, G7⟩ := ev
      rw [eG]
      clear eG
      rcases fa_rc (fa_evT P C f a b n (fa_pa P f t) (c, co)) with ⟨s1, eA1⟩ | ⟨xA, s1, eA1⟩
      · exact fa_YOn (fa_bdN eA1) (fa_YIp g1 (hA.2 s1 eA1))
      · rw [fa_bdS eA1]
        rw [eA1] at mA
        have m1 : c ≤ s1.1 := mA.1
        have m1' : s1.1 ≤ 60 := mA.2.1
        obtain ⟨wa2, va2, fi2, se2, g2, hx2, hw2, hv2, hf2⟩ := hA.1 xA s1 eA1
        have e2 : wa2 w = nI (fa_en cl (14 * f + t) 1) := (hw2 w (by omega)).trans ((pk_un (by omega)).trans pk_us)
        have g3 := gy_b (u := u) (w := w) (h := h + 1) (c := s1.1) (wa := wa2) (va := va2) (fi := fi2) (se := se2) (co := s1.2) (by omega) (by omega) h70 e2 u1 hw.1 eB
        have hB := ih (fa_pb P f t) (w + 1) (h + 1) s1.1 cl (upd (upd wa2 w (nI (fa_en cl (14 * f + t) 2))) (w + 1) (nI (fa_en cl (14 * f + fa_pb P f t) 0))) va2 fi2 se2 s1.2 (by omega) (by omega) (by omega) m1' (by omega) ((hf2 cl hcl).1.trans hfi) ((hf2 cl hcl).2.trans hse) pk_us (by omega) (by omega)
        have mB := fa_mnT hP hOK hf (a := a) (b := b) n (fa_pb P f t) s1 (by omega) m1'
        have g13 := fa_GY_tr (fa_GY_tr g1 g2) g3
        rcases fa_rc (fa_evT P C f a b n (fa_pb P f t) s1) with ⟨s2, eB1⟩ | ⟨xB, s2, eB1⟩
        · exact fa_YOn (fa_bdN eB1) (fa_YIp g13 (hB.2 s2 eB1))
        · rw [fa_bdS eB1]
          rw [eB1] at mB
          have m2 : s1.1 ≤ s2.1 := mB.1
          have m2' : s2.1 ≤ 60 := mB.2.1
          obtain ⟨wa4, va4, fi4, se4, g4, hx4, hw4, hv4, hf4⟩ := hB.1 xB s2 eB1
          have e4 : wa4 w = nI (fa_en cl (14 * f + t) 2) := (hw4 w (by omega)).trans ((pk_un (by omega)).trans pk_us)
          have aw : ∀ j, j < w → wa4 j = wa j := fun j hj => by
            rw [hw4 j (by omega), pk_un (by omega), pk_un (by omega), hw2 j (by omega), pk_un (by omega), pk_un (by omega)]
          have av : ∀ j, j < h → va4 j = va j := fun j hj => (hv4 j (by omega)).trans (hv2 j hj)
          have af : ∀ j, j < c → fi4 j = fi j ∧ se4 j = se j := fun j hj => by
            have y := hf4 j (by omega)
            have y2 := hf2 j hj
            exact ⟨y.1.trans y2.1, y.2.trans y2.2⟩
          have vA : va4 h = xA := (hv4 h (by omega)).trans hx2
          have g14 := fa_GY_tr g13 g4
          by_cases h4 : fa_kd P f t < 4
          · rw [G4 h4]
            have g5 := gy_op (u := u) (w := w) (h := h) (c := s2.1) (wa := wa4) (va := va4) (fi := fi4) (se := se4) (co := s2.2) (by omega) (by omega) h70 (by omega) e4 u1 h4
            rw [vA, hx4] at g5
            exact fa_YOs rfl ⟨wa4, _, fi4, se4, fa_GY_tr g14 g5, pk_us, aw, fun j hj => (pk_un (by omega)).trans (av j hj), af⟩
          · rw [G7 h4]
            have hg : fa_kd P f t - 4 < 4 := by omega
            have hcall := hC (fa_kd P f t - 4) w h s2.1 xA xB wa4 va4 fi4 se4 s2.2 (w + 1, h, c, 0, wa, va, fi, se, co) hg (by omega) (by omega) m2' (by omega)
              (fun z => by
                have g5 := gy_c60 (u := u) (w := w) (h := h) (wa := wa4) (va := va4) (fi := fi4) (se := se4) (co := s2.2) (by omega) (by omega) h70 (by omega) e4 u1 (by omega) hw.1
                rw [z] at g14; exact fa_GY_tr g14 g5)
              (fun z => by
                have g5 := gy_c (u := u) (w := w) (h := h) (c := s2.1) (wa := wa4) (va := va4) (fi := fi4) (se := se4) (co := s2.2) (by omega) (by omega) h70 (by omega) e4 u1 (by omega) hw.1 z (hU (fa_kd P f t - 4) hg).1
                rw [vA, hx4] at g5; exact fa_GY_tr g14 g5)
            rcases fa_rc (C (fa_kd P f t - 4) xA xB s2) with ⟨s3, eC⟩ | ⟨xC, s3, eC⟩
            · exact fa_YOn eC (hcall.2 s3 eC)
            · exact fa_YOs eC (fa_YDp fa_GY_rf (hcall.1 xC s3 eC) aw av (by omega) af)
    · obtain ⟨eA, eB⟩ := u3 (by omega)
      have eC := u4 hw.1
      have ek : yu_ki u (14 * f + t) = 8 := by rw [u1, hw.1]; rfl
      clear u2 u3 u4
      have szA := fa_sz1 ((hP f hf).2.2 (fa_pa P f t) (by omega))
      have szB := fa_sz1 ((hP f hf).2.2 (fa_pb P f t) (by omega))
      have szC := fa_sz1 ((hP f hf).2.2 (fa_pc P f t) (by omega))
      have mA := fa_mnT hP hOK hf (a := a) (b := b) n (fa_pa P f t) (c, co) (by omega) hc
      have g1 := gy_w (u := u) (w := w) (h := h) (c := c) (wa := wa) (va := va) (fi := fi) (se := se) (co := co) (by omega) (by omega) h70 hwa u1 (by omega) eA
      have hA := ih (fa_pa P f t) (w + 1) h c cl (upd (upd wa w (nI (fa_en cl (14 * f + t) 1))) (w + 1) (nI (fa_en cl (14 * f + fa_pa P f t) 0))) va fi se co (by omega) (by omega) hcl hc hd hfi hse pk_us (by omega) (by omega)
      rw [fa_ev8 hw.1]
      rcases fa_rc (fa_evT P C f a b n (fa_pa P f t) (c, co)) with ⟨s1, eA1⟩ | ⟨xA, s1, eA1⟩
      · exact fa_YOn (fa_bdN eA1) (fa_YIp g1 (hA.2 s1 eA1))
      · rw [fa_bdS eA1]
        rw [eA1] at mA
        have m1 : c ≤ s1.1 := mA.1
        have m1' : s1.1 ≤ 60 := mA.2.1
        obtain ⟨wa2, va2, fi2, se2, g2, hx2, hw2, hv2, hf2⟩ := hA.1 xA s1 eA1
        have e2 : wa2 w = nI (fa_en cl (14 * f + t) 1) := (hw2 w (by omega)).trans ((pk_un (by omega)).trans pk_us)
        have hs : fa_sd P f t xA < t := by unfold fa_sd; split <;> omega
        have hs2 : fa_sz P f (fa_sd P f t xA) ≤ fa_sz P f t := by unfold fa_sd; split <;> omega
        have edC : va2 h = 0 → yu_pt u (3 * (14 * f + t) + 2) = nI (14 * f + fa_sd P f t xA) := by
          intro z; rw [eC]; unfold fa_sd; rw [if_pos (hx2.symm.trans z)]
        have edB : ¬ va2 h = 0 → yu_pt u (3 * (14 * f + t) + 1) = nI (14 * f + fa_sd P f t xA) := by
          intro z; rw [eB]; unfold fa_sd; rw [if_neg (fun y => z (hx2.trans y))]
        have g3 := gy_8 (u := u) (w := w) (h := h) (c := s1.1) (wa := wa2) (va := va2) (fi := fi2) (se := se2) (co := s1.2) (by omega) (by omega) h70 (by omega) e2 ek edC edB
        have hS := ih (fa_sd P f t xA) w h s1.1 cl (upd wa2 w (nI (fa_en cl (14 * f + fa_sd P f t xA) 0))) va2 fi2 se2 s1.2 (by omega) (by omega) (by omega) m1' (by omega) ((hf2 cl hcl).1.trans hfi) ((hf2 cl hcl).2.trans hse) pk_us hh (by omega)
        have g13 := fa_GY_tr (fa_GY_tr g1 g2) g3
        have aw : ∀ j, j < w → upd wa2 w (nI (fa_en cl (14 * f + fa_sd P f t xA) 0)) j = wa j := fun j hj => by
          rw [pk_un (by omega), hw2 j (by omega), pk_un (by omega), pk_un (by omega)]
        rcases fa_rc (fa_evT P C f a b n (fa_sd P f t xA) s1) with ⟨s2, eS⟩ | ⟨xS, s2, eS⟩
        · exact fa_YOn eS (fa_YIp g13 (hS.2 s2 eS))
        · exact fa_YOs eS (fa_YDp g13 (hS.1 xS s2 eS) aw hv2 m1 hf2)
theorem yr_call {u : SY} {P : fa_P} (hP : fa_PW P) (hU : fa_PY P u) : ∀ d, fa_YC u P d (fa_evC P d) := by
  intro d
  induction d with
  | zero => intro g w h c x y wa va fi se co s0 _ _ _ hc hd; omega
  | succ d ih =>
    intro g w h c x y wa va fi se co s0 hg hh hb hc hd g60 gc
    by_cases h60 : c = 60
    · subst h60
      have e : fa_evC P (d + 1) g x y (60, co) = (none, (60, co)) := by
        rw [fa_evC]; exact if_pos rfl
      exact fa_YOn e ⟨_, _, _, _, _, _, g60 rfl⟩
    · have e : fa_evC P (d + 1) g x y (c, co) = fa_evT P (fa_evC P d) g x y 14 (fa_rt P g) (c + 1, upd co g (co g + 1)) := if_neg h60
      rw [e]
      obtain ⟨hr1, hr2, hr3⟩ := hP g hg
      have gs := gc (by omega)
      have hT := yr_term hP hU (fa_mnC hP d) ih hg 14 (fa_rt P g) w h (c + 1) c (upd wa w (nI (fa_en c (14 * g + fa_rt P g) 0))) va (upd fi c x) (upd se c y) (upd co g (co g + 1)) hr1 (Nat.le_refl _) (by omega) (by omega) (by omega) pk_us pk_us pk_us hh (by omega)
      rcases fa_rc (fa_evT P (fa_evC P d) g x y 14 (fa_rt P g) (c + 1, upd co g (co g + 1))) with ⟨s1, eT⟩ | ⟨xT, s1, eT⟩
      · exact fa_YOn eT (fa_YIp gs (hT.2 s1 eT))
      · exact fa_YOs eT (fa_YDp gs (hT.1 xT s1 eT) (fun j hj => pk_un (by omega)) (fun _ _ => rfl) (by omega) (fun j hj => ⟨pk_un (by omega), pk_un (by omega)⟩))
end
section
/-! work -/
section
variable {yf_made yf_depth yf_waiting yf_held yf_called yf_tired : Int32} {ya_kinds ya_parts ya_numbers ya_roots ya_stack ya_waits ya_values ya_firsts ya_seconds ya_counts : Nat → Int32}
theorem yk_148a {post : Int32 → SY → Prop} (H : post (ya_values 0) (yf_made, yf_depth, yf_waiting, yf_held, yf_called, 0, ya_kinds, ya_parts, ya_numbers, ya_roots, ya_stack, ya_waits, ya_values, ya_firsts, ya_seconds, ya_counts)) : wY_work_148 post yf_made yf_depth yf_waiting yf_held yf_called 0 ya_kinds ya_parts ya_numbers ya_roots ya_stack ya_waits ya_values ya_firsts ya_seconds ya_counts := by
  unfold wY_work_148
  exact br_t rfl H
theorem yk_148b {post : Int32 → SY → Prop} (H : post 0 (yf_made, yf_depth, yf_waiting, yf_held, yf_called, 1, ya_kinds, ya_parts, ya_numbers, ya_roots, ya_stack, ya_waits, ya_values, ya_firsts, ya_seconds, ya_counts)) : wY_work_148 post yf_made yf_depth yf_waiting yf_held yf_called 1 ya_kinds ya_parts ya_numbers ya_roots ya_stack ya_waits ya_values ya_firsts ya_seconds ya_counts := by
  unfold wY_work_148
  exact br_f (by decide) H
theorem yk_50x {post : Int32 → SY → Prop} {P : fa_P} {f : Nat} {a b : Int32} (hP : fa_PW P) (hf : f < 4) (hU : fa_PY P (yf_made, yf_depth, yf_waiting, yf_held, yf_called, yf_tired, ya_kinds, ya_parts, ya_numbers, ya_roots, ya_stack, ya_waits, ya_values, ya_firsts, ya_seconds, ya_counts))
    (H0 : ∀ x s', fa_evC P 61 f a b (0, fun _ => 0) = (some x, s') → ∀ y_w y_h y_wa y_va y_fi y_se, post x (yf_made, yf_depth, y_w, y_h, nI s'.1, 0, ya_kinds, ya_parts, ya_numbers, ya_roots, ya_stack, y_wa, y_va, y_fi, y_se, s'.2))
    (H1 : ∀ s', fa_evC P 61 f a b (0, fun _ => 0) = (none, s') → ∀ y_w y_h y_wa y_va y_fi y_se, post 0 (yf_made, yf_depth, y_w, y_h, nI s'.1, 1, ya_kinds, ya_parts, ya_numbers, ya_roots, ya_stack, y_wa, y_va, y_fi, y_se, s'.2)) :
    ∃ n50, wY_work_50 post n50 yf_made yf_depth (nI 1) (nI 0) (nI 1) 0 ya_kinds ya_parts ya_numbers ya_roots ya_stack (upd ya_waits 0 (nI (fa_en 0 (14 * f + fa_rt P f) 0))) ya_values (upd ya_firsts 0 a) (upd ya_seconds 0 b) (upd (fun _ => 0) f (0 + 1)) := by
  obtain ⟨hr1, hr2, hr3⟩ := hP f hf
  have e1 : fa_evC P 61 f a b (0, fun _ => 0) = fa_evT P (fa_evC P 60) f a b 14 (fa_rt P f) (1, upd (fun _ => 0) f (0 + 1)) := by
    rw [fa_evC]; exact if_neg (by decide)
  rw [e1] at H0 H1
  have hT := yr_term (a := a) (b := b) hP hU (fa_mnC hP 60) (yr_call hP hU 60) hf 14 (fa_rt P f) 0 0 1 0 (upd ya_waits 0 (nI (fa_en 0 (14 * f + fa_rt P f) 0))) ya_values (upd ya_firsts 0 a) (upd ya_seconds 0 b) (upd (fun _ => 0) f (0 + 1)) hr1 (Nat.le_refl _) (by omega) (by omega) (by omega) pk_us pk_us pk_us (by omega) (by omega)
  rcases fa_rc (fa_evT P (fa_evC P 60) f a b 14 (fa_rt P f) (1, upd (fun _ => 0) f (0 + 1))) with ⟨s1, eT⟩ | ⟨xT, s1, eT⟩
  · obtain ⟨w', h', wa', va', fi', se', k, g⟩ := hT.2 s1 eT
    refine ⟨1 + k, g post 1 ?_⟩
    show wY_work_50 post 1 yf_made yf_depth (nI w') (nI h') (nI s1.1) 1 ya_kinds ya_parts ya_numbers ya_roots ya_stack wa' va' fi' se' s1.2
    exact br_c (fun _ => yk_148b (H1 s1 eT _ _ _ _ _ _)) (fun _ => br_f (by decide) (yk_148b (H1 s1 eT _ _ _ _ _ _)))
  · obtain ⟨wa', va', fi', se', ⟨k, g⟩, hx, _, _, _⟩ := hT.1 xT s1 eT
    refine ⟨1 + k, g post 1 ?_⟩
    show wY_work_50 post 1 yf_made yf_depth (nI 0) (nI (0 + 1)) (nI s1.1) 0 ya_kinds ya_parts ya_numbers ya_roots ya_stack wa' va' fi' se' s1.2
    exact br_t (by decide) (yk_148a (by rw [hx]; exact H0 xT s1 eT _ _ _ _ _ _))
theorem yk_23 {post : Int32 → SY → Prop} {P : fa_P} {f : Nat} {a b : Int32} (hP : fa_PW P) (hf : f < 4) (hU : fa_PY P (yf_made, yf_depth, yf_waiting, yf_held, yf_called, yf_tired, ya_kinds, ya_parts, ya_numbers, ya_roots, ya_stack, ya_waits, ya_values, ya_firsts, ya_seconds, ya_counts))
    (H0 : ∀ x s', fa_evC P 61 f a b (0, fun _ => 0) = (some x, s') → ∀ y_w y_h y_wa y_va y_fi y_se, post x (yf_made, yf_depth, y_w, y_h, nI s'.1, 0, ya_kinds, ya_parts, ya_numbers, ya_roots, ya_stack, y_wa, y_va, y_fi, y_se, s'.2))
    (H1 : ∀ s', fa_evC P 61 f a b (0, fun _ => 0) = (none, s') → ∀ y_w y_h y_wa y_va y_fi y_se, post 0 (yf_made, yf_depth, y_w, y_h, nI s'.1, 1, ya_kinds, ya_parts, ya_numbers, ya_roots, ya_stack, y_wa, y_va, y_fi, y_se, s'.2)) :
    ∀ k i co, i + k = 4 → (∀ j, j < i ∨ 4 ≤ j → co j = 0) → wY_work_23 post (nI f) a b yf_made yf_depth (nI 0) (nI 0) (nI 0) 0 (k + 1) (nI i) ya_kinds ya_parts ya_numbers ya_roots ya_stack ya_waits ya_values ya_firsts ya_seconds co := by
  have er : ya_roots f = nI (14 * f + fa_rt P f) := (hU f hf).1
  intro k
  induction k with
  | zero =>
    intro i co hi hI
    have e : i = 4 := hi
    subst e
    have ec : co = fun _ => 0 := funext (fun j => hI j (by omega))
    subst ec
    rw [wY_work_23]
    exact br_t (by decide) (yc_c (w := 0) (c := 0) (by omega) hf (by omega) er (yk_50x hP hf hU H0 H1))
  | succ k ih =>
    intro i co hi hI
    rw [wY_work_23]
    refine br_f (nI_ge (b := 4) (by omega) (by omega)) (And.intro (vp_in_nI (by omega) (by omega)) (nm_r (fa_ux (by omega)) (nm_r (nI_1 i) (ih (i + 1) _ (by omega) (fun j hj => ?_)))))
    by_cases z : j = i
    · subst z; exact pk_us
    · exact (pk_un z).trans (hI j (by omega))
theorem yk_work {post : Int32 → SY → Prop} {P : fa_P} {f : Nat} {a b : Int32} (hP : fa_PW P) (hf : f < 4) (hU : fa_PY P (yf_made, yf_depth, yf_waiting, yf_held, yf_called, yf_tired, ya_kinds, ya_parts, ya_numbers, ya_roots, ya_stack, ya_waits, ya_values, ya_firsts, ya_seconds, ya_counts)) (hco : ∀ j, 4 ≤ j → ya_counts j = 0)
    (H0 : ∀ x s', fa_evC P 61 f a b (0, fun _ => 0) = (some x, s') → ∀ y_w y_h y_wa y_va y_fi y_se, post x (yf_made, yf_depth, y_w, y_h, nI s'.1, 0, ya_kinds, ya_parts, ya_numbers, ya_roots, ya_stack, y_wa, y_va, y_fi, y_se, s'.2))
    (H1 : ∀ s', fa_evC P 61 f a b (0, fun _ => 0) = (none, s') → ∀ y_w y_h y_wa y_va y_fi y_se, post 0 (yf_made, yf_depth, y_w, y_h, nI s'.1, 1, ya_kinds, ya_parts, ya_numbers, ya_roots, ya_stack, y_wa, y_va, y_fi, y_se, s'.2)) :
    wpY_work post (yf_made, yf_depth, yf_waiting, yf_held, yf_called, yf_tired, ya_kinds, ya_parts, ya_numbers, ya_roots, ya_stack, ya_waits, ya_values, ya_firsts, ya_seconds, ya_counts) (nI f) a b :=
  ⟨4 + 1, yk_23 hP hf hU H0 H1 4 0 ya_counts rfl (fun j hj => hco j (by omega))⟩
end
end
section
/-! The relation -/
/-- term t of the terms from β on: the same on both sides -/
def fa_TK (ki pA pB pC nu pt ynu : Nat → Int32) (sz : Nat → Nat) (β t : Nat) : Prop :=
  (ki (β + t) = 9 ∧ ynu (β + t) = nu (β + t) ∧ sz (β + t) = 1) ∨
  (ki (β + t) = 10 ∧ ynu (β + t) = nu (β + t) ∧ (nu (β + t) = 0 ∨ nu (β + t) = 1) ∧ sz (β + t) = 1) ∨
  (∃ k a b, k < 8 ∧ a < t ∧ b < t ∧ ki (β + t) = nI k ∧ pA (β + t) = nI a ∧ pB (β + t) = nI b ∧ pt (3 * (β + t)) = nI (β + a) ∧ pt (3 * (β + t) + 1) = nI (β + b) ∧ sz (β + t) = 1 + sz (β + a) + sz (β + b)) ∨
  (∃ a b c, a < t ∧ b < t ∧ c < t ∧ ki (β + t) = 8 ∧ pA (β + t) = nI a ∧ pB (β + t) = nI b ∧ pC (β + t) = nI c ∧ pt (3 * (β + t)) = nI (β + a) ∧ pt (3 * (β + t) + 1) = nI (β + b) ∧ pt (3 * (β + t) + 2) = nI (β + c) ∧ sz (β + t) = 1 + sz (β + a) + sz (β + b) + sz (β + c))
/-- the terms in the making, and the stack -/
def fa_MG (ki pA pB pC nu pt ynu stk ystk : Nat → Int32) (sz bd : Nat → Nat) (m h : Nat) : Prop :=
  m ≤ 14 ∧ bd 0 = 0 ∧ bd h = m ∧ (∀ i, i < h → bd i < bd (i + 1) ∧ stk i = nI (bd (i + 1) - 1) ∧ ystk i = nI (56 + (bd (i + 1) - 1)) ∧ sz (56 + (bd (i + 1) - 1)) = bd (i + 1) - bd i) ∧
  ∀ t, t < m → fa_TK ki pA pB pC nu pt ynu sz 56 t
/-- the functions -/
def fa_FN (ki pA pB pC nu pt ynu size yrt : Nat → Int32) (sz rt : Nat → Nat) : Prop :=
  ∀ f, f < 4 → rt f < 14 ∧ size f = nI (rt f + 1) ∧ yrt f = nI (14 * f + rt f) ∧ sz (14 * f + rt f) ≤ 14 ∧ ∀ t, t ≤ rt f → fa_TK ki pA pB pC nu pt ynu sz (14 * f) t
def fa_Z4 (co : Nat → Int32) : Prop := ∀ j, 4 ≤ j → co j = 0
def fa_RB (made height : Int32) (ki pA pB pC nu size stk co : Nat → Int32) (ymade ydepth : Int32) (yki pt ynu yrt ystk yco : Nat → Int32) : Prop :=
  ∃ (sz bd rt : Nat → Nat) (m h : Nat), made = nI m ∧ height = nI h ∧ ymade = nI m ∧ ydepth = nI h ∧ yki = ki ∧ fa_MG ki pA pB pC nu pt ynu stk ystk sz bd m h ∧ fa_FN ki pA pB pC nu pt ynu size yrt sz rt ∧ fa_Z4 co ∧ fa_Z4 yco
/-- the relation at the head of a turn -/
def i_Rel (_ : Nat) (u : SX) (v : SY) : Prop := match u with
  | (f_made, f_height, f_versions, f_codeSize, f_tasks, f_values, f_frames, f_called, f_ended, a_kind, a_partA, a_partB, a_partC, a_number, a_size, a_stack, a_versionOf, a_known, a_knownA, a_knownB, a_entry, a_fixed, a_value, a_code, a_extra, a_task, a_phase, a_hole, a_pile, a_frameA, a_frameB, a_back, a_calledOf) => match v with
    | (yf_made, yf_depth, yf_waiting, yf_held, yf_called, yf_tired, ya_kinds, ya_parts, ya_numbers, ya_roots, ya_stack, ya_waits, ya_values, ya_firsts, ya_seconds, ya_counts) => fa_RB f_made f_height a_kind a_partA a_partB a_partC a_number a_size a_stack a_calledOf yf_made yf_depth ya_kinds ya_parts ya_numbers ya_roots ya_stack ya_counts
theorem i_up {k : Nat} {u : SX} {v : SY} (h : i_Rel k u v) : i_Rel (k + 5) u v := h
theorem zz_el {k : Nat} {Q : SX → SY → Prop} (H : ∀ f_made f_height f_versions f_codeSize f_tasks f_values f_frames f_called f_ended a_kind a_partA a_partB a_partC a_number a_size a_stack a_versionOf a_known a_knownA a_knownB a_entry a_fixed a_value a_code a_extra a_task a_phase a_hole a_pile a_frameA a_frameB a_back a_calledOf yf_made yf_depth yf_waiting yf_held yf_called yf_tired ya_kinds ya_parts ya_numbers ya_roots ya_stack ya_waits ya_values ya_firsts ya_seconds ya_counts, fa_RB f_made f_height a_kind a_partA a_partB a_partC a_number a_size a_stack a_calledOf yf_made yf_depth ya_kinds ya_parts ya_numbers ya_roots ya_stack ya_counts → Q (f_made, f_height, f_versions, f_codeSize, f_tasks, f_values, f_frames, f_called, f_ended, a_kind, a_partA, a_partB, a_partC, a_number, a_size, a_stack, a_versionOf, a_known, a_knownA, a_knownB, a_entry, a_fixed, a_value, a_code, a_extra, a_task, a_phase, a_hole, a_pile, a_frameA, a_frameB, a_back, a_calledOf) (yf_made, yf_depth, yf_waiting, yf_held, yf_called, yf_tired, ya_kinds, ya_parts, ya_numbers, ya_roots, ya_stack, ya_waits, ya_values, ya_firsts, ya_seconds, ya_counts)) (u : SX) (v : SY) (I : i_Rel k u v) : Q u v := by
  obtain ⟨f_made, f_height, f_versions, f_codeSize, f_tasks, f_values, f_frames, f_called, f_ended, a_kind, a_partA, a_partB, a_partC, a_number, a_size, a_stack, a_versionOf, a_known, a_knownA, a_knownB, a_entry, a_fixed, a_value, a_code, a_extra, a_task, a_phase, a_hole, a_pile, a_frameA, a_frameB, a_back, a_calledOf⟩ := u
  obtain ⟨yf_made, yf_depth, yf_waiting, yf_held, yf_called, yf_tired, ya_kinds, ya_parts, ya_numbers, ya_roots, ya_stack, ya_waits, ya_values, ya_firsts, ya_seconds, ya_counts⟩ := v
  exact H f_made f_height f_versions f_codeSize f_tasks f_values f_frames f_called f_ended a_kind a_partA a_partB a_partC a_number a_size a_stack a_versionOf a_known a_knownA a_knownB a_entry a_fixed a_value a_code a_extra a_task a_phase a_hole a_pile a_frameA a_frameB a_back a_calledOf yf_made yf_depth yf_waiting yf_held yf_called yf_tired ya_kinds ya_parts ya_numbers ya_roots ya_stack ya_waits ya_values ya_firsts ya_seconds ya_counts I
theorem fa_hm {bd : Nat → Nat} {h : Nat} (h0 : bd 0 = 0) (hs : ∀ i, i < h → bd i < bd (i + 1)) : ∀ i, i ≤ h → i ≤ bd i := by
  intro i
  induction i with
  | zero => intro _; omega
  | succ i ih => intro hi; have := ih (by omega); have := hs i (by omega); omega
/-- the program that the arrays hold -/
def fa_prog (ki pA pB pC nu : Nat → Int32) (rt sz : Nat → Nat) : fa_P :=
  (fun f t => (ki (14 * f + t)).toNatClampNeg, fun f t => (pA (14 * f + t)).toNatClampNeg, fun f t => (pB (14 * f + t)).toNatClampNeg, fun f t => (pC (14 * f + t)).toNatClampNeg, fun f t => nu (14 * f + t), rt, fun f t => sz (14 * f + t))
theorem fa_clN {x : Int32} {n : Nat} (e : x = nI n) (h : n < 2 ^ 31) : x.toNatClampNeg = n := by rw [e]; exact nI_clamp h
theorem fa_prT {ki pA pB pC nu pt ynu : Nat → Int32} {rt sz : Nat → Nat} {f t : Nat} (ht : t < 14) (h : fa_TK ki pA pB pC nu pt ynu sz (14 * f) t) :
    fa_TW (fa_prog ki pA pB pC nu rt sz) f t ∧
    (ki (14 * f + t) = nI (fa_kd (fa_prog ki pA pB pC nu rt sz) f t) ∧ (fa_kd (fa_prog ki pA pB pC nu rt sz) f t = 9 ∨ fa_kd (fa_prog ki pA pB pC nu rt sz) f t = 10 → ynu (14 * f + t) = nu (14 * f + t)) ∧
      (fa_kd (fa_prog ki pA pB pC nu rt sz) f t ≤ 8 → pA (14 * f + t) = nI (fa_pa (fa_prog ki pA pB pC nu rt sz) f t) ∧ pB (14 * f + t) = nI (fa_pb (fa_prog ki pA pB pC nu rt sz) f t) ∧
        pt (3 * (14 * f + t)) = nI (14 * f + fa_pa (fa_prog ki pA pB pC nu rt sz) f t) ∧ pt (3 * (14 * f + t) + 1) = nI (14 * f + fa_pb (fa_prog ki pA pB pC nu rt sz) f t)) ∧
      (fa_kd (fa_prog ki pA pB pC nu rt sz) f t = 8 → pC (14 * f + t) = nI (fa_pc (fa_prog ki pA pB pC nu rt sz) f t) ∧ pt (3 * (14 * f + t) + 2) = nI (14 * f + fa_pc (fa_prog ki pA pB pC nu rt sz) f t))) := by
  rcases h with ⟨k, n, z⟩ | ⟨k, n, n2, z⟩ | ⟨k, a, b, hk, ha, hb, ek, eA, eB, pA0, pB0, z⟩ | ⟨a, b, c, ha, hb, hc, ek, eA, eB, eC, pA0, pB0, pC0, z⟩
  · have e : fa_kd (fa_prog ki pA pB pC nu rt sz) f t = 9 := fa_clN (n := 9) k (by omega)
    exact ⟨Or.inl ⟨e, z⟩, by rw [e]; exact k, fun _ => n, fun y => absurd y (by omega), fun y => absurd y (by omega)⟩
  · have e : fa_kd (fa_prog ki pA pB pC nu rt sz) f t = 10 := fa_clN (n := 10) k (by omega)
    exact ⟨Or.inr (Or.inl ⟨e, n2, z⟩), by rw [e]; exact k, fun _ => n, fun y => absurd y (by omega), fun y => absurd y (by omega)⟩
  · have e : fa_kd (fa_prog ki pA pB pC nu rt sz) f t = k := fa_clN ek (by omega)
    have e1 : fa_pa (fa_prog ki pA pB pC nu rt sz) f t = a := fa_clN eA (by omega)
    have e2 : fa_pb (fa_prog ki pA pB pC nu rt sz) f t = b := fa_clN eB (by omega)
    refine ⟨Or.inr (Or.inr (Or.inl ?_)), by rw [e]; exact ek, fun y => absurd y (by omega), fun _ => ?_, fun y => absurd y (by omega)⟩
    · rw [e, e1, e2]; exact ⟨hk, ha, hb, z⟩
    · rw [e1, e2]; exact ⟨eA, eB, pA0, pB0⟩
  · have e : fa_kd (fa_prog ki pA pB pC nu rt sz) f t = 8 := fa_clN (n := 8) ek (by omega)
    have e1 : fa_pa (fa_prog ki pA pB pC nu rt sz) f t = a := fa_clN eA (by omega)
    have e2 : fa_pb (fa_prog ki pA pB pC nu rt sz) f t = b := fa_clN eB (by omega)
    have e3 : fa_pc (fa_prog ki pA pB pC nu rt sz) f t = c := fa_clN eC (by omega)
    refine ⟨Or.inr (Or.inr (Or.inr ?_)), by rw [e]; exact ek, fun y => absurd y (by omega), fun _ => ?_, fun _ => ?_⟩
    · rw [e1, e2, e3]; exact ⟨e, ha, hb, hc, z⟩
    · rw [e1, e2]; exact ⟨eA, eB, pA0, pB0⟩
    · rw [e3]; exact ⟨eC, pC0⟩
section
variable {ki pA pB pC nu pt ynu size yrt : Nat → Int32} {sz rt : Nat → Nat}
theorem fa_prW (h : fa_FN ki pA pB pC nu pt ynu size yrt sz rt) : fa_PW (fa_prog ki pA pB pC nu rt sz) := fun f hf => by
  obtain ⟨h1, h2, h3, h4, h5⟩ := h f hf
  refine ⟨h1, h4, fun t ht => ?_⟩
  have ht' : t ≤ rt f := ht
  exact (fa_prT (by omega) (h5 t ht)).1
theorem fa_prX (h : fa_FN ki pA pB pC nu pt ynu size yrt sz rt) : ∀ f, f < 4 → fa_PR (fa_prog ki pA pB pC nu rt sz) ki pA pB pC nu f := fun f hf t ht => by
  obtain ⟨h1, h2, h3, h4, h5⟩ := h f hf
  have ht' : t ≤ rt f := ht
  obtain ⟨_, k1, k2, k3, k4⟩ := fa_prT (rt := rt) (by omega) (h5 t ht)
  exact ⟨k1, fun _ => rfl, fun y => ⟨(k3 y).1, (k3 y).2.1⟩, fun y => (k4 y).1⟩
theorem fa_prY (h : fa_FN ki pA pB pC nu pt ynu size yrt sz rt) : ∀ f, f < 4 → fa_PYR (fa_prog ki pA pB pC nu rt sz) ki pt ynu yrt f := fun f hf => by
  obtain ⟨h1, h2, h3, h4, h5⟩ := h f hf
  refine ⟨h3, fun t ht => ?_⟩
  have ht' : t ≤ rt f := ht
  obtain ⟨_, k1, k2, k3, k4⟩ := fa_prT (rt := rt) (by omega) (h5 t ht)
  exact ⟨k1, k2, fun y => ⟨(k3 y).2.2.1, (k3 y).2.2.2⟩, fun y => (k4 y).2⟩
theorem fa_prS (h : fa_FN ki pA pB pC nu pt ynu size yrt sz rt) : ∀ f, f < 4 → size f = nI (fa_rt (fa_prog ki pA pB pC nu rt sz) f + 1) := fun f hf => (h f hf).2.1
end
end
section
/-! Runs asked for: both sides against the meaning -/
theorem fa_ix4 (x : Int32) {n : Nat} (hn : n < 2 ^ 31) : x < 0 ∨ (¬ x < 0 ∧ nI n ≤ x) ∨ ∃ j : Nat, j < n ∧ x = nI j := by
  by_cases h : x < 0
  · exact Or.inl h
  · obtain ⟨j, hj, rfl⟩ := nI_of h
    by_cases h2 : j < n
    · exact Or.inr (Or.inr ⟨j, h2, rfl⟩)
    · exact Or.inr (Or.inl ⟨h, nI_le (by omega) hj⟩)
def fa_ev0 (P : fa_P) (f : Nat) (a b : Int32) : fa_R := fa_evC P 61 f a b (0, fun _ => 0)
theorem fa_ev0Z {P : fa_P} (hP : fa_PW P) {f : Nat} (hf : f < 4) {a b : Int32} : fa_Z4 (fa_ev0 P f a b).2.2 := fun j hj => (fa_mnC hP 61 f a b (0, fun _ => 0) hf (by decide)).2.2 j hj
theorem fa_ev0Zs {P : fa_P} (hP : fa_PW P) {f : Nat} (hf : f < 4) {a b : Int32} {o : Option Int32} {s : fa_S} (e : fa_ev0 P f a b = (o, s)) : fa_Z4 s.2 := by
  have h := fa_ev0Z hP hf (a := a) (b := b)
  rw [e] at h; exact h
/-- the answer of a run -/
def fa_vl0 (r : fa_R) : Int32 := match r.1 with
  | none => 0
  | some x => x
/-- how it ended -/
def fa_fin (r : fa_R) : Int32 := match r.1 with
  | none => 1
  | some _ => 0
section
variable {f_made f_height f_versions f_codeSize f_tasks f_values f_frames f_called f_ended : Int32} {a_kind a_partA a_partB a_partC a_number a_size a_stack a_versionOf a_known a_knownA a_knownB a_entry a_fixed a_value a_code a_extra a_task a_phase a_hole a_pile a_frameA a_frameB a_back a_calledOf : Nat → Int32}
theorem xb_bad {post : Int32 → Prop} {x : Int32} (h : x < 0 ∨ (¬ x < 0 ∧ nI 4 ≤ x)) (H : post 1) : wpX_bad post (f_made, f_height, f_versions, f_codeSize, f_tasks, f_values, f_frames, f_called, f_ended, a_kind, a_partA, a_partB, a_partC, a_number, a_size, a_stack, a_versionOf, a_known, a_knownA, a_knownB, a_entry, a_fixed, a_value, a_code, a_extra, a_task, a_phase, a_hole, a_pile, a_frameA, a_frameB, a_back, a_calledOf) x := by
  rcases h with h | ⟨h, h2⟩
  · exact br_t h H
  · exact br_f h (br_f (Int32.not_lt.mpr h2) H)
theorem xb_ok {post : Int32 → Prop} {f : Nat} (h : f < 4) (H : post 0) : wpX_bad post (f_made, f_height, f_versions, f_codeSize, f_tasks, f_values, f_frames, f_called, f_ended, a_kind, a_partA, a_partB, a_partC, a_number, a_size, a_stack, a_versionOf, a_known, a_knownA, a_knownB, a_entry, a_fixed, a_value, a_code, a_extra, a_task, a_phase, a_hole, a_pile, a_frameA, a_frameB, a_back, a_calledOf) (nI f) :=
  br_f (nI_pos (by omega)) (br_t (nI_lt (b := 4) h (by omega)) H)
theorem xr_0 {post : Int32 → Prop} (H : post (a_pile 0)) : wpX_result post (f_made, f_height, f_versions, f_codeSize, f_tasks, nI 1, f_frames, f_called, 0, a_kind, a_partA, a_partB, a_partC, a_number, a_size, a_stack, a_versionOf, a_known, a_knownA, a_knownB, a_entry, a_fixed, a_value, a_code, a_extra, a_task, a_phase, a_hole, a_pile, a_frameA, a_frameB, a_back, a_calledOf) := by
  refine br_t rfl ?_
  rw [show nI 1 - 1 = nI 0 from nI_pred 0]
  exact And.intro (vp_in_nI (by omega) (by omega)) H
theorem xr_1 {post : Int32 → Prop} (H : post 0) : wpX_result post (f_made, f_height, f_versions, f_codeSize, f_tasks, f_values, f_frames, f_called, 1, a_kind, a_partA, a_partB, a_partC, a_number, a_size, a_stack, a_versionOf, a_known, a_knownA, a_knownB, a_entry, a_fixed, a_value, a_code, a_extra, a_task, a_phase, a_hole, a_pile, a_frameA, a_frameB, a_back, a_calledOf) := br_f (by decide) H
/-- one run of code that is ready: values, ended, called, counts -/
theorem xx_exec {post : SX → Prop} {P : fa_P} {f : Nat} {a b : Int32} (hP : fa_PW P) (hf : f < 4) (hRD : fa_RD P (f_made, f_height, f_versions, f_codeSize, f_tasks, f_values, f_frames, f_called, f_ended, a_kind, a_partA, a_partB, a_partC, a_number, a_size, a_stack, a_versionOf, a_known, a_knownA, a_knownB, a_entry, a_fixed, a_value, a_code, a_extra, a_task, a_phase, a_hole, a_pile, a_frameA, a_frameB, a_back, a_calledOf) f a) (hco : fa_Z4 a_calledOf)
    (H : ∀ r1 r2 r3 r4 r5 r6, (∀ x s', fa_ev0 P f a b = (some x, s') → r1 = nI 1 ∧ r3 0 = x) → post (f_made, f_height, f_versions, f_codeSize, f_tasks, r1, r2, nI (fa_ev0 P f a b).2.1, fa_fin (fa_ev0 P f a b), a_kind, a_partA, a_partB, a_partC, a_number, a_size, a_stack, a_versionOf, a_known, a_knownA, a_knownB, a_entry, a_fixed, a_value, a_code, a_extra, a_task, a_phase, a_hole, r3, r4, r5, r6, (fa_ev0 P f a b).2.2)) : wpX_execute post (f_made, f_height, f_versions, f_codeSize, f_tasks, f_values, f_frames, f_called, f_ended, a_kind, a_partA, a_partB, a_partC, a_number, a_size, a_stack, a_versionOf, a_known, a_knownA, a_knownB, a_entry, a_fixed, a_value, a_code, a_extra, a_task, a_phase, a_hole, a_pile, a_frameA, a_frameB, a_back, a_calledOf) (nI 4) b := by
  refine xe_exec hP hf hRD hco (fun x s' e x_f x_p x_A x_B x_b hx => ?_) (fun s' e x_v x_f x_p x_A x_B x_b => ?_)
  · have e' : fa_ev0 P f a b = (some x, s') := e
    rw [e'] at H
    exact H (nI 1) x_f x_p x_A x_B x_b (fun x2 s2 e2 => by cases e2; exact ⟨rfl, hx⟩)
  · have e' : fa_ev0 P f a b = (none, s') := e
    rw [e'] at H
    exact H x_v x_f x_p x_A x_B x_b (fun x2 s2 e2 => by cases e2)
theorem xx_start {post : SX → Prop} {P : fa_P} {f : Nat} {a b : Int32} (hP : fa_PW P) (hf : f < 4) (hR : ∀ f, f < 4 → fa_PR P a_kind a_partA a_partB a_partC a_number f) (hsz : ∀ f, f < 4 → a_size f = nI (fa_rt P f + 1)) (hco : fa_Z4 a_calledOf)
    (H : ∀ q1 q2 q3 q4 q5 q6 q7 q8 q9 q10 q11 q12 q13 q14 q15 r1 r2 r3 r4 r5 r6, (∀ x s', fa_ev0 P f a b = (some x, s') → r1 = nI 1 ∧ r3 0 = x) → post (f_made, f_height, q1, q2, q3, r1, r2, nI (fa_ev0 P f a b).2.1, fa_fin (fa_ev0 P f a b), a_kind, a_partA, a_partB, a_partC, a_number, a_size, a_stack, q4, q5, q6, q7, q8, q9, q10, q11, q12, q13, q14, q15, r3, r4, r5, r6, (fa_ev0 P f a b).2.2)) : wpX_start post (f_made, f_height, f_versions, f_codeSize, f_tasks, f_values, f_frames, f_called, f_ended, a_kind, a_partA, a_partB, a_partC, a_number, a_size, a_stack, a_versionOf, a_known, a_knownA, a_knownB, a_entry, a_fixed, a_value, a_code, a_extra, a_task, a_phase, a_hole, a_pile, a_frameA, a_frameB, a_back, a_calledOf) (nI f) a b := by
  unfold wpX_start
  refine xq_prep hP hf hR hsz (fun V' cs' tk' vo' kn' kA' kB' en' fx' vl' cd' ex' ta' ph' ho' hRD => ?_)
  exact xx_exec hP hf hRD hco (fun r1 r2 r3 r4 r5 r6 hr => H (nI V') (nI cs') tk' vo' kn' kA' kB' en' fx' vl' cd' ex' ta' ph' ho' r1 r2 r3 r4 r5 r6 hr)
theorem xx_res {post : Int32 → Prop} {r : fa_R} (hr : ∀ x s', r = (some x, s') → f_values = nI 1 ∧ a_pile 0 = x) (H : post (fa_vl0 r)) : wpX_result post (f_made, f_height, f_versions, f_codeSize, f_tasks, f_values, f_frames, f_called, fa_fin r, a_kind, a_partA, a_partB, a_partC, a_number, a_size, a_stack, a_versionOf, a_known, a_knownA, a_knownB, a_entry, a_fixed, a_value, a_code, a_extra, a_task, a_phase, a_hole, a_pile, a_frameA, a_frameB, a_back, a_calledOf) := by
  obtain ⟨o, s⟩ := r
  cases o with
  | none => exact xr_1 H
  | some x =>
    obtain ⟨e1, e2⟩ := hr x s rfl
    subst e1
    have H' : post x := H
    rw [← e2] at H'
    exact xr_0 H'
theorem xx_run {post : Int32 → SX → Prop} {P : fa_P} {f : Nat} {a b : Int32} (hP : fa_PW P) (hf : f < 4) (hR : ∀ f, f < 4 → fa_PR P a_kind a_partA a_partB a_partC a_number f) (hsz : ∀ f, f < 4 → a_size f = nI (fa_rt P f + 1)) (hco : fa_Z4 a_calledOf)
    (H : ∀ q1 q2 q3 q4 q5 q6 q7 q8 q9 q10 q11 q12 q13 q14 q15 r1 r2 r3 r4 r5 r6, post (fa_vl0 (fa_ev0 P f a b)) (f_made, f_height, q1, q2, q3, r1, r2, nI (fa_ev0 P f a b).2.1, fa_fin (fa_ev0 P f a b), a_kind, a_partA, a_partB, a_partC, a_number, a_size, a_stack, q4, q5, q6, q7, q8, q9, q10, q11, q12, q13, q14, q15, r3, r4, r5, r6, (fa_ev0 P f a b).2.2)) : wpX_run post (f_made, f_height, f_versions, f_codeSize, f_tasks, f_values, f_frames, f_called, f_ended, a_kind, a_partA, a_partB, a_partC, a_number, a_size, a_stack, a_versionOf, a_known, a_knownA, a_knownB, a_entry, a_fixed, a_value, a_code, a_extra, a_task, a_phase, a_hole, a_pile, a_frameA, a_frameB, a_back, a_calledOf) (nI f) a b := by
  unfold wpX_run
  exact xb_ok hf (br_t rfl (xx_start hP hf hR hsz hco (fun q1 q2 q3 q4 q5 q6 q7 q8 q9 q10 q11 q12 q13 q14 q15 r1 r2 r3 r4 r5 r6 hr => xx_res hr (H q1 q2 q3 q4 q5 q6 q7 q8 q9 q10 q11 q12 q13 q14 q15 r1 r2 r3 r4 r5 r6))))
theorem xx_ending {post : Int32 → SX → Prop} {P : fa_P} {f : Nat} {a b : Int32} (hP : fa_PW P) (hf : f < 4) (hR : ∀ f, f < 4 → fa_PR P a_kind a_partA a_partB a_partC a_number f) (hsz : ∀ f, f < 4 → a_size f = nI (fa_rt P f + 1)) (hco : fa_Z4 a_calledOf)
    (H : ∀ q1 q2 q3 q4 q5 q6 q7 q8 q9 q10 q11 q12 q13 q14 q15 r1 r2 r3 r4 r5 r6, post (fa_fin (fa_ev0 P f a b)) (f_made, f_height, q1, q2, q3, r1, r2, nI (fa_ev0 P f a b).2.1, fa_fin (fa_ev0 P f a b), a_kind, a_partA, a_partB, a_partC, a_number, a_size, a_stack, q4, q5, q6, q7, q8, q9, q10, q11, q12, q13, q14, q15, r3, r4, r5, r6, (fa_ev0 P f a b).2.2)) : wpX_ending post (f_made, f_height, f_versions, f_codeSize, f_tasks, f_values, f_frames, f_called, f_ended, a_kind, a_partA, a_partB, a_partC, a_number, a_size, a_stack, a_versionOf, a_known, a_knownA, a_knownB, a_entry, a_fixed, a_value, a_code, a_extra, a_task, a_phase, a_hole, a_pile, a_frameA, a_frameB, a_back, a_calledOf) (nI f) a b := by
  unfold wpX_ending
  exact xb_ok hf (br_t rfl (xx_start hP hf hR hsz hco (fun q1 q2 q3 q4 q5 q6 q7 q8 q9 q10 q11 q12 q13 q14 q15 r1 r2 r3 r4 r5 r6 hr => H q1 q2 q3 q4 q5 q6 q7 q8 q9 q10 q11 q12 q13 q14 q15 r1 r2 r3 r4 r5 r6)))
theorem xx_calls {post : Int32 → SX → Prop} {P : fa_P} {f : Nat} {a b : Int32} (hP : fa_PW P) (hf : f < 4) (hR : ∀ f, f < 4 → fa_PR P a_kind a_partA a_partB a_partC a_number f) (hsz : ∀ f, f < 4 → a_size f = nI (fa_rt P f + 1)) (hco : fa_Z4 a_calledOf)
    (H : ∀ q1 q2 q3 q4 q5 q6 q7 q8 q9 q10 q11 q12 q13 q14 q15 r1 r2 r3 r4 r5 r6, post (nI (fa_ev0 P f a b).2.1) (f_made, f_height, q1, q2, q3, r1, r2, nI (fa_ev0 P f a b).2.1, fa_fin (fa_ev0 P f a b), a_kind, a_partA, a_partB, a_partC, a_number, a_size, a_stack, q4, q5, q6, q7, q8, q9, q10, q11, q12, q13, q14, q15, r3, r4, r5, r6, (fa_ev0 P f a b).2.2)) : wpX_calls post (f_made, f_height, f_versions, f_codeSize, f_tasks, f_values, f_frames, f_called, f_ended, a_kind, a_partA, a_partB, a_partC, a_number, a_size, a_stack, a_versionOf, a_known, a_knownA, a_knownB, a_entry, a_fixed, a_value, a_code, a_extra, a_task, a_phase, a_hole, a_pile, a_frameA, a_frameB, a_back, a_calledOf) (nI f) a b := by
  unfold wpX_calls
  exact xb_ok hf (br_t rfl (xx_start hP hf hR hsz hco (fun q1 q2 q3 q4 q5 q6 q7 q8 q9 q10 q11 q12 q13 q14 q15 r1 r2 r3 r4 r5 r6 hr => H q1 q2 q3 q4 q5 q6 q7 q8 q9 q10 q11 q12 q13 q14 q15 r1 r2 r3 r4 r5 r6)))
theorem xx_callsOf {post : Int32 → SX → Prop} {P : fa_P} {f g : Nat} {a b : Int32} (hg : g < 4) (hP : fa_PW P) (hf : f < 4) (hR : ∀ f, f < 4 → fa_PR P a_kind a_partA a_partB a_partC a_number f) (hsz : ∀ f, f < 4 → a_size f = nI (fa_rt P f + 1)) (hco : fa_Z4 a_calledOf)
    (H : ∀ q1 q2 q3 q4 q5 q6 q7 q8 q9 q10 q11 q12 q13 q14 q15 r1 r2 r3 r4 r5 r6, post ((fa_ev0 P f a b).2.2 g) (f_made, f_height, q1, q2, q3, r1, r2, nI (fa_ev0 P f a b).2.1, fa_fin (fa_ev0 P f a b), a_kind, a_partA, a_partB, a_partC, a_number, a_size, a_stack, q4, q5, q6, q7, q8, q9, q10, q11, q12, q13, q14, q15, r3, r4, r5, r6, (fa_ev0 P f a b).2.2)) : wpX_callsOf post (f_made, f_height, f_versions, f_codeSize, f_tasks, f_values, f_frames, f_called, f_ended, a_kind, a_partA, a_partB, a_partC, a_number, a_size, a_stack, a_versionOf, a_known, a_knownA, a_knownB, a_entry, a_fixed, a_value, a_code, a_extra, a_task, a_phase, a_hole, a_pile, a_frameA, a_frameB, a_back, a_calledOf) (nI f) a b (nI g) := by
  unfold wpX_callsOf
  refine xb_ok hf (br_t rfl (xb_ok hg (br_t rfl (xx_start hP hf hR hsz hco (fun q1 q2 q3 q4 q5 q6 q7 q8 q9 q10 q11 q12 q13 q14 q15 r1 r2 r3 r4 r5 r6 hr => And.intro (vp_in_nI hg (by omega)) ?_)))))
  rw [nI_clamp (show g < 2 ^ 31 by omega)]
  exact H q1 q2 q3 q4 q5 q6 q7 q8 q9 q10 q11 q12 q13 q14 q15 r1 r2 r3 r4 r5 r6
end
def fa_sum (g : Nat → Int32) : Nat → Int32
  | 0 => 0
  | n + 1 => fa_sum g n + g n
def fa_slv (g : Nat → Option Int32) (v : Int32) : Nat → Nat → Int32
  | 0 => fun _ => -1
  | k + 1 => fun i => if g i = some v then nI i else fa_slv g v k (i + 1)
section
variable {f_made f_height f_versions f_codeSize f_tasks f_values f_frames f_called f_ended : Int32} {a_kind a_partA a_partB a_partC a_number a_size a_stack a_versionOf a_known a_knownA a_knownB a_entry a_fixed a_value a_code a_extra a_task a_phase a_hole a_pile a_frameA a_frameB a_back a_calledOf : Nat → Int32}
theorem xx_sumL {post : Int32 → SX → Prop} {P : fa_P} {f n : Nat} {a b : Int32} (hP : fa_PW P) (hf : f < 4) (hn : n ≤ 8) (hRD : fa_RD P (f_made, f_height, f_versions, f_codeSize, f_tasks, f_values, f_frames, f_called, f_ended, a_kind, a_partA, a_partB, a_partC, a_number, a_size, a_stack, a_versionOf, a_known, a_knownA, a_knownB, a_entry, a_fixed, a_value, a_code, a_extra, a_task, a_phase, a_hole, a_pile, a_frameA, a_frameB, a_back, a_calledOf) f a)
    (H : ∀ r1 r2 r3 r4 r5 r6 r7 r8 r9, fa_Z4 r9 → post (fa_sum (fun i => fa_vl0 (fa_ev0 P f a (b + nI i))) n) (f_made, f_height, f_versions, f_codeSize, f_tasks, r1, r2, r7, r8, a_kind, a_partA, a_partB, a_partC, a_number, a_size, a_stack, a_versionOf, a_known, a_knownA, a_knownB, a_entry, a_fixed, a_value, a_code, a_extra, a_task, a_phase, a_hole, r3, r4, r5, r6, r9)) :
    ∀ k i r1 r2 r3 r4 r5 r6 r7 r8 r9, i + k = n → fa_Z4 r9 → wX_sumOver_36 post b (nI n) (nI 4) (k + 1) (fa_sum (fun i => fa_vl0 (fa_ev0 P f a (b + nI i))) i) (nI i) f_made f_height f_versions f_codeSize f_tasks r1 r2 r7 r8 a_kind a_partA a_partB a_partC a_number a_size a_stack a_versionOf a_known a_knownA a_knownB a_entry a_fixed a_value a_code a_extra a_task a_phase a_hole r3 r4 r5 r6 r9 := by
  intro k
  induction k with
  | zero =>
    intro i r1 r2 r3 r4 r5 r6 r7 r8 r9 hi hz
    have e : i = n := hi
    subst e
    rw [wX_sumOver_36]
    exact br_t (nI_le (Nat.le_refl _) (by omega)) (H r1 r2 r3 r4 r5 r6 r7 r8 r9 hz)
  | succ k ih =>
    intro i r1 r2 r3 r4 r5 r6 r7 r8 r9 hi hz
    rw [wX_sumOver_36]
    refine br_f (nI_ge (by omega) (by omega)) (xx_exec hP hf hRD hz (fun p1 p2 p3 p4 p5 p6 hr => xx_res hr (nm_e (nm_r (nI_1 i) ?_))))
    exact ih (i + 1) p1 p2 p3 p4 p5 p6 _ _ _ (by omega) (fa_ev0Z hP hf)
theorem xx_sum {post : Int32 → SX → Prop} {P : fa_P} {f n : Nat} {a b : Int32} (hn : n ≤ 8) (hP : fa_PW P) (hf : f < 4) (hR : ∀ f, f < 4 → fa_PR P a_kind a_partA a_partB a_partC a_number f) (hsz : ∀ f, f < 4 → a_size f = nI (fa_rt P f + 1)) (hco : fa_Z4 a_calledOf)
    (H : ∀ q1 q2 q3 q4 q5 q6 q7 q8 q9 q10 q11 q12 q13 q14 q15 r1 r2 r3 r4 r5 r6 r7 r8 r9, fa_Z4 r9 → post (fa_sum (fun i => fa_vl0 (fa_ev0 P f a (b + nI i))) n) (f_made, f_height, q1, q2, q3, r1, r2, r7, r8, a_kind, a_partA, a_partB, a_partC, a_number, a_size, a_stack, q4, q5, q6, q7, q8, q9, q10, q11, q12, q13, q14, q15, r3, r4, r5, r6, r9)) : wpX_sumOver post (f_made, f_height, f_versions, f_codeSize, f_tasks, f_values, f_frames, f_called, f_ended, a_kind, a_partA, a_partB, a_partC, a_number, a_size, a_stack, a_versionOf, a_known, a_knownA, a_knownB, a_entry, a_fixed, a_value, a_code, a_extra, a_task, a_phase, a_hole, a_pile, a_frameA, a_frameB, a_back, a_calledOf) (nI f) a b (nI n) := by
  unfold wpX_sumOver
  refine xb_ok hf (br_t rfl (br_f (nI_pos (by omega)) (br_t (nI_le (b := 8) hn (by omega)) (xq_prep hP hf hR hsz (fun V' cs' tk' vo' kn' kA' kB' en' fx' vl' cd' ex' ta' ph' ho' hRD => ?_)))))
  exact ⟨n + 1, xx_sumL hP hf hn hRD (fun r1 r2 r3 r4 r5 r6 r7 r8 r9 hz => H (nI V') (nI cs') tk' vo' kn' kA' kB' en' fx' vl' cd' ex' ta' ph' ho' r1 r2 r3 r4 r5 r6 r7 r8 r9 hz) n 0 _ _ _ _ _ _ _ _ _ (by omega) hco⟩
theorem xx_slvL {post : Int32 → SX → Prop} {P : fa_P} {f : Nat} {a v : Int32} (hP : fa_PW P) (hf : f < 4) (hRD : fa_RD P (f_made, f_height, f_versions, f_codeSize, f_tasks, f_values, f_frames, f_called, f_ended, a_kind, a_partA, a_partB, a_partC, a_number, a_size, a_stack, a_versionOf, a_known, a_knownA, a_knownB, a_entry, a_fixed, a_value, a_code, a_extra, a_task, a_phase, a_hole, a_pile, a_frameA, a_frameB, a_back, a_calledOf) f a) :
    ∀ k i r1 r2 r3 r4 r5 r6 r7 r8 r9, i + k = 16 → fa_Z4 r9 → (∀ r1 r2 r3 r4 r5 r6 r7 r8 r9, fa_Z4 r9 → post (fa_slv (fun i => (fa_ev0 P f a (nI i)).1) v k i) (f_made, f_height, f_versions, f_codeSize, f_tasks, r1, r2, r7, r8, a_kind, a_partA, a_partB, a_partC, a_number, a_size, a_stack, a_versionOf, a_known, a_knownA, a_knownB, a_entry, a_fixed, a_value, a_code, a_extra, a_task, a_phase, a_hole, r3, r4, r5, r6, r9)) → wX_solve_21 post v (nI 4) (k + 1) (nI i) f_made f_height f_versions f_codeSize f_tasks r1 r2 r7 r8 a_kind a_partA a_partB a_partC a_number a_size a_stack a_versionOf a_known a_knownA a_knownB a_entry a_fixed a_value a_code a_extra a_task a_phase a_hole r3 r4 r5 r6 r9 := by
  intro k
  induction k with
  | zero =>
    intro i r1 r2 r3 r4 r5 r6 r7 r8 r9 hi hz H
    have e : i = 16 := hi
    subst e
    rw [wX_solve_21]
    exact br_t (by decide) (H r1 r2 r3 r4 r5 r6 r7 r8 r9 hz)
  | succ k ih =>
    intro i r1 r2 r3 r4 r5 r6 r7 r8 r9 hi hz H
    rw [wX_solve_21]
    refine br_f (nI_ge (b := 16) (by omega) (by omega)) (xx_exec hP hf hRD hz (fun p1 p2 p3 p4 p5 p6 hr => xx_res hr ?_))
    have hz2 := fa_ev0Z hP hf (a := a) (b := nI i)
    rcases fa_rc (fa_ev0 P f a (nI i)) with ⟨s1, e⟩ | ⟨x, s1, e⟩
    · have hs : fa_slv (fun i => (fa_ev0 P f a (nI i)).1) v (k + 1) i = fa_slv (fun i => (fa_ev0 P f a (nI i)).1) v k (i + 1) := by
        show (if (fa_ev0 P f a (nI i)).1 = some v then _ else _) = _
        rw [e]; exact if_neg (fun z => nomatch z)
      rw [hs] at H
      rw [e] at hz2 ⊢
      exact br_f (show ¬ (1 : Int32) = 0 by decide) (nm_r (nI_1 i) (ih (i + 1) _ _ _ _ _ _ _ _ _ (by omega) hz2 H))
    · by_cases z : x = v
      · have hs : fa_slv (fun i => (fa_ev0 P f a (nI i)).1) v (k + 1) i = nI i := by
          show (if (fa_ev0 P f a (nI i)).1 = some v then _ else _) = _
          rw [e]; exact if_pos (by rw [z])
        rw [hs] at H
        rw [e] at hz2 ⊢
        exact br_t rfl (br_t z (H _ _ _ _ _ _ _ _ _ hz2))
      · have hs : fa_slv (fun i => (fa_ev0 P f a (nI i)).1) v (k + 1) i = fa_slv (fun i => (fa_ev0 P f a (nI i)).1) v k (i + 1) := by
          show (if (fa_ev0 P f a (nI i)).1 = some v then _ else _) = _
          rw [e]; exact if_neg (fun y => z (Option.some.inj y))
        rw [hs] at H
        rw [e] at hz2 ⊢
        exact br_t rfl (br_f z (nm_r (nI_1 i) (ih (i + 1) _ _ _ _ _ _ _ _ _ (by omega) hz2 H)))
theorem xx_slv {post : Int32 → SX → Prop} {P : fa_P} {f : Nat} {a v : Int32} (hP : fa_PW P) (hf : f < 4) (hR : ∀ f, f < 4 → fa_PR P a_kind a_partA a_partB a_partC a_number f) (hsz : ∀ f, f < 4 → a_size f = nI (fa_rt P f + 1)) (hco : fa_Z4 a_calledOf)
    (H : ∀ q1 q2 q3 q4 q5 q6 q7 q8 q9 q10 q11 q12 q13 q14 q15 r1 r2 r3 r4 r5 r6 r7 r8 r9, fa_Z4 r9 → post (fa_slv (fun i => (fa_ev0 P f a (nI i)).1) v 16 0) (f_made, f_height, q1, q2, q3, r1, r2, r7, r8, a_kind, a_partA, a_partB, a_partC, a_number, a_size, a_stack, q4, q5, q6, q7, q8, q9, q10, q11, q12, q13, q14, q15, r3, r4, r5, r6, r9)) : wpX_solve post (f_made, f_height, f_versions, f_codeSize, f_tasks, f_values, f_frames, f_called, f_ended, a_kind, a_partA, a_partB, a_partC, a_number, a_size, a_stack, a_versionOf, a_known, a_knownA, a_knownB, a_entry, a_fixed, a_value, a_code, a_extra, a_task, a_phase, a_hole, a_pile, a_frameA, a_frameB, a_back, a_calledOf) (nI f) a v := by
  unfold wpX_solve
  refine xb_ok hf (br_t rfl (xq_prep hP hf hR hsz (fun V' cs' tk' vo' kn' kA' kB' en' fx' vl' cd' ex' ta' ph' ho' hRD => ?_)))
  exact ⟨16 + 1, xx_slvL hP hf hRD 16 0 _ _ _ _ _ _ _ _ _ rfl hco (fun r1 r2 r3 r4 r5 r6 r7 r8 r9 hz => H (nI V') (nI cs') tk' vo' kn' kA' kB' en' fx' vl' cd' ex' ta' ph' ho' r1 r2 r3 r4 r5 r6 r7 r8 r9 hz)⟩
end
end
section
/-! The reference's questions -/
section
variable {yf_made yf_depth yf_waiting yf_held yf_called yf_tired : Int32} {ya_kinds ya_parts ya_numbers ya_roots ya_stack ya_waits ya_values ya_firsts ya_seconds ya_counts : Nat → Int32}
theorem yf_no {post : Int32 → Prop} {x : Int32} (h : x < 0 ∨ (¬ x < 0 ∧ nI 4 ≤ x)) (H : post 0) : wpY_isFunction post (yf_made, yf_depth, yf_waiting, yf_held, yf_called, yf_tired, ya_kinds, ya_parts, ya_numbers, ya_roots, ya_stack, ya_waits, ya_values, ya_firsts, ya_seconds, ya_counts) x := by
  rcases h with h | ⟨h, h2⟩
  · exact br_t h H
  · have h3 : (3 : Int32) < x := by
      rw [Int32.le_iff_toInt_le, nI_toInt (by omega)] at h2
      rw [Int32.lt_iff_toInt_lt, show (3 : Int32).toInt = 3 by decide]
      omega
    exact br_f h (br_t h3 H)
theorem yf_ok {post : Int32 → Prop} {f : Nat} (h : f < 4) (H : post 1) : wpY_isFunction post (yf_made, yf_depth, yf_waiting, yf_held, yf_called, yf_tired, ya_kinds, ya_parts, ya_numbers, ya_roots, ya_stack, ya_waits, ya_values, ya_firsts, ya_seconds, ya_counts) (nI f) :=
  br_f (nI_pos (by omega)) (br_f (nI_nlt (b := f) (a := 3) (by omega) (by omega)) H)
theorem yy_work {post : Int32 → SY → Prop} {P : fa_P} {f : Nat} {a b : Int32} (hP : fa_PW P) (hf : f < 4) (hU : fa_PY P (yf_made, yf_depth, yf_waiting, yf_held, yf_called, yf_tired, ya_kinds, ya_parts, ya_numbers, ya_roots, ya_stack, ya_waits, ya_values, ya_firsts, ya_seconds, ya_counts)) (hco : fa_Z4 ya_counts)
    (H : ∀ y1 y2 y3 y4 y5 y6, post (fa_vl0 (fa_ev0 P f a b)) (yf_made, yf_depth, y1, y2, nI (fa_ev0 P f a b).2.1, fa_fin (fa_ev0 P f a b), ya_kinds, ya_parts, ya_numbers, ya_roots, ya_stack, y3, y4, y5, y6, (fa_ev0 P f a b).2.2)) : wpY_work post (yf_made, yf_depth, yf_waiting, yf_held, yf_called, yf_tired, ya_kinds, ya_parts, ya_numbers, ya_roots, ya_stack, ya_waits, ya_values, ya_firsts, ya_seconds, ya_counts) (nI f) a b := by
  refine yk_work hP hf hU hco (fun x s' e y1 y2 y3 y4 y5 y6 => ?_) (fun s' e y1 y2 y3 y4 y5 y6 => ?_)
  · have e' : fa_ev0 P f a b = (some x, s') := e
    rw [e'] at H
    exact H y1 y2 y3 y4 y5 y6
  · have e' : fa_ev0 P f a b = (none, s') := e
    rw [e'] at H
    exact H y1 y2 y3 y4 y5 y6
theorem yy_run {post : Int32 → SY → Prop} {P : fa_P} {f : Nat} {a b : Int32} (hP : fa_PW P) (hf : f < 4) (hU : fa_PY P (yf_made, yf_depth, yf_waiting, yf_held, yf_called, yf_tired, ya_kinds, ya_parts, ya_numbers, ya_roots, ya_stack, ya_waits, ya_values, ya_firsts, ya_seconds, ya_counts)) (hco : fa_Z4 ya_counts)
    (H : ∀ y1 y2 y3 y4 y5 y6, post (fa_vl0 (fa_ev0 P f a b)) (yf_made, yf_depth, y1, y2, nI (fa_ev0 P f a b).2.1, fa_fin (fa_ev0 P f a b), ya_kinds, ya_parts, ya_numbers, ya_roots, ya_stack, y3, y4, y5, y6, (fa_ev0 P f a b).2.2)) : wpY_run post (yf_made, yf_depth, yf_waiting, yf_held, yf_called, yf_tired, ya_kinds, ya_parts, ya_numbers, ya_roots, ya_stack, ya_waits, ya_values, ya_firsts, ya_seconds, ya_counts) (nI f) a b := by
  unfold wpY_run
  exact yf_ok hf (br_f (by decide) (yy_work hP hf hU hco H))
theorem yy_ending {post : Int32 → SY → Prop} {P : fa_P} {f : Nat} {a b : Int32} (hP : fa_PW P) (hf : f < 4) (hU : fa_PY P (yf_made, yf_depth, yf_waiting, yf_held, yf_called, yf_tired, ya_kinds, ya_parts, ya_numbers, ya_roots, ya_stack, ya_waits, ya_values, ya_firsts, ya_seconds, ya_counts)) (hco : fa_Z4 ya_counts)
    (H : ∀ y1 y2 y3 y4 y5 y6, post (fa_fin (fa_ev0 P f a b)) (yf_made, yf_depth, y1, y2, nI (fa_ev0 P f a b).2.1, fa_fin (fa_ev0 P f a b), ya_kinds, ya_parts, ya_numbers, ya_roots, ya_stack, y3, y4, y5, y6, (fa_ev0 P f a b).2.2)) : wpY_ending post (yf_made, yf_depth, yf_waiting, yf_held, yf_called, yf_tired, ya_kinds, ya_parts, ya_numbers, ya_roots, ya_stack, ya_waits, ya_values, ya_firsts, ya_seconds, ya_counts) (nI f) a b := by
  unfold wpY_ending
  refine yf_ok hf (br_f (by decide) (yy_work hP hf hU hco (fun y1 y2 y3 y4 y5 y6 => ?_)))
  rcases fa_rc (fa_ev0 P f a b) with ⟨s1, e⟩ | ⟨x, s1, e⟩
  · rw [e] at H ⊢
    exact br_f (show ¬ (1 : Int32) = 0 by decide) (H y1 y2 y3 y4 y5 y6)
  · rw [e] at H ⊢
    exact br_t rfl (H y1 y2 y3 y4 y5 y6)
theorem yy_calls {post : Int32 → SY → Prop} {P : fa_P} {f : Nat} {a b : Int32} (hP : fa_PW P) (hf : f < 4) (hU : fa_PY P (yf_made, yf_depth, yf_waiting, yf_held, yf_called, yf_tired, ya_kinds, ya_parts, ya_numbers, ya_roots, ya_stack, ya_waits, ya_values, ya_firsts, ya_seconds, ya_counts)) (hco : fa_Z4 ya_counts)
    (H : ∀ y1 y2 y3 y4 y5 y6, post (nI (fa_ev0 P f a b).2.1) (yf_made, yf_depth, y1, y2, nI (fa_ev0 P f a b).2.1, fa_fin (fa_ev0 P f a b), ya_kinds, ya_parts, ya_numbers, ya_roots, ya_stack, y3, y4, y5, y6, (fa_ev0 P f a b).2.2)) : wpY_calls post (yf_made, yf_depth, yf_waiting, yf_held, yf_called, yf_tired, ya_kinds, ya_parts, ya_numbers, ya_roots, ya_stack, ya_waits, ya_values, ya_firsts, ya_seconds, ya_counts) (nI f) a b := by
  unfold wpY_calls
  exact yf_ok hf (br_f (by decide) (yy_work hP hf hU hco (fun y1 y2 y3 y4 y5 y6 => H y1 y2 y3 y4 y5 y6)))
theorem yy_callsOf {post : Int32 → SY → Prop} {P : fa_P} {f g : Nat} {a b : Int32} (hg : g < 4) (hP : fa_PW P) (hf : f < 4) (hU : fa_PY P (yf_made, yf_depth, yf_waiting, yf_held, yf_called, yf_tired, ya_kinds, ya_parts, ya_numbers, ya_roots, ya_stack, ya_waits, ya_values, ya_firsts, ya_seconds, ya_counts)) (hco : fa_Z4 ya_counts)
    (H : ∀ y1 y2 y3 y4 y5 y6, post ((fa_ev0 P f a b).2.2 g) (yf_made, yf_depth, y1, y2, nI (fa_ev0 P f a b).2.1, fa_fin (fa_ev0 P f a b), ya_kinds, ya_parts, ya_numbers, ya_roots, ya_stack, y3, y4, y5, y6, (fa_ev0 P f a b).2.2)) : wpY_callsOf post (yf_made, yf_depth, yf_waiting, yf_held, yf_called, yf_tired, ya_kinds, ya_parts, ya_numbers, ya_roots, ya_stack, ya_waits, ya_values, ya_firsts, ya_seconds, ya_counts) (nI f) a b (nI g) := by
  unfold wpY_callsOf
  refine yf_ok hf (br_f (by decide) (yf_ok hg (br_f (by decide) (yy_work hP hf hU hco (fun y1 y2 y3 y4 y5 y6 => And.intro (vp_in_nI hg (by omega)) ?_)))))
  rw [nI_clamp (show g < 2 ^ 31 by omega)]
  exact H y1 y2 y3 y4 y5 y6
theorem yy_sumL {post : Int32 → SY → Prop} {P : fa_P} {f n : Nat} {a b : Int32} (hP : fa_PW P) (hf : f < 4) (hn : n ≤ 8) (hU : fa_PY P (yf_made, yf_depth, yf_waiting, yf_held, yf_called, yf_tired, ya_kinds, ya_parts, ya_numbers, ya_roots, ya_stack, ya_waits, ya_values, ya_firsts, ya_seconds, ya_counts))
    (H : ∀ y1 y2 y3 y4 y5 y6 y7 y8 y9, fa_Z4 y9 → post (fa_sum (fun i => fa_vl0 (fa_ev0 P f a (b + nI i))) n) (yf_made, yf_depth, y1, y2, y7, y8, ya_kinds, ya_parts, ya_numbers, ya_roots, ya_stack, y3, y4, y5, y6, y9)) :
    ∀ k i y1 y2 y3 y4 y5 y6 y7 y8 y9, i + k = n → fa_Z4 y9 → wY_sumOver_26 post (nI f) a b (nI n) (k + 1) (fa_sum (fun i => fa_vl0 (fa_ev0 P f a (b + nI i))) i) (nI i) yf_made yf_depth y1 y2 y7 y8 ya_kinds ya_parts ya_numbers ya_roots ya_stack y3 y4 y5 y6 y9 := by
  intro k
  induction k with
  | zero =>
    intro i y1 y2 y3 y4 y5 y6 y7 y8 y9 hi hz
    have e : i = n := hi
    subst e
    rw [wY_sumOver_26]
    exact br_t (nI_le (Nat.le_refl _) (by omega)) (H y1 y2 y3 y4 y5 y6 y7 y8 y9 hz)
  | succ k ih =>
    intro i y1 y2 y3 y4 y5 y6 y7 y8 y9 hi hz
    rw [wY_sumOver_26]
    refine br_f (nI_ge (by omega) (by omega)) (yy_work hP hf hU hz (fun p1 p2 p3 p4 p5 p6 => nm_e (nm_r (nI_1 i) ?_)))
    exact ih (i + 1) p1 p2 p3 p4 p5 p6 _ _ _ (by omega) (fa_ev0Z hP hf)
theorem yy_sum {post : Int32 → SY → Prop} {P : fa_P} {f n : Nat} {a b : Int32} (hn : n ≤ 8) (hP : fa_PW P) (hf : f < 4) (hU : fa_PY P (yf_made, yf_depth, yf_waiting, yf_held, yf_called, yf_tired, ya_kinds, ya_parts, ya_numbers, ya_roots, ya_stack, ya_waits, ya_values, ya_firsts, ya_seconds, ya_counts)) (hco : fa_Z4 ya_counts)
    (H : ∀ y1 y2 y3 y4 y5 y6 y7 y8 y9, fa_Z4 y9 → post (fa_sum (fun i => fa_vl0 (fa_ev0 P f a (b + nI i))) n) (yf_made, yf_depth, y1, y2, y7, y8, ya_kinds, ya_parts, ya_numbers, ya_roots, ya_stack, y3, y4, y5, y6, y9)) : wpY_sumOver post (yf_made, yf_depth, yf_waiting, yf_held, yf_called, yf_tired, ya_kinds, ya_parts, ya_numbers, ya_roots, ya_stack, ya_waits, ya_values, ya_firsts, ya_seconds, ya_counts) (nI f) a b (nI n) := by
  unfold wpY_sumOver
  exact yf_ok hf (br_f (by decide) (br_f (nI_pos (by omega)) (br_f (nI_nlt (a := 8) hn (by omega)) ⟨n + 1, yy_sumL hP hf hn hU H n 0 _ _ _ _ _ _ _ _ _ (by omega) hco⟩)))
theorem yy_slvL {post : Int32 → SY → Prop} {P : fa_P} {f : Nat} {a v : Int32} (hP : fa_PW P) (hf : f < 4) (hU : fa_PY P (yf_made, yf_depth, yf_waiting, yf_held, yf_called, yf_tired, ya_kinds, ya_parts, ya_numbers, ya_roots, ya_stack, ya_waits, ya_values, ya_firsts, ya_seconds, ya_counts)) :
    ∀ k i y1 y2 y3 y4 y5 y6 y7 y8 y9, i + k = 16 → fa_Z4 y9 → (∀ y1 y2 y3 y4 y5 y6 y7 y8 y9, fa_Z4 y9 → post (fa_slv (fun i => (fa_ev0 P f a (nI i)).1) v k i) (yf_made, yf_depth, y1, y2, y7, y8, ya_kinds, ya_parts, ya_numbers, ya_roots, ya_stack, y3, y4, y5, y6, y9)) → wY_solve_3 post (nI f) a v (k + 1) (nI i) yf_made yf_depth y1 y2 y7 y8 ya_kinds ya_parts ya_numbers ya_roots ya_stack y3 y4 y5 y6 y9 := by
  intro k
  induction k with
  | zero =>
    intro i y1 y2 y3 y4 y5 y6 y7 y8 y9 hi hz H
    have e : i = 16 := hi
    subst e
    rw [wY_solve_3]
    exact br_t (by decide) (H y1 y2 y3 y4 y5 y6 y7 y8 y9 hz)
  | succ k ih =>
    intro i y1 y2 y3 y4 y5 y6 y7 y8 y9 hi hz H
    rw [wY_solve_3]
    refine br_f (nI_ge (b := 16) (by omega) (by omega)) (yf_ok hf (br_f (by decide) (yy_work hP hf hU hz (fun p1 p2 p3 p4 p5 p6 => ?_))))
    have hz2 := fa_ev0Z hP hf (a := a) (b := nI i)
    rcases fa_rc (fa_ev0 P f a (nI i)) with ⟨s1, e⟩ | ⟨x, s1, e⟩
    · have hs : fa_slv (fun i => (fa_ev0 P f a (nI i)).1) v (k + 1) i = fa_slv (fun i => (fa_ev0 P f a (nI i)).1) v k (i + 1) := by
        show (if (fa_ev0 P f a (nI i)).1 = some v then _ else _) = _
        rw [e]; exact if_neg (fun z => nomatch z)
      rw [hs] at H
      rw [e] at hz2 ⊢
      exact br_f (show ¬ (1 : Int32) = 0 by decide) (nm_r (nI_1 i) (ih (i + 1) _ _ _ _ _ _ _ _ _ (by omega) hz2 H))
    · by_cases z : x = v
      · have hs : fa_slv (fun i => (fa_ev0 P f a (nI i)).1) v (k + 1) i = nI i := by
          show (if (fa_ev0 P f a (nI i)).1 = some v then _ else _) = _
          rw [e]; exact if_pos (by rw [z])
        rw [hs] at H
        rw [e] at hz2 ⊢
        exact br_t rfl (br_t z (H _ _ _ _ _ _ _ _ _ hz2))
      · have hs : fa_slv (fun i => (fa_ev0 P f a (nI i)).1) v (k + 1) i = fa_slv (fun i => (fa_ev0 P f a (nI i)).1) v k (i + 1) := by
          show (if (fa_ev0 P f a (nI i)).1 = some v then _ else _) = _
          rw [e]; exact if_neg (fun y => z (Option.some.inj y))
        rw [hs] at H
        rw [e] at hz2 ⊢
        exact br_t rfl (br_f z (nm_r (nI_1 i) (ih (i + 1) _ _ _ _ _ _ _ _ _ (by omega) hz2 H)))
theorem yy_slv {post : Int32 → SY → Prop} {P : fa_P} {f : Nat} {a v : Int32} (hP : fa_PW P) (hf : f < 4) (hU : fa_PY P (yf_made, yf_depth, yf_waiting, yf_held, yf_called, yf_tired, ya_kinds, ya_parts, ya_numbers, ya_roots, ya_stack, ya_waits, ya_values, ya_firsts, ya_seconds, ya_counts)) (hco : fa_Z4 ya_counts)
    (H : ∀ y1 y2 y3 y4 y5 y6 y7 y8 y9, fa_Z4 y9 → post (fa_slv (fun i => (fa_ev0 P f a (nI i)).1) v 16 0) (yf_made, yf_depth, y1, y2, y7, y8, ya_kinds, ya_parts, ya_numbers, ya_roots, ya_stack, y3, y4, y5, y6, y9)) : wpY_solve post (yf_made, yf_depth, yf_waiting, yf_held, yf_called, yf_tired, ya_kinds, ya_parts, ya_numbers, ya_roots, ya_stack, ya_waits, ya_values, ya_firsts, ya_seconds, ya_counts) (nI f) a v :=
  ⟨16 + 1, yy_slvL hP hf hU 16 0 _ _ _ _ _ _ _ _ _ rfl hco H⟩
end
end
section
/-! The owed statements about runs -/
section
variable {f_made f_height f_versions f_codeSize f_tasks f_values f_frames f_called f_ended : Int32} {a_kind a_partA a_partB a_partC a_number a_size a_stack a_versionOf a_known a_knownA a_knownB a_entry a_fixed a_value a_code a_extra a_task a_phase a_hole a_pile a_frameA a_frameB a_back a_calledOf : Nat → Int32}
variable {yf_made yf_depth yf_waiting yf_held yf_called yf_tired : Int32} {ya_kinds ya_parts ya_numbers ya_roots ya_stack ya_waits ya_values ya_firsts ya_seconds ya_counts : Nat → Int32}
theorem fa_RBz {P : Prop} (hRB : fa_RB f_made f_height a_kind a_partA a_partB a_partC a_number a_size a_stack a_calledOf yf_made yf_depth ya_kinds ya_parts ya_numbers ya_roots ya_stack ya_counts) (H : ∀ (sz rt : Nat → Nat), fa_FN a_kind a_partA a_partB a_partC a_number ya_parts ya_numbers a_size ya_roots sz rt → ya_kinds = a_kind → fa_Z4 a_calledOf → fa_Z4 ya_counts → (∀ co yco, fa_Z4 co → fa_Z4 yco → fa_RB f_made f_height a_kind a_partA a_partB a_partC a_number a_size a_stack co yf_made yf_depth ya_kinds ya_parts ya_numbers ya_roots ya_stack yco) → P) : P := by
  obtain ⟨sz, bd, rt, m, h, e1, e2, e3, e4, e5, hMG, hFN, hz, hyz⟩ := hRB
  exact H sz rt hFN e5 hz hyz (fun co yco z1 z2 => ⟨sz, bd, rt, m, h, e1, e2, e3, e4, e5, hMG, hFN, z1, z2⟩)
end
theorem i_vc_run {k : Nat} {u : SX} {v : SY} (I : i_Rel k u v) (hk : k + 5 ≤ 2560) (v1 : Int32) (v2 : Int32) (v3 : Int32) : wpX_run (fun r u' => wpY_run (fun r' v' => r' = r ∧ i_Rel (k + 5) u' v') v v1 v2 v3) u v1 v2 v3 := by
  refine zz_el (Q := fun u v => wpX_run (fun r u' => wpY_run (fun r' v' => r' = r ∧ i_Rel (k + 5) u' v') v v1 v2 v3) u v1 v2 v3) ?_ u v I
  intro f_made f_height f_versions f_codeSize f_tasks f_values f_frames f_called f_ended a_kind a_partA a_partB a_partC a_number a_size a_stack a_versionOf a_known a_knownA a_knownB a_entry a_fixed a_value a_code a_extra a_task a_phase a_hole a_pile a_frameA a_frameB a_back a_calledOf yf_made yf_depth yf_waiting yf_held yf_called yf_tired ya_kinds ya_parts ya_numbers ya_roots ya_stack ya_waits ya_values ya_firsts ya_seconds ya_counts hRB
  rcases fa_ix4 v1 (n := 4) (by omega) with hb | hb | ⟨f, hf, rfl⟩
  · unfold wpX_run
    refine xb_bad (Or.inl hb) (br_f (by decide) ?_)
    unfold wpY_run
    exact yf_no (Or.inl hb) (br_t rfl ⟨rfl, hRB⟩)
  · unfold wpX_run
    refine xb_bad (Or.inr hb) (br_f (by decide) ?_)
    unfold wpY_run
    exact yf_no (Or.inr hb) (br_t rfl ⟨rfl, hRB⟩)
  · refine fa_RBz hRB (fun sz rt hFN ek hz hyz hq => ?_)
    subst ek
    have hP := fa_prW hFN
    exact xx_run hP hf (fa_prX hFN) (fa_prS hFN) hz (fun q1 q2 q3 q4 q5 q6 q7 q8 q9 q10 q11 q12 q13 q14 q15 r1 r2 r3 r4 r5 r6 => yy_run hP hf (fa_prY hFN) hyz (fun y1 y2 y3 y4 y5 y6 => ⟨rfl, hq _ _ (fa_ev0Z hP hf) (fa_ev0Z hP hf)⟩))
theorem i_vc_ending {k : Nat} {u : SX} {v : SY} (I : i_Rel k u v) (hk : k + 5 ≤ 2560) (v1 : Int32) (v2 : Int32) (v3 : Int32) : wpX_ending (fun r u' => wpY_ending (fun r' v' => r' = r ∧ i_Rel (k + 5) u' v') v v1 v2 v3) u v1 v2 v3 := by
  refine zz_el (Q := fun u v => wpX_ending (fun r u' => wpY_ending (fun r' v' => r' = r ∧ i_Rel (k + 5) u' v') v v1 v2 v3) u v1 v2 v3) ?_ u v I
  intro f_made f_height f_versions f_codeSize f_tasks f_values f_frames f_called f_ended a_kind a_partA a_partB a_partC a_number a_size a_stack a_versionOf a_known a_knownA a_knownB a_entry a_fixed a_value a_code a_extra a_task a_phase a_hole a_pile a_frameA a_frameB a_back a_calledOf yf_made yf_depth yf_waiting yf_held yf_called yf_tired ya_kinds ya_parts ya_numbers ya_roots ya_stack ya_waits ya_values ya_firsts ya_seconds ya_counts hRB
  rcases fa_ix4 v1 (n := 4) (by omega) with hb | hb | ⟨f, hf, rfl⟩
  · unfold wpX_ending
    refine xb_bad (Or.inl hb) (br_f (by decide) ?_)
    unfold wpY_ending
    exact yf_no (Or.inl hb) (br_t rfl ⟨rfl, hRB⟩)
  · unfold wpX_ending
    refine xb_bad (Or.inr hb) (br_f (by decide) ?_)
    unfold wpY_ending
    exact yf_no (Or.inr hb) (br_t rfl ⟨rfl, hRB⟩)
  · refine fa_RBz hRB (fun sz rt hFN ek hz hyz hq => ?_)
    subst ek
    have hP := fa_prW hFN
    exact xx_ending hP hf (fa_prX hFN) (fa_prS hFN) hz (fun q1 q2 q3 q4 q5 q6 q7 q8 q9 q10 q11 q12 q13 q14 q15 r1 r2 r3 r4 r5 r6 => yy_ending hP hf (fa_prY hFN) hyz (fun y1 y2 y3 y4 y5 y6 => ⟨rfl, hq _ _ (fa_ev0Z hP hf) (fa_ev0Z hP hf)⟩))
theorem i_vc_calls {k : Nat} {u : SX} {v : SY} (I : i_Rel k u v) (hk : k + 5 ≤ 2560) (v1 : Int32) (v2 : Int32) (v3 : Int32) : wpX_calls (fun r u' => wpY_calls (fun r' v' => r' = r ∧ i_Rel (k + 5) u' v') v v1 v2 v3) u v1 v2 v3 := by
  refine zz_el (Q := fun u v => wpX_calls (fun r u' => wpY_calls (fun r' v' => r' = r ∧ i_Rel (k + 5) u' v') v v1 v2 v3) u v1 v2 v3) ?_ u v I
  intro f_made f_height f_versions f_codeSize f_tasks f_values f_frames f_called f_ended a_kind a_partA a_partB a_partC a_number a_size a_stack a_versionOf a_known a_knownA a_knownB a_entry a_fixed a_value a_code a_extra a_task a_phase a_hole a_pile a_frameA a_frameB a_back a_calledOf yf_made yf_depth yf_waiting yf_held yf_called yf_tired ya_kinds ya_parts ya_numbers ya_roots ya_stack ya_waits ya_values ya_firsts ya_seconds ya_counts hRB
  rcases fa_ix4 v1 (n := 4) (by omega) with hb | hb | ⟨f, hf, rfl⟩
  · unfold wpX_calls
    refine xb_bad (Or.inl hb) (br_f (by decide) ?_)
    unfold wpY_calls
    exact yf_no (Or.inl hb) (br_t rfl ⟨rfl, hRB⟩)
  · unfold wpX_calls
    refine xb_bad (Or.inr hb) (br_f (by decide) ?_)
    unfold wpY_calls
    exact yf_no (Or.inr hb) (br_t rfl ⟨rfl, hRB⟩)
  · refine fa_RBz hRB (fun sz rt hFN ek hz hyz hq => ?_)
    subst ek
    have hP := fa_prW hFN
    exact xx_calls hP hf (fa_prX hFN) (fa_prS hFN) hz (fun q1 q2 q3 q4 q5 q6 q7 q8 q9 q10 q11 q12 q13 q14 q15 r1 r2 r3 r4 r5 r6 => yy_calls hP hf (fa_prY hFN) hyz (fun y1 y2 y3 y4 y5 y6 => ⟨rfl, hq _ _ (fa_ev0Z hP hf) (fa_ev0Z hP hf)⟩))
theorem i_vc_callsOf {k : Nat} {u : SX} {v : SY} (I : i_Rel k u v) (hk : k + 5 ≤ 2560) (v1 : Int32) (v2 : Int32) (v3 : Int32) (v4 : Int32) : wpX_callsOf (fun r u' => wpY_callsOf (fun r' v' => r' = r ∧ i_Rel (k + 5) u' v') v v1 v2 v3 v4) u v1 v2 v3 v4 := by
  refine zz_el (Q := fun u v => wpX_callsOf (fun r u' => wpY_callsOf (fun r' v' => r' = r ∧ i_Rel (k + 5) u' v') v v1 v2 v3 v4) u v1 v2 v3 v4) ?_ u v I
  intro f_made f_height f_versions f_codeSize f_tasks f_values f_frames f_called f_ended a_kind a_partA a_partB a_partC a_number a_size a_stack a_versionOf a_known a_knownA a_knownB a_entry a_fixed a_value a_code a_extra a_task a_phase a_hole a_pile a_frameA a_frameB a_back a_calledOf yf_made yf_depth yf_waiting yf_held yf_called yf_tired ya_kinds ya_parts ya_numbers ya_roots ya_stack ya_waits ya_values ya_firsts ya_seconds ya_counts hRB
  rcases fa_ix4 v1 (n := 4) (by omega) with hb | hb | ⟨f, hf, rfl⟩
  · unfold wpX_callsOf
    refine xb_bad (Or.inl hb) (br_f (by decide) ?_)
    unfold wpY_callsOf
    exact yf_no (Or.inl hb) (br_t rfl ⟨rfl, hRB⟩)
  · unfold wpX_callsOf
    refine xb_bad (Or.inr hb) (br_f (by decide) ?_)
    unfold wpY_callsOf
    exact yf_no (Or.inr hb) (br_t rfl ⟨rfl, hRB⟩)
  · rcases fa_ix4 v4 (n := 4) (by omega) with hb | hb | ⟨g, hg, rfl⟩
    · unfold wpX_callsOf
      refine xb_ok hf (br_t rfl (xb_bad (Or.inl hb) (br_f (by decide) ?_)))
      unfold wpY_callsOf
      exact yf_ok hf (br_f (by decide) (yf_no (Or.inl hb) (br_t rfl ⟨rfl, hRB⟩)))
    · unfold wpX_callsOf
      refine xb_ok hf (br_t rfl (xb_bad (Or.inr hb) (br_f (by decide) ?_)))
      unfold wpY_callsOf
      exact yf_ok hf (br_f (by decide) (yf_no (Or.inr hb) (br_t rfl ⟨rfl, hRB⟩)))
    · refine fa_RBz hRB (fun sz rt hFN ek hz hyz hq => ?_)
      subst ek
      have hP := fa_prW hFN
      exact xx_callsOf hg hP hf (fa_prX hFN) (fa_prS hFN) hz (fun q1 q2 q3 q4 q5 q6 q7 q8 q9 q10 q11 q12 q13 q14 q15 r1 r2 r3 r4 r5 r6 => yy_callsOf hg hP hf (fa_prY hFN) hyz (fun y1 y2 y3 y4 y5 y6 => ⟨rfl, hq _ _ (fa_ev0Z hP hf) (fa_ev0Z hP hf)⟩))
theorem i_vc_sumOver {k : Nat} {u : SX} {v : SY} (I : i_Rel k u v) (hk : k + 5 ≤ 2560) (v1 : Int32) (v2 : Int32) (v3 : Int32) (v4 : Int32) : wpX_sumOver (fun r u' => wpY_sumOver (fun r' v' => r' = r ∧ i_Rel (k + 5) u' v') v v1 v2 v3 v4) u v1 v2 v3 v4 := by
  refine zz_el (Q := fun u v => wpX_sumOver (fun r u' => wpY_sumOver (fun r' v' => r' = r ∧ i_Rel (k + 5) u' v') v v1 v2 v3 v4) u v1 v2 v3 v4) ?_ u v I
  intro f_made f_height f_versions f_codeSize f_tasks f_values f_frames f_called f_ended a_kind a_partA a_partB a_partC a_number a_size a_stack a_versionOf a_known a_knownA a_knownB a_entry a_fixed a_value a_code a_extra a_task a_phase a_hole a_pile a_frameA a_frameB a_back a_calledOf yf_made yf_depth yf_waiting yf_held yf_called yf_tired ya_kinds ya_parts ya_numbers ya_roots ya_stack ya_waits ya_values ya_firsts ya_seconds ya_counts hRB
  rcases fa_ix4 v1 (n := 4) (by omega) with hb | hb | ⟨f, hf, rfl⟩
  · unfold wpX_sumOver
    refine xb_bad (Or.inl hb) (br_f (by decide) ?_)
    unfold wpY_sumOver
    exact yf_no (Or.inl hb) (br_t rfl ⟨rfl, hRB⟩)
  · unfold wpX_sumOver
    refine xb_bad (Or.inr hb) (br_f (by decide) ?_)
    unfold wpY_sumOver
    exact yf_no (Or.inr hb) (br_t rfl ⟨rfl, hRB⟩)
  · rcases fa_ix4 v4 (n := 9) (by omega) with hb | ⟨hb, hb2⟩ | ⟨n, hn, rfl⟩
    · unfold wpX_sumOver
      refine xb_ok hf (br_t rfl (br_t hb ?_))
      unfold wpY_sumOver
      exact yf_ok hf (br_f (by decide) (br_t hb ⟨rfl, hRB⟩))
    · have h8 : (8 : Int32) < v4 := by
        rw [Int32.le_iff_toInt_le, nI_toInt (by omega)] at hb2
        rw [Int32.lt_iff_toInt_lt, show (8 : Int32).toInt = 8 by decide]
        omega
      unfold wpX_sumOver
      refine xb_ok hf (br_t rfl (br_f hb (br_f (Int32.not_le.mpr h8) ?_)))
      unfold wpY_sumOver
      exact yf_ok hf (br_f (by decide) (br_f hb (br_t h8 ⟨rfl, hRB⟩)))
    · refine fa_RBz hRB (fun sz rt hFN ek hz hyz hq => ?_)
      subst ek
      have hP := fa_prW hFN
      exact xx_sum (n := n) (by omega) hP hf (fa_prX hFN) (fa_prS hFN) hz (fun q1 q2 q3 q4 q5 q6 q7 q8 q9 q10 q11 q12 q13 q14 q15 r1 r2 r3 r4 r5 r6 r7 r8 r9 z1 => yy_sum (n := n) (by omega) hP hf (fa_prY hFN) hyz (fun y1 y2 y3 y4 y5 y6 y7 y8 y9 z2 => ⟨rfl, hq _ _ z1 z2⟩))
theorem i_vc_solve {k : Nat} {u : SX} {v : SY} (I : i_Rel k u v) (hk : k + 5 ≤ 2560) (v1 : Int32) (v2 : Int32) (v3 : Int32) : wpX_solve (fun r u' => wpY_solve (fun r' v' => r' = r ∧ i_Rel (k + 5) u' v') v v1 v2 v3) u v1 v2 v3 := by
  refine zz_el (Q := fun u v => wpX_solve (fun r u' => wpY_solve (fun r' v' => r' = r ∧ i_Rel (k + 5) u' v') v v1 v2 v3) u v1 v2 v3) ?_ u v I
  intro f_made f_height f_versions f_codeSize f_tasks f_values f_frames f_called f_ended a_kind a_partA a_partB a_partC a_number a_size a_stack a_versionOf a_known a_knownA a_knownB a_entry a_fixed a_value a_code a_extra a_task a_phase a_hole a_pile a_frameA a_frameB a_back a_calledOf yf_made yf_depth yf_waiting yf_held yf_called yf_tired ya_kinds ya_parts ya_numbers ya_roots ya_stack ya_waits ya_values ya_firsts ya_seconds ya_counts hRB
  rcases fa_ix4 v1 (n := 4) (by omega) with hb | hb | ⟨f, hf, rfl⟩
  · unfold wpX_solve
    refine xb_bad (Or.inl hb) (br_f (by decide) ⟨1, ?_⟩)
    rw [wY_solve_3]
    exact br_f (by decide) (yf_no (Or.inl hb) (br_t rfl ⟨rfl, hRB⟩))
  · unfold wpX_solve
    refine xb_bad (Or.inr hb) (br_f (by decide) ⟨1, ?_⟩)
    rw [wY_solve_3]
    exact br_f (by decide) (yf_no (Or.inr hb) (br_t rfl ⟨rfl, hRB⟩))
  · refine fa_RBz hRB (fun sz rt hFN ek hz hyz hq => ?_)
    subst ek
    have hP := fa_prW hFN
    exact xx_slv hP hf (fa_prX hFN) (fa_prS hFN) hz (fun q1 q2 q3 q4 q5 q6 q7 q8 q9 q10 q11 q12 q13 q14 q15 r1 r2 r3 r4 r5 r6 r7 r8 r9 z1 => yy_slv hP hf (fa_prY hFN) hyz (fun y1 y2 y3 y4 y5 y6 y7 y8 y9 z2 => ⟨rfl, hq _ _ z1 z2⟩))
end
section
/-! Making terms: the relation is kept -/
section
variable {ki pA pB pC nu pt ynu stk ystk size yrt ki' pA' pB' pC' nu' pt' ynu' stk' ystk' : Nat → Int32} {sz sz' bd bd' rt : Nat → Nat} {m h d : Nat}
theorem fa_TKc {β t : Nat} (a1 : ki' (β + t) = ki (β + t)) (a2 : pA' (β + t) = pA (β + t)) (a3 : pB' (β + t) = pB (β + t)) (a4 : pC' (β + t) = pC (β + t)) (a5 : nu' (β + t) = nu (β + t)) (a6 : ynu' (β + t) = ynu (β + t))
    (a7 : ∀ i, i < 3 → pt' (3 * (β + t) + i) = pt (3 * (β + t) + i)) (a8 : ∀ j, j ≤ t → sz' (β + j) = sz (β + j)) (H : fa_TK ki pA pB pC nu pt ynu sz β t) : fa_TK ki' pA' pB' pC' nu' pt' ynu' sz' β t := by
  have p0 := a7 0 (by omega)
  have p1 := a7 1 (by omega)
  have p2 := a7 2 (by omega)
  have s0 := a8 t (Nat.le_refl t)
  rw [Nat.add_zero] at p0
  rcases H with ⟨k, n, z⟩ | ⟨k, n, n2, z⟩ | ⟨k, a, b, hk, ha, hb, ek, eA, eB, pA0, pB0, z⟩ | ⟨a, b, c, ha, hb, hc, ek, eA, eB, eC, pA0, pB0, pC0, z⟩
  · refine Or.inl ?_
    rw [a1, a5, a6, s0]; exact ⟨k, n, z⟩
  · refine Or.inr (Or.inl ?_)
    rw [a1, a5, a6, s0]; exact ⟨k, n, n2, z⟩
  · refine Or.inr (Or.inr (Or.inl ⟨k, a, b, hk, ha, hb, ?_⟩))
    rw [a1, a2, a3, p0, p1, s0, a8 a (by omega), a8 b (by omega)]
    exact ⟨ek, eA, eB, pA0, pB0, z⟩
  · refine Or.inr (Or.inr (Or.inr ⟨a, b, c, ha, hb, hc, ?_⟩))
    rw [a1, a2, a3, a4, p0, p1, p2, s0, a8 a (by omega), a8 b (by omega), a8 c (by omega)]
    exact ⟨ek, eA, eB, eC, pA0, pB0, pC0, z⟩
theorem fa_bdle (hs : ∀ i, i < h → bd i < bd (i + 1)) : ∀ k i, i + k = h → bd i ≤ bd h := by
  intro k
  induction k with
  | zero => intro i hi; have e : i = h := hi; subst e; exact Nat.le_refl _
  | succ k ih => intro i hi; have := ih (i + 1) (by omega); have := hs i (by omega); omega
def fa_szU (sz : Nat → Nat) (m S : Nat) : Nat → Nat := fun j => if j = 56 + m then S else sz j
def fa_bdU (bd : Nat → Nat) (m d : Nat) : Nat → Nat := fun j => if j = d + 1 then m + 1 else bd j
theorem mg_push (hM : fa_MG ki pA pB pC nu pt ynu stk ystk sz bd m h) (hm : m < 14) (hd : d ≤ h) (b1 : ∀ j, j ≠ 56 + m → ki' j = ki j) (b2 : ∀ j, j ≠ 56 + m → pA' j = pA j) (b3 : ∀ j, j ≠ 56 + m → pB' j = pB j) (b4 : ∀ j, j ≠ 56 + m → pC' j = pC j) (b5 : ∀ j, j ≠ 56 + m → nu' j = nu j) (b6 : ∀ j, j ≠ 56 + m → ynu' j = ynu j) (b7 : ∀ j, j < 3 * (56 + m) → pt' j = pt j)
    (b8 : ∀ j, j < d → stk' j = stk j ∧ ystk' j = ystk j) (b9 : stk' d = nI m) (b10 : ystk' d = nI (56 + m))
    (T : fa_TK ki' pA' pB' pC' nu' pt' ynu' (fa_szU sz m (m + 1 - bd d)) 56 m) : fa_MG ki' pA' pB' pC' nu' pt' ynu' stk' ystk' (fa_szU sz m (m + 1 - bd d)) (fa_bdU bd m d) (m + 1) (d + 1) := by
  obtain ⟨m1, m2, m3, m4, m5⟩ := hM
  have ms : ∀ i, i < h → bd i < bd (i + 1) := fun i hi => (m4 i hi).1
  have ml : ∀ i, i ≤ h → bd i ≤ m := fun i hi => by have := fa_bdle ms (h - i) i (by omega); omega
  have e0 : ∀ j, j ≠ d + 1 → fa_bdU bd m d j = bd j := fun j hj => if_neg hj
  have e1 : fa_bdU bd m d (d + 1) = m + 1 := if_pos rfl
  have z0 : ∀ j, j ≠ 56 + m → fa_szU sz m (m + 1 - bd d) j = sz j := fun j hj => if_neg hj
  have z1 : fa_szU sz m (m + 1 - bd d) (56 + m) = m + 1 - bd d := if_pos rfl
  refine ⟨by omega, (e0 0 (by omega)).trans m2, e1, fun i hi => ?_, fun t ht => ?_⟩
  · by_cases z : i = d
    · subst z
      rw [e1, e0 i (by omega), b9, b10]
      have q := ml i hd
      refine ⟨by omega, ?_, ?_, ?_⟩
      · rw [Nat.add_sub_cancel]
      · rw [Nat.add_sub_cancel]
      · rw [Nat.add_sub_cancel, z1]
    · have y := m4 i (by omega)
      have q := ml (i + 1) (by omega)
      rw [e0 i (by omega), e0 (i + 1) (by omega), (b8 i (by omega)).1, (b8 i (by omega)).2, z0 _ (by omega)]
      exact y
  · by_cases z : t = m
    · subst z; exact T
    · exact fa_TKc (b1 _ (by omega)) (b2 _ (by omega)) (b3 _ (by omega)) (b4 _ (by omega)) (b5 _ (by omega)) (b6 _ (by omega)) (fun i hi => b7 _ (by omega)) (fun j hj => z0 _ (by omega)) (m5 t (by omega))
theorem fn_push {S : Nat} (hF : fa_FN ki pA pB pC nu pt ynu size yrt sz rt) (b1 : ∀ j, j ≠ 56 + m → ki' j = ki j) (b2 : ∀ j, j ≠ 56 + m → pA' j = pA j) (b3 : ∀ j, j ≠ 56 + m → pB' j = pB j) (b4 : ∀ j, j ≠ 56 + m → pC' j = pC j) (b5 : ∀ j, j ≠ 56 + m → nu' j = nu j) (b6 : ∀ j, j ≠ 56 + m → ynu' j = ynu j) (b7 : ∀ j, j < 3 * (56 + m) → pt' j = pt j) : fa_FN ki' pA' pB' pC' nu' pt' ynu' size yrt (fa_szU sz m S) rt := by
  have z0 : ∀ j, j ≠ 56 + m → fa_szU sz m S j = sz j := fun j hj => if_neg hj
  intro f hf
  obtain ⟨h1, h2, h3, h4, h5⟩ := hF f hf
  refine ⟨h1, h2, h3, by rw [z0 _ (by omega)]; exact h4, fun t ht => ?_⟩
  exact fa_TKc (b1 _ (by omega)) (b2 _ (by omega)) (b3 _ (by omega)) (b4 _ (by omega)) (b5 _ (by omega)) (b6 _ (by omega)) (fun i hi => b7 _ (by omega)) (fun j hj => z0 _ (by omega)) (h5 t ht)
end
section
variable {f_made f_height f_versions f_codeSize f_tasks f_values f_frames f_called f_ended : Int32} {a_kind a_partA a_partB a_partC a_number a_size a_stack a_versionOf a_known a_knownA a_knownB a_entry a_fixed a_value a_code a_extra a_task a_phase a_hole a_pile a_frameA a_frameB a_back a_calledOf : Nat → Int32}
theorem xk_make {post : Int32 → SX → Prop} {m : Nat} {p0 p1 p2 p3 : Int32} (hm : m < 14)
    (H : post (nI m) (nI (m + 1), f_height, f_versions, f_codeSize, f_tasks, f_values, f_frames, f_called, f_ended, upd a_kind (56 + m) p0, upd a_partA (56 + m) p1, upd a_partB (56 + m) p2, upd a_partC (56 + m) p3, a_number, a_size, a_stack, a_versionOf, a_known, a_knownA, a_knownB, a_entry, a_fixed, a_value, a_code, a_extra, a_task, a_phase, a_hole, a_pile, a_frameA, a_frameB, a_back, a_calledOf)) : wpX_make post (nI m, f_height, f_versions, f_codeSize, f_tasks, f_values, f_frames, f_called, f_ended, a_kind, a_partA, a_partB, a_partC, a_number, a_size, a_stack, a_versionOf, a_known, a_knownA, a_knownB, a_entry, a_fixed, a_value, a_code, a_extra, a_task, a_phase, a_hole, a_pile, a_frameA, a_frameB, a_back, a_calledOf) p0 p1 p2 p3 := by
  have i7 : vp_in (nI (56 + m)) 70 := vp_in_nI (by omega) (by omega)
  refine nm_r (nI_add 56 m) (And.intro i7 (nm_r (fa_ux (by omega)) (And.intro i7 (nm_r (fa_ux (by omega)) (And.intro i7 (nm_r (fa_ux (by omega)) (And.intro i7 (nm_r (fa_ux (by omega)) (nm_r (nI_1 m) ?_)))))))))
  rw [nI_pred]; exact H
theorem xk_leaf {post : Int32 → SX → Prop} {m h : Nat} {p0 p1 : Int32} (hm : m < 14) (hh : h < 14)
    (H : post (nI (h + 1)) (nI (m + 1), nI (h + 1), f_versions, f_codeSize, f_tasks, f_values, f_frames, f_called, f_ended, upd a_kind (56 + m) p0, upd a_partA (56 + m) 0, upd a_partB (56 + m) 0, upd a_partC (56 + m) 0, upd a_number (56 + m) p1, a_size, upd a_stack h (nI m), a_versionOf, a_known, a_knownA, a_knownB, a_entry, a_fixed, a_value, a_code, a_extra, a_task, a_phase, a_hole, a_pile, a_frameA, a_frameB, a_back, a_calledOf)) : wpX_leaf post (nI m, nI h, f_versions, f_codeSize, f_tasks, f_values, f_frames, f_called, f_ended, a_kind, a_partA, a_partB, a_partC, a_number, a_size, a_stack, a_versionOf, a_known, a_knownA, a_knownB, a_entry, a_fixed, a_value, a_code, a_extra, a_task, a_phase, a_hole, a_pile, a_frameA, a_frameB, a_back, a_calledOf) p0 p1 := by
  refine br_f (fa_ne (b := 14) (by omega) (by omega) (by omega)) (xk_make hm ?_)
  have e : (56 : Int32) + nI m = nI (56 + m) := nI_add 56 m
  show vp_in (56 + nI m) 70 ∧ _
  rw [e]
  exact And.intro (vp_in_nI (by omega) (by omega)) (nm_r (fa_ux (by omega)) (And.intro (vp_in_nI hh (by omega)) (nm_r (fa_ux (by omega)) (nm_r (nI_1 h) H))))
theorem xk_leafF {post : Int32 → SX → Prop} {p0 p1 : Int32} (H : post (-2) (nI 14, f_height, f_versions, f_codeSize, f_tasks, f_values, f_frames, f_called, f_ended, a_kind, a_partA, a_partB, a_partC, a_number, a_size, a_stack, a_versionOf, a_known, a_knownA, a_knownB, a_entry, a_fixed, a_value, a_code, a_extra, a_task, a_phase, a_hole, a_pile, a_frameA, a_frameB, a_back, a_calledOf)) : wpX_leaf post (nI 14, f_height, f_versions, f_codeSize, f_tasks, f_values, f_frames, f_called, f_ended, a_kind, a_partA, a_partB, a_partC, a_number, a_size, a_stack, a_versionOf, a_known, a_knownA, a_knownB, a_entry, a_fixed, a_value, a_code, a_extra, a_task, a_phase, a_hole, a_pile, a_frameA, a_frameB, a_back, a_calledOf) p0 p1 := br_t rfl H
end
section
variable {yf_made yf_depth yf_waiting yf_held yf_called yf_tired : Int32} {ya_kinds ya_parts ya_numbers ya_roots ya_stack ya_waits ya_values ya_firsts ya_seconds ya_counts : Nat → Int32}
theorem yn_end {post : Int32 → SY → Prop} {n m d tk : Nat} {x1 x3 : Int32} (hm : m < 14) (hd : d < 14) (ht : tk < 4)
    (H : post (nI (d + 1)) (nI (m + 1), nI (d + 1), yf_waiting, yf_held, yf_called, yf_tired, upd ya_kinds (56 + m) x1, ya_parts, upd ya_numbers (56 + m) x3, ya_roots, upd ya_stack d (nI (56 + m)), ya_waits, ya_values, ya_firsts, ya_seconds, ya_counts)) :
    wY_note_22 post x1 (nI tk) x3 (nI (56 + m)) (nI m) (nI d) yf_waiting yf_held yf_called yf_tired (n + 1) (nI tk) ya_kinds ya_parts ya_numbers ya_roots ya_stack ya_waits ya_values ya_firsts ya_seconds ya_counts := by
  have i7 : vp_in (nI (56 + m)) 70 := vp_in_nI (by omega) (by omega)
  rw [wY_note_22]
  exact br_t (nI_le (Nat.le_refl _) (by omega)) (And.intro i7 (nm_r (fa_ux (by omega)) (And.intro i7 (nm_r (fa_ux (by omega)) (And.intro (vp_in_nI hd (by omega)) (nm_r (fa_ux (by omega)) (nm_r (nI_1 m) (nm_r (nI_1 d) H))))))))
theorem yn_st {post : Int32 → SY → Prop} {n m d tk i : Nat} {x1 x3 : Int32} (hm : m < 14) (hd : d + i < 14) (ht : tk < 4) (hi : i < tk)
    (H : wY_note_22 post x1 (nI tk) x3 (nI (56 + m)) (nI m) (nI d) yf_waiting yf_held yf_called yf_tired n (nI (i + 1)) ya_kinds (upd ya_parts (3 * (56 + m) + i) (ya_stack (d + i))) ya_numbers ya_roots ya_stack ya_waits ya_values ya_firsts ya_seconds ya_counts) :
    wY_note_22 post x1 (nI tk) x3 (nI (56 + m)) (nI m) (nI d) yf_waiting yf_held yf_called yf_tired (n + 1) (nI i) ya_kinds ya_parts ya_numbers ya_roots ya_stack ya_waits ya_values ya_firsts ya_seconds ya_counts := by
  have e : (3 : Int32) * nI (56 + m) + nI i = nI (3 * (56 + m) + i) := by rw [fa_3m]; exact nI_add _ _
  have e2 : nI d + nI i = nI (d + i) := nI_add _ _
  have hu : upd ya_parts ((3 : Int32) * nI (56 + m) + nI i).toNatClampNeg (ya_stack (nI d + nI i).toNatClampNeg) = upd ya_parts (3 * (56 + m) + i) (ya_stack (d + i)) := by
    rw [e, e2, nI_clamp (by omega), nI_clamp (by omega)]
  rw [wY_note_22]
  refine br_f (nI_ge hi (by omega)) (And.intro (by rw [e2]; exact vp_in_nI hd (by omega)) (And.intro (by rw [e]; exact vp_in_nI (by omega) (by omega)) (nm_r hu (nm_r (nI_1 i) H))))
theorem yn_pre {post : Int32 → SY → Prop} {m d tk : Nat} {x1 x3 : Int32}
    (H : ∃ n, wY_note_22 post x1 (nI tk) x3 (nI (56 + m)) (nI m) (nI d) yf_waiting yf_held yf_called yf_tired n (nI 0) ya_kinds ya_parts ya_numbers ya_roots ya_stack ya_waits ya_values ya_firsts ya_seconds ya_counts) : wpY_note post (nI m, nI (d + tk), yf_waiting, yf_held, yf_called, yf_tired, ya_kinds, ya_parts, ya_numbers, ya_roots, ya_stack, ya_waits, ya_values, ya_firsts, ya_seconds, ya_counts) x1 (nI tk) x3 := by
  have e : nI (d + tk) - nI tk = nI d := by rw [pk_sub (by omega), Nat.add_sub_cancel]
  exact nm_r e (nm_r (nI_add 56 m) H)
theorem yn_0 {post : Int32 → SY → Prop} {m d : Nat} {x1 x3 : Int32} (hm : m < 14) (hd : d < 14)
    (H : post (nI (d + 1)) (nI (m + 1), nI (d + 1), yf_waiting, yf_held, yf_called, yf_tired, upd ya_kinds (56 + m) x1, ya_parts, upd ya_numbers (56 + m) x3, ya_roots, upd ya_stack d (nI (56 + m)), ya_waits, ya_values, ya_firsts, ya_seconds, ya_counts)) :
    wpY_note post (nI m, nI d, yf_waiting, yf_held, yf_called, yf_tired, ya_kinds, ya_parts, ya_numbers, ya_roots, ya_stack, ya_waits, ya_values, ya_firsts, ya_seconds, ya_counts) x1 0 x3 := yn_pre (tk := 0) ⟨1, yn_end hm hd (by omega) H⟩
theorem yn_2 {post : Int32 → SY → Prop} {m d : Nat} {x1 x3 : Int32} (hm : m < 14) (hd : d + 2 < 15)
    (H : post (nI (d + 1)) (nI (m + 1), nI (d + 1), yf_waiting, yf_held, yf_called, yf_tired, upd ya_kinds (56 + m) x1, upd (upd ya_parts (3 * (56 + m) + 0) (ya_stack (d + 0))) (3 * (56 + m) + 1) (ya_stack (d + 1)), upd ya_numbers (56 + m) x3, ya_roots, upd ya_stack d (nI (56 + m)), ya_waits, ya_values, ya_firsts, ya_seconds, ya_counts)) :
    wpY_note post (nI m, nI (d + 2), yf_waiting, yf_held, yf_called, yf_tired, ya_kinds, ya_parts, ya_numbers, ya_roots, ya_stack, ya_waits, ya_values, ya_firsts, ya_seconds, ya_counts) x1 2 x3 := yn_pre (tk := 2) ⟨3, yn_st hm (by omega) (by omega) (by omega) (yn_st hm (by omega) (by omega) (by omega) (yn_end hm (by omega) (by omega) H))⟩
theorem yn_3 {post : Int32 → SY → Prop} {m d : Nat} {x1 x3 : Int32} (hm : m < 14) (hd : d + 3 < 15)
    (H : post (nI (d + 1)) (nI (m + 1), nI (d + 1), yf_waiting, yf_held, yf_called, yf_tired, upd ya_kinds (56 + m) x1, upd (upd (upd ya_parts (3 * (56 + m) + 0) (ya_stack (d + 0))) (3 * (56 + m) + 1) (ya_stack (d + 1))) (3 * (56 + m) + 2) (ya_stack (d + 2)), upd ya_numbers (56 + m) x3, ya_roots, upd ya_stack d (nI (56 + m)), ya_waits, ya_values, ya_firsts, ya_seconds, ya_counts)) :
    wpY_note post (nI m, nI (d + 3), yf_waiting, yf_held, yf_called, yf_tired, ya_kinds, ya_parts, ya_numbers, ya_roots, ya_stack, ya_waits, ya_values, ya_firsts, ya_seconds, ya_counts) x1 3 x3 := yn_pre (tk := 3) ⟨4, yn_st hm (by omega) (by omega) (by omega) (yn_st hm (by omega) (by omega) (by omega) (yn_st hm (by omega) (by omega) (by omega) (yn_end hm (by omega) (by omega) H)))⟩
end
end
section
/-! The owed statements about making terms -/
section
variable {ki pA pB pC nu size stk co pt ynu yrt ystk yco : Nat → Int32} {sz bd rt : Nat → Nat} {m h : Nat}
theorem rb_leaf {κ x : Int32} (hκ : κ = 9 ∨ (κ = 10 ∧ (x = 0 ∨ x = 1))) (hm : m < 14) (hM : fa_MG ki pA pB pC nu pt ynu stk ystk sz bd m h) (hF : fa_FN ki pA pB pC nu pt ynu size yrt sz rt) (hz : fa_Z4 co) (hyz : fa_Z4 yco) :
    fa_RB (nI (m + 1)) (nI (h + 1)) (upd ki (56 + m) κ) (upd pA (56 + m) 0) (upd pB (56 + m) 0) (upd pC (56 + m) 0) (upd nu (56 + m) x) size (upd stk h (nI m)) co (nI (m + 1)) (nI (h + 1)) (upd ki (56 + m) κ) pt (upd ynu (56 + m) x) yrt (upd ystk h (nI (56 + m))) yco := by
  have hb := hM.2.2.1
  have z1 : fa_szU sz m (m + 1 - bd h) (56 + m) = 1 := (if_pos rfl).trans (by omega)
  refine ⟨fa_szU sz m (m + 1 - bd h), fa_bdU bd m h, rt, m + 1, h + 1, rfl, rfl, rfl, rfl, rfl, ?_, ?_, hz, hyz⟩
  · refine mg_push hM hm (Nat.le_refl _) (fun j hj => pk_un hj) (fun j hj => pk_un hj) (fun j hj => pk_un hj) (fun j hj => pk_un hj) (fun j hj => pk_un hj) (fun j hj => pk_un hj) (fun j hj => rfl) (fun j hj => ⟨pk_un (by omega), pk_un (by omega)⟩) pk_us pk_us ?_
    rcases hκ with rfl | ⟨rfl, hx⟩
    · exact Or.inl ⟨pk_us, pk_us.trans pk_us.symm, z1⟩
    · refine Or.inr (Or.inl ⟨pk_us, pk_us.trans pk_us.symm, ?_, z1⟩)
      rw [pk_us]; exact hx
  · exact fn_push (m := m) hF (fun j hj => pk_un hj) (fun j hj => pk_un hj) (fun j hj => pk_un hj) (fun j hj => pk_un hj) (fun j hj => pk_un hj) (fun j hj => pk_un hj) (fun j hj => rfl)
theorem rb_two {op d : Nat} (ho : op < 8) (hm : m < 14) (hM : fa_MG ki pA pB pC nu pt ynu stk ystk sz bd m (d + 2)) (hF : fa_FN ki pA pB pC nu pt ynu size yrt sz rt) (hz : fa_Z4 co) (hyz : fa_Z4 yco) :
    fa_RB (nI (m + 1)) (nI (d + 1)) (upd ki (56 + m) (nI op)) (upd pA (56 + m) (stk d)) (upd pB (56 + m) (stk (d + 1))) (upd pC (56 + m) 0) nu size (upd stk d (nI m)) co (nI (m + 1)) (nI (d + 1)) (upd ki (56 + m) (nI op))
      (upd (upd pt (3 * (56 + m) + 0) (ystk (d + 0))) (3 * (56 + m) + 1) (ystk (d + 1))) (upd ynu (56 + m) 0) yrt (upd ystk d (nI (56 + m))) yco := by
  have hb := hM.2.2.1
  have y0 := hM.2.2.2.1 d (by omega)
  have y1 := hM.2.2.2.1 (d + 1) (by omega)
  have hb' : bd (d + 1 + 1) = m := hb
  have b7 : ∀ j, j < 3 * (56 + m) → upd (upd pt (3 * (56 + m) + 0) (ystk (d + 0))) (3 * (56 + m) + 1) (ystk (d + 1)) j = pt j := fun j hj => (pk_un (by omega)).trans (pk_un (by omega))
  have s0 : ∀ j, j ≠ 56 + m → fa_szU sz m (m + 1 - bd d) j = sz j := fun j hj => if_neg hj
  have s1 : fa_szU sz m (m + 1 - bd d) (56 + m) = m + 1 - bd d := if_pos rfl
  refine ⟨fa_szU sz m (m + 1 - bd d), fa_bdU bd m d, rt, m + 1, d + 1, rfl, rfl, rfl, rfl, rfl, ?_, ?_, hz, hyz⟩
  · refine mg_push hM hm (by omega) (fun j hj => pk_un hj) (fun j hj => pk_un hj) (fun j hj => pk_un hj) (fun j hj => pk_un hj) (fun j hj => rfl) (fun j hj => pk_un hj) b7 (fun j hj => ⟨pk_un (by omega), pk_un (by omega)⟩) pk_us pk_us ?_
    refine Or.inr (Or.inr (Or.inl ⟨op, bd (d + 1) - 1, bd (d + 1 + 1) - 1, ho, by omega, by omega, pk_us, pk_us.trans y0.2.1, pk_us.trans y1.2.1, ?_, pk_us.trans y1.2.2.1, ?_⟩))
    · exact (pk_un (by omega)).trans (pk_us.trans y0.2.2.1)
    · rw [s1, s0 _ (by omega), s0 _ (by omega), y0.2.2.2, y1.2.2.2]; omega
  · exact fn_push (m := m) hF (fun j hj => pk_un hj) (fun j hj => pk_un hj) (fun j hj => pk_un hj) (fun j hj => pk_un hj) (fun j hj => rfl) (fun j hj => pk_un hj) b7
theorem rb_cho {d : Nat} (hm : m < 14) (hM : fa_MG ki pA pB pC nu pt ynu stk ystk sz bd m (d + 3)) (hF : fa_FN ki pA pB pC nu pt ynu size yrt sz rt) (hz : fa_Z4 co) (hyz : fa_Z4 yco) :
    fa_RB (nI (m + 1)) (nI (d + 1)) (upd ki (56 + m) 8) (upd pA (56 + m) (stk d)) (upd pB (56 + m) (stk (d + 1))) (upd pC (56 + m) (stk (d + 2))) nu size (upd stk d (nI m)) co (nI (m + 1)) (nI (d + 1)) (upd ki (56 + m) 8)
      (upd (upd (upd pt (3 * (56 + m) + 0) (ystk (d + 0))) (3 * (56 + m) + 1) (ystk (d + 1))) (3 * (56 + m) + 2) (ystk (d + 2))) (upd ynu (56 + m) 0) yrt (upd ystk d (nI (56 + m))) yco := by
  have hb := hM.2.2.1
  have y0 := hM.2.2.2.1 d (by omega)
  have y1 := hM.2.2.2.1 (d + 1) (by omega)
  have y2 := hM.2.2.2.1 (d + 2) (by omega)
  have hb' : bd (d + 2 + 1) = m := hb
  have b7 : ∀ j, j < 3 * (56 + m) → upd (upd (upd pt (3 * (56 + m) + 0) (ystk (d + 0))) (3 * (56 + m) + 1) (ystk (d + 1))) (3 * (56 + m) + 2) (ystk (d + 2)) j = pt j := fun j hj => (pk_un (by omega)).trans ((pk_un (by omega)).trans (pk_un (by omega)))
  have s0 : ∀ j, j ≠ 56 + m → fa_szU sz m (m + 1 - bd d) j = sz j := fun j hj => if_neg hj
  have s1 : fa_szU sz m (m + 1 - bd d) (56 + m) = m + 1 - bd d := if_pos rfl
  have q1 : bd (d + 1 + 1) = bd (d + 2) := rfl
  refine ⟨fa_szU sz m (m + 1 - bd d), fa_bdU bd m d, rt, m + 1, d + 1, rfl, rfl, rfl, rfl, rfl, ?_, ?_, hz, hyz⟩
  · refine mg_push hM hm (by omega) (fun j hj => pk_un hj) (fun j hj => pk_un hj) (fun j hj => pk_un hj) (fun j hj => pk_un hj) (fun j hj => rfl) (fun j hj => pk_un hj) b7 (fun j hj => ⟨pk_un (by omega), pk_un (by omega)⟩) pk_us pk_us ?_
    refine Or.inr (Or.inr (Or.inr ⟨bd (d + 1) - 1, bd (d + 1 + 1) - 1, bd (d + 2 + 1) - 1, by omega, by omega, by omega, pk_us, pk_us.trans y0.2.1, pk_us.trans y1.2.1, pk_us.trans y2.2.1, ?_, ?_, pk_us.trans y2.2.2.1, ?_⟩))
    · exact (pk_un (by omega)).trans ((pk_un (by omega)).trans (pk_us.trans y0.2.2.1))
    · exact (pk_un (by omega)).trans (pk_us.trans y1.2.2.1)
    · rw [s1, s0 _ (by omega), s0 _ (by omega), s0 _ (by omega), y0.2.2.2, y1.2.2.2, y2.2.2.2]; omega
  · exact fn_push (m := m) hF (fun j hj => pk_un hj) (fun j hj => pk_un hj) (fun j hj => pk_un hj) (fun j hj => pk_un hj) (fun j hj => rfl) (fun j hj => pk_un hj) b7
theorem mg_h (hM : fa_MG ki pA pB pC nu pt ynu stk ystk sz bd m h) : h ≤ m := by
  have := fa_hm hM.2.1 (fun i hi => (hM.2.2.2.1 i hi).1) h (Nat.le_refl h)
  have := hM.2.2.1
  omega
end
theorem i_vc_constant {k : Nat} {u : SX} {v : SY} (I : i_Rel k u v) (hk : k + 5 ≤ 2560) (v1 : Int32) : wpX_constant (fun r u' => wpY_constant (fun r' v' => r' = r ∧ i_Rel (k + 5) u' v') v v1) u v1 := by
  refine zz_el (Q := fun u v => wpX_constant (fun r u' => wpY_constant (fun r' v' => r' = r ∧ i_Rel (k + 5) u' v') v v1) u v1) ?_ u v I
  intro f_made f_height f_versions f_codeSize f_tasks f_values f_frames f_called f_ended a_kind a_partA a_partB a_partC a_number a_size a_stack a_versionOf a_known a_knownA a_knownB a_entry a_fixed a_value a_code a_extra a_task a_phase a_hole a_pile a_frameA a_frameB a_back a_calledOf yf_made yf_depth yf_waiting yf_held yf_called yf_tired ya_kinds ya_parts ya_numbers ya_roots ya_stack ya_waits ya_values ya_firsts ya_seconds ya_counts hRB
  unfold wpX_constant
  by_cases a : v1 < -20
  · refine br_t a ?_
    unfold wpY_constant
    exact br_t a ⟨rfl, hRB⟩
  · refine br_f a ?_
    by_cases b : v1 ≤ 20
    · refine br_t b ?_
      have hRB2 := hRB
      obtain ⟨sz, bd, rt, m, h, rfl, rfl, rfl, rfl, rfl, hMG, hFN, hz, hyz⟩ := hRB; have hhm := mg_h hMG; have hm14 := hMG.1
      by_cases e : m = 14
      · subst e
        refine xk_leafF ?_
        unfold wpY_constant
        exact br_f a (br_t b (br_t rfl ⟨rfl, hRB2⟩))
      · refine xk_leaf (by omega) (by omega) ?_
        unfold wpY_constant
        exact br_f a (br_t b (br_f (fa_ne (b := 14) e (by omega) (by omega)) (yn_0 (by omega) (by omega) ⟨rfl, rb_leaf (Or.inl rfl) (by omega) hMG hFN hz hyz⟩)))
    · refine br_f b ?_
      unfold wpY_constant
      exact br_f a (br_f b ⟨rfl, hRB⟩)
theorem i_vc_argument {k : Nat} {u : SX} {v : SY} (I : i_Rel k u v) (hk : k + 5 ≤ 2560) (v1 : Int32) : wpX_argument (fun r u' => wpY_argument (fun r' v' => r' = r ∧ i_Rel (k + 5) u' v') v v1) u v1 := by
  refine zz_el (Q := fun u v => wpX_argument (fun r u' => wpY_argument (fun r' v' => r' = r ∧ i_Rel (k + 5) u' v') v v1) u v1) ?_ u v I
  intro f_made f_height f_versions f_codeSize f_tasks f_values f_frames f_called f_ended a_kind a_partA a_partB a_partC a_number a_size a_stack a_versionOf a_known a_knownA a_knownB a_entry a_fixed a_value a_code a_extra a_task a_phase a_hole a_pile a_frameA a_frameB a_back a_calledOf yf_made yf_depth yf_waiting yf_held yf_called yf_tired ya_kinds ya_parts ya_numbers ya_roots ya_stack ya_waits ya_values ya_firsts ya_seconds ya_counts hRB
  unfold wpX_argument
  by_cases a : v1 < 0
  · refine br_t a ?_
    unfold wpY_argument
    exact br_t a ⟨rfl, hRB⟩
  · refine br_f a ?_
    by_cases b : v1 ≤ 1
    · refine br_t b ?_
      have h01 : v1 = 0 ∨ v1 = 1 := by
        obtain ⟨j, hj, e⟩ := nI_of2 (M := 1) (n := 1) (by decide) a b
        have hj2 : j = 0 ∨ j = 1 := by omega
        rcases hj2 with rfl | rfl
        · exact Or.inl e
        · exact Or.inr e
      have hRB2 := hRB
      obtain ⟨sz, bd, rt, m, h, rfl, rfl, rfl, rfl, rfl, hMG, hFN, hz, hyz⟩ := hRB; have hhm := mg_h hMG; have hm14 := hMG.1
      by_cases e : m = 14
      · subst e
        refine xk_leafF ?_
        unfold wpY_argument
        exact br_f a (br_t b (br_t rfl ⟨rfl, hRB2⟩))
      · refine xk_leaf (by omega) (by omega) ?_
        unfold wpY_argument
        exact br_f a (br_t b (br_f (fa_ne (b := 14) e (by omega) (by omega)) (yn_0 (by omega) (by omega) ⟨rfl, rb_leaf (Or.inr ⟨rfl, h01⟩) (by omega) hMG hFN hz hyz⟩)))
    · refine br_f b ?_
      unfold wpY_argument
      exact br_f a (br_f b ⟨rfl, hRB⟩)
theorem i_vc_two {k : Nat} {u : SX} {v : SY} (I : i_Rel k u v) (hk : k + 5 ≤ 2560) (v1 : Int32) : wpX_two (fun r u' => wpY_two (fun r' v' => r' = r ∧ i_Rel (k + 5) u' v') v v1) u v1 := by
  refine zz_el (Q := fun u v => wpX_two (fun r u' => wpY_two (fun r' v' => r' = r ∧ i_Rel (k + 5) u' v') v v1) u v1) ?_ u v I
  intro f_made f_height f_versions f_codeSize f_tasks f_values f_frames f_called f_ended a_kind a_partA a_partB a_partC a_number a_size a_stack a_versionOf a_known a_knownA a_knownB a_entry a_fixed a_value a_code a_extra a_task a_phase a_hole a_pile a_frameA a_frameB a_back a_calledOf yf_made yf_depth yf_waiting yf_held yf_called yf_tired ya_kinds ya_parts ya_numbers ya_roots ya_stack ya_waits ya_values ya_firsts ya_seconds ya_counts hRB
  unfold wpX_two
  by_cases a : v1 < 0
  · refine br_t a ?_
    unfold wpY_two
    exact br_t a ⟨rfl, hRB⟩
  · refine br_f a ?_
    by_cases b : v1 ≤ 7
    · refine br_t b ?_
      obtain ⟨op, hop, eop⟩ := nI_of2 (M := 7) (n := 7) (by decide) a b
      subst eop
      have hRB2 := hRB
      obtain ⟨sz, bd, rt, m, h, rfl, rfl, rfl, rfl, rfl, hMG, hFN, hz, hyz⟩ := hRB; have hhm := mg_h hMG; have hm14 := hMG.1
      by_cases e : m = 14
      · subst e
        refine br_t rfl ?_
        unfold wpY_two
        exact br_f a (br_t b (br_t rfl ⟨rfl, hRB2⟩))
      · have e' : ¬ nI m = 14 := fa_ne (b := 14) e (by omega) (by omega)
        refine br_f e' ?_
        by_cases h2 : 2 ≤ h
        · obtain ⟨d, rfl⟩ : ∃ d, h = d + 2 := ⟨h - 2, by omega⟩
          have hle : (2 : Int32) ≤ nI (d + 2) := nI_le (a := 2) (by omega) (by omega)
          refine br_t hle (nm_r (nI_pred (d + 1)) ?_)
          rw [nI_pred]
          refine And.intro (vp_in_nI (by omega) (by omega)) (And.intro (vp_in_nI (by omega) (by omega)) (xk_make (by omega) ?_))
          refine And.intro (vp_in_nI (by omega) (by omega)) ?_
          rw [nI_clamp (show d < 2 ^ 31 by omega), nI_clamp (show d + 1 < 2 ^ 31 by omega)]
          refine nm_e ?_
          unfold wpY_two
          exact br_f a (br_t b (br_f e' (br_t hle (yn_2 (by omega) (by omega) ⟨rfl, rb_two (by omega) (by omega) hMG hFN hz hyz⟩))))
        · have hle : ¬ (2 : Int32) ≤ nI h := nI_ge (b := 2) (by omega) (by omega)
          refine br_f hle ?_
          unfold wpY_two
          exact br_f a (br_t b (br_f e' (br_f hle ⟨rfl, hRB2⟩)))
    · refine br_f b ?_
      unfold wpY_two
      exact br_f a (br_f b ⟨rfl, hRB⟩)
theorem i_vc_choose {k : Nat} {u : SX} {v : SY} (I : i_Rel k u v) (hk : k + 5 ≤ 2560) : wpX_choose (fun r u' => wpY_choose (fun r' v' => r' = r ∧ i_Rel (k + 5) u' v') v) u := by
  refine zz_el (Q := fun u v => wpX_choose (fun r u' => wpY_choose (fun r' v' => r' = r ∧ i_Rel (k + 5) u' v') v) u) ?_ u v I
  intro f_made f_height f_versions f_codeSize f_tasks f_values f_frames f_called f_ended a_kind a_partA a_partB a_partC a_number a_size a_stack a_versionOf a_known a_knownA a_knownB a_entry a_fixed a_value a_code a_extra a_task a_phase a_hole a_pile a_frameA a_frameB a_back a_calledOf yf_made yf_depth yf_waiting yf_held yf_called yf_tired ya_kinds ya_parts ya_numbers ya_roots ya_stack ya_waits ya_values ya_firsts ya_seconds ya_counts hRB
  unfold wpX_choose
  have hRB2 := hRB
  obtain ⟨sz, bd, rt, m, h, rfl, rfl, rfl, rfl, rfl, hMG, hFN, hz, hyz⟩ := hRB; have hhm := mg_h hMG; have hm14 := hMG.1
  by_cases e : m = 14
  · subst e
    refine br_t rfl ?_
    unfold wpY_choose
    exact br_t rfl ⟨rfl, hRB2⟩
  · have e' : ¬ nI m = 14 := fa_ne (b := 14) e (by omega) (by omega)
    refine br_f e' ?_
    by_cases h2 : 3 ≤ h
    · obtain ⟨d, rfl⟩ : ∃ d, h = d + 3 := ⟨h - 3, by omega⟩
      have hle : (3 : Int32) ≤ nI (d + 3) := nI_le (a := 3) (by omega) (by omega)
      refine br_t hle (nm_r (e' := nI (d + 1)) (pk_sub (a := d + 3) (b := 2) (by omega)) ?_)
      rw [nI_pred, nI_1]
      refine And.intro (vp_in_nI (by omega) (by omega)) (And.intro (vp_in_nI (by omega) (by omega)) (And.intro (vp_in_nI (by omega) (by omega)) (xk_make (by omega) ?_)))
      refine And.intro (vp_in_nI (by omega) (by omega)) ?_
      rw [nI_clamp (show d < 2 ^ 31 by omega), nI_clamp (show d + 1 < 2 ^ 31 by omega), nI_clamp (show d + 1 + 1 < 2 ^ 31 by omega)]
      refine nm_e ?_
      unfold wpY_choose
      exact br_f e' (br_t hle (yn_3 (by omega) (by omega) ⟨rfl, rb_cho (by omega) hMG hFN hz hyz⟩))
    · have hle : ¬ (3 : Int32) ≤ nI h := nI_ge (b := 3) (by omega) (by omega)
      refine br_f hle ?_
      unfold wpY_choose
      exact br_f e' (br_f hle ⟨rfl, hRB2⟩)
theorem rb_dis {ki pA pB pC nu size stk co pt ynu yrt ystk yco : Nat → Int32} {sz rt : Nat → Nat} (hF : fa_FN ki pA pB pC nu pt ynu size yrt sz rt) (hz : fa_Z4 co) (hyz : fa_Z4 yco) :
    fa_RB 0 0 ki pA pB pC nu size stk co 0 0 ki pt ynu yrt ystk yco :=
  ⟨sz, fun _ => 0, rt, 0, 0, rfl, rfl, rfl, rfl, rfl, ⟨by omega, rfl, rfl, fun i hi => absurd hi (by omega), fun t ht => absurd ht (by omega)⟩, hF, hz, hyz⟩
theorem i_vc_discard {k : Nat} {u : SX} {v : SY} (I : i_Rel k u v) (hk : k + 5 ≤ 2560) : wpX_discard (fun u' => wpY_discard (fun v' => i_Rel (k + 5) u' v') v) u := by
  refine zz_el (Q := fun u v => wpX_discard (fun u' => wpY_discard (fun v' => i_Rel (k + 5) u' v') v) u) ?_ u v I
  intro f_made f_height f_versions f_codeSize f_tasks f_values f_frames f_called f_ended a_kind a_partA a_partB a_partC a_number a_size a_stack a_versionOf a_known a_knownA a_knownB a_entry a_fixed a_value a_code a_extra a_task a_phase a_hole a_pile a_frameA a_frameB a_back a_calledOf yf_made yf_depth yf_waiting yf_held yf_called yf_tired ya_kinds ya_parts ya_numbers ya_roots ya_stack ya_waits ya_values ya_firsts ya_seconds ya_counts hRB
  obtain ⟨sz, bd, rt, m, h, rfl, rfl, rfl, rfl, rfl, hMG, hFN, hz, hyz⟩ := hRB; have hhm := mg_h hMG; have hm14 := hMG.1
  exact rb_dis hFN hz hyz
theorem i_vc_depth {k : Nat} {u : SX} {v : SY} (I : i_Rel k u v) (hk : k + 5 ≤ 2560) : wpX_depth (fun r => wpY_depth (fun r' => r' = r ∧ i_Rel (k + 5) u v) v) u := by
  refine zz_el (Q := fun u v => wpX_depth (fun r => wpY_depth (fun r' => r' = r ∧ i_Rel (k + 5) u v) v) u) ?_ u v I
  intro f_made f_height f_versions f_codeSize f_tasks f_values f_frames f_called f_ended a_kind a_partA a_partB a_partC a_number a_size a_stack a_versionOf a_known a_knownA a_knownB a_entry a_fixed a_value a_code a_extra a_task a_phase a_hole a_pile a_frameA a_frameB a_back a_calledOf yf_made yf_depth yf_waiting yf_held yf_called yf_tired ya_kinds ya_parts ya_numbers ya_roots ya_stack ya_waits ya_values ya_firsts ya_seconds ya_counts hRB
  have hRB2 := hRB
  obtain ⟨sz, bd, rt, m, h, rfl, rfl, rfl, rfl, rfl, hMG, hFN, hz, hyz⟩ := hRB; have hhm := mg_h hMG; have hm14 := hMG.1
  exact ⟨rfl, hRB2⟩
end
section
/-! define, and the constructors -/
def fa_cp (a : Nat → Int32) (f : Nat) : Nat → Nat → Int32
  | 0 => a
  | k + 1 => upd (fa_cp a f k) (14 * f + k) (fa_cp a f k (56 + k))
theorem fa_cpO {a : Nat → Int32} {f : Nat} : ∀ k j, (j < 14 * f ∨ 14 * f + k ≤ j) → fa_cp a f k j = a j := by
  intro k
  induction k with
  | zero => intro j _; rfl
  | succ k ih => intro j hj; exact (pk_un (by omega)).trans (ih j (by omega))
theorem fa_cpI {a : Nat → Int32} {f : Nat} (hf : f < 4) : ∀ k t, t < k → fa_cp a f k (14 * f + t) = a (56 + t) := by
  intro k
  induction k with
  | zero => intro t ht; omega
  | succ k ih =>
    intro t ht
    by_cases z : t = k
    · subst z; exact pk_us.trans (fa_cpO t _ (by omega))
    · exact (pk_un (by omega)).trans (ih t (by omega))
theorem fa_sh (f t : Nat) : nI (56 + t) + ((14 : Int32) * nI f - 56) = nI (14 * f + t) := by
  have e1 : nI (56 + t) = nI 56 + nI t := (nI_add 56 t).symm
  have e2 : nI (14 * f + t) = nI (14 * f) + nI t := (nI_add (14 * f) t).symm
  have e3 : (14 : Int32) * nI f = nI (14 * f) := pk_mul 14 f
  have e4 : (56 : Int32) = nI 56 := rfl
  rw [e1, e2, e3, e4]
  grind
section
variable {f_made f_height f_versions f_codeSize f_tasks f_values f_frames f_called f_ended : Int32} {a_kind a_partA a_partB a_partC a_number a_size a_stack a_versionOf a_known a_knownA a_knownB a_entry a_fixed a_value a_code a_extra a_task a_phase a_hole a_pile a_frameA a_frameB a_back a_calledOf : Nat → Int32}
theorem xd_loop {post : Int32 → SX → Prop} {m f : Nat} (hm : m ≤ 14) (hf : f < 4) (H : post (nI m) (0, 0, f_versions, f_codeSize, f_tasks, f_values, f_frames, f_called, f_ended, fa_cp a_kind f m, fa_cp a_partA f m, fa_cp a_partB f m, fa_cp a_partC f m, fa_cp a_number f m, upd a_size f (nI m), a_stack, a_versionOf, a_known, a_knownA, a_knownB, a_entry, a_fixed, a_value, a_code, a_extra, a_task, a_phase, a_hole, a_pile, a_frameA, a_frameB, a_back, a_calledOf)) :
    ∀ k i, i + k = m → wX_define_24 post (nI f) (nI m) f_height f_versions f_codeSize f_tasks f_values f_frames f_called f_ended (k + 1) (nI i) (fa_cp a_kind f i) (fa_cp a_partA f i) (fa_cp a_partB f i) (fa_cp a_partC f i) (fa_cp a_number f i) a_size a_stack a_versionOf a_known a_knownA a_knownB a_entry a_fixed a_value a_code a_extra a_task a_phase a_hole a_pile a_frameA a_frameB a_back a_calledOf := by
  intro k
  induction k with
  | zero =>
    intro i hi
    have e : i = m := hi
    subst e
    rw [wX_define_24]
    exact br_t (nI_le (Nat.le_refl _) (by omega)) (And.intro (vp_in_nI hf (by omega)) (nm_r (fa_ux (by omega)) H))
  | succ k ih =>
    intro i hi
    have e1 : (56 : Int32) + nI i = nI (56 + i) := nI_add 56 i
    have e2 : (14 : Int32) * nI f + nI i = nI (14 * f + i) := fa_at
    have i1 : vp_in ((56 : Int32) + nI i) 70 := by rw [e1]; exact vp_in_nI (by omega) (by omega)
    have i2 : vp_in ((14 : Int32) * nI f + nI i) 70 := by rw [e2]; exact vp_in_nI (by omega) (by omega)
    have hu : ∀ a : Nat → Int32, upd a ((14 : Int32) * nI f + nI i).toNatClampNeg (a ((56 : Int32) + nI i).toNatClampNeg) = upd a (14 * f + i) (a (56 + i)) := by
      intro a; rw [e1, e2, nI_clamp (by omega), nI_clamp (by omega)]
    rw [wX_define_24]
    exact br_f (nI_ge (by omega) (by omega)) (And.intro i1 (And.intro i2 (nm_r (hu _) (And.intro i1 (And.intro i2 (nm_r (hu _) (And.intro i1 (And.intro i2 (nm_r (hu _) (And.intro i1 (And.intro i2 (nm_r (hu _) (And.intro i1 (And.intro i2 (nm_r (hu _) (nm_r (nI_1 i) (ih (i + 1) (by omega))))))))))))))))))
end
/-- the parts, moved -/
def fa_MV (pt : Nat → Int32) (f i : Nat) (p : Nat → Int32) : Prop := (∀ t, t < i → ∀ l, l < 3 → p (3 * (14 * f + t) + l) = pt (3 * (56 + t) + l) + ((14 : Int32) * nI f - 56)) ∧ ∀ j, (j < 42 * f ∨ 42 * f + 3 * i ≤ j) → p j = pt j
def fa_MW (pt : Nat → Int32) (f i l : Nat) (p : Nat → Int32) : Prop := (∀ t, t < i → ∀ l, l < 3 → p (3 * (14 * f + t) + l) = pt (3 * (56 + t) + l) + ((14 : Int32) * nI f - 56)) ∧
  (∀ l', l' < l → p (3 * (14 * f + i) + l') = pt (3 * (56 + i) + l') + ((14 : Int32) * nI f - 56)) ∧ ∀ j, (j < 42 * f ∨ 42 * f + 3 * i + l ≤ j) → p j = pt j
theorem fa_MW0 {pt p : Nat → Int32} {f i : Nat} (h : fa_MV pt f i p) : fa_MW pt f i 0 p := ⟨h.1, fun l hl => absurd hl (by omega), fun j hj => h.2 j (by omega)⟩
theorem fa_MW3 {pt p : Nat → Int32} {f i : Nat} (h : fa_MW pt f i 3 p) : fa_MV pt f (i + 1) p := by
  refine ⟨fun t ht l hl => ?_, fun j hj => h.2.2 j (by omega)⟩
  by_cases z : t = i
  · subst z; exact h.2.1 l hl
  · exact h.1 t (by omega) l hl
theorem fa_MWs {pt p : Nat → Int32} {f i l : Nat} (hf : f < 4) (hl : l < 3) (h : fa_MW pt f i l p) : fa_MW pt f i (l + 1) (upd p (3 * (14 * f + i) + l) (p (3 * (56 + i) + l) + ((14 : Int32) * nI f - 56))) := by
  obtain ⟨h1, h2, h3⟩ := h
  refine ⟨fun t ht l' hl' => (pk_un (by omega)).trans (h1 t ht l' hl'), fun l' hl' => ?_, fun j hj => (pk_un (by omega)).trans (h3 j (by omega))⟩
  by_cases z : l' = l
  · subst z
    rw [pk_us, h3 _ (by omega)]
  · exact (pk_un (by omega)).trans (h2 l' (by omega))
section
variable {yf_made yf_depth yf_waiting yf_held yf_called yf_tired : Int32} {ya_kinds ya_parts ya_numbers ya_roots ya_stack ya_waits ya_values ya_firsts ya_seconds ya_counts : Nat → Int32}
theorem yd_in {post : Int32 → SY → Prop} {J : Int32 → (Nat → Int32) → (Nat → Int32) → (Nat → Int32) → (Nat → Int32) → (Nat → Int32) → (Nat → Int32) → (Nat → Int32) → (Nat → Int32) → (Nat → Int32) → (Nat → Int32) → Prop} {pt : Nat → Int32} {f i : Nat} {x1 : Int32} (hf : f < 4) (hi : i < 14)
    (H : ∀ p, fa_MV pt f (i + 1) p → J (nI (56 + (i + 1))) ya_kinds p ya_numbers ya_roots ya_stack ya_waits ya_values ya_firsts ya_seconds ya_counts) :
    ∀ k l p, l + k = 3 → fa_MW pt f i l p → wY_define_75 post J x1 ((14 : Int32) * nI f - 56) (nI (56 + i)) yf_made yf_depth yf_waiting yf_held yf_called yf_tired (k + 1) (nI l) ya_kinds p ya_numbers ya_roots ya_stack ya_waits ya_values ya_firsts ya_seconds ya_counts := by
  intro k
  induction k with
  | zero =>
    intro l p hl hp
    have e : l = 3 := hl
    subst e
    rw [wY_define_75]
    exact br_t (by decide) (nm_r (nI_1 (56 + i)) (H p (fa_MW3 hp)))
  | succ k ih =>
    intro l p hl hp
    have e1 : (3 : Int32) * nI (56 + i) + nI l = nI (3 * (56 + i) + l) := by rw [fa_3m]; exact nI_add _ _
    have e2 : (3 : Int32) * (nI (56 + i) + ((14 : Int32) * nI f - 56)) + nI l = nI (3 * (14 * f + i) + l) := by rw [fa_sh, fa_3m]; exact nI_add _ _
    have i1 : vp_in ((3 : Int32) * nI (56 + i) + nI l) 210 := by rw [e1]; exact vp_in_nI (by omega) (by omega)
    have i2 : vp_in ((3 : Int32) * (nI (56 + i) + ((14 : Int32) * nI f - 56)) + nI l) 210 := by rw [e2]; exact vp_in_nI (by omega) (by omega)
    have hu : upd p ((3 : Int32) * (nI (56 + i) + ((14 : Int32) * nI f - 56)) + nI l).toNatClampNeg (p ((3 : Int32) * nI (56 + i) + nI l).toNatClampNeg + ((14 : Int32) * nI f - 56)) = upd p (3 * (14 * f + i) + l) (p (3 * (56 + i) + l) + ((14 : Int32) * nI f - 56)) := by
      rw [e1, e2, nI_clamp (by omega), nI_clamp (by omega)]
    rw [wY_define_75]
    exact br_f (nI_ge (b := 3) (by omega) (by omega)) (And.intro i1 (And.intro i2 (nm_r hu (nm_r (nI_1 l) (ih (l + 1) _ (by omega) (fa_MWs hf (by omega) hp))))))
theorem yd_out {post : Int32 → SY → Prop} {m f : Nat} (hm : m ≤ 14) (hf : f < 4)
    (H : ∀ p, fa_MV ya_parts f m p → post (nI m) (0, 0, yf_waiting, yf_held, yf_called, yf_tired, fa_cp ya_kinds f m, p, fa_cp ya_numbers f m, upd ya_roots f (ya_stack 0 + ((14 : Int32) * nI f - 56)), ya_stack, ya_waits, ya_values, ya_firsts, ya_seconds, ya_counts)) :
    ∀ k i p, i + k = m → fa_MV ya_parts f i p → wY_define_33 post (nI f) ((14 : Int32) * nI f - 56) (nI m) yf_depth yf_waiting yf_held yf_called yf_tired (k + 1) (nI (56 + i)) (fa_cp ya_kinds f i) p (fa_cp ya_numbers f i) ya_roots ya_stack ya_waits ya_values ya_firsts ya_seconds ya_counts := by
  intro k
  induction k with
  | zero =>
    intro i p hi hp
    have e : i = m := hi
    subst e
    rw [wY_define_33]
    have e1 : (56 : Int32) + nI i = nI (56 + i) := nI_add 56 i
    rw [e1]
    exact br_t (nI_le (Nat.le_refl _) (by omega)) (And.intro (vp_in_nI hf (by omega)) (nm_r (fa_ux (by omega)) (H p hp)))
  | succ k ih =>
    intro i p hi hp
    have e1 : (56 : Int32) + nI m = nI (56 + m) := nI_add 56 m
    have e2 := fa_sh f i
    have i1 : vp_in (nI (56 + i)) 70 := vp_in_nI (by omega) (by omega)
    have i2 : vp_in (nI (56 + i) + ((14 : Int32) * nI f - 56)) 70 := by rw [e2]; exact vp_in_nI (by omega) (by omega)
    have hu : ∀ a : Nat → Int32, upd a (nI (56 + i) + ((14 : Int32) * nI f - 56)).toNatClampNeg (a (nI (56 + i)).toNatClampNeg) = upd a (14 * f + i) (a (56 + i)) := by
      intro a; rw [e2, nI_clamp (by omega), nI_clamp (by omega)]
    rw [wY_define_33, e1]
    exact br_f (nI_ge (by omega) (by omega)) (And.intro i1 (And.intro i2 (nm_r (hu _) (And.intro i1 (And.intro i2 (nm_r (hu _) ⟨3 + 1, yd_in hf (by omega) (fun p' hp' => ih (i + 1) p' (by omega) hp') 3 0 p rfl (fa_MW0 hp)⟩))))))
end
section
variable {ki pA pB pC nu size stk co pt ynu yrt ystk yco p : Nat → Int32} {sz bd rt : Nat → Nat} {m f : Nat}
def fa_szM (sz : Nat → Nat) (f m : Nat) : Nat → Nat := fun j => if 14 * f ≤ j ∧ j < 14 * f + m then sz (56 + (j - 14 * f)) else sz j
theorem fa_TKm {t : Nat} (hf : f < 4) (hm : m ≤ 14) (ht : t < m) (hp : fa_MV pt f m p) (H : fa_TK ki pA pB pC nu pt ynu sz 56 t) :
    fa_TK (fa_cp ki f m) (fa_cp pA f m) (fa_cp pB f m) (fa_cp pC f m) (fa_cp nu f m) p (fa_cp ynu f m) (fa_szM sz f m) (14 * f) t := by
  have p0 := hp.1 t ht 0 (by omega)
  have p1 := hp.1 t ht 1 (by omega)
  have p2 := hp.1 t ht 2 (by omega)
  rw [Nat.add_zero, Nat.add_zero] at p0
  have s0 : ∀ j, j ≤ t → fa_szM sz f m (14 * f + j) = sz (56 + j) := fun j hj => (if_pos ⟨by omega, by omega⟩).trans (congrArg sz (by omega))
  have st := s0 t (Nat.le_refl t)
  have a1 := fa_cpI (a := ki) hf m t ht
  have a2 := fa_cpI (a := pA) hf m t ht
  have a3 := fa_cpI (a := pB) hf m t ht
  have a4 := fa_cpI (a := pC) hf m t ht
  have a5 := fa_cpI (a := nu) hf m t ht
  have a6 := fa_cpI (a := ynu) hf m t ht
  rcases H with ⟨k, n, z⟩ | ⟨k, n, n2, z⟩ | ⟨k, a, b, hk, ha, hb, ek, eA, eB, pA0, pB0, z⟩ | ⟨a, b, c, ha, hb, hc, ek, eA, eB, eC, pA0, pB0, pC0, z⟩
  · refine Or.inl ?_
    rw [a1, a5, a6, st]; exact ⟨k, n, z⟩
  · refine Or.inr (Or.inl ?_)
    rw [a1, a5, a6, st]; exact ⟨k, n, n2, z⟩
  · refine Or.inr (Or.inr (Or.inl ⟨k, a, b, hk, ha, hb, ?_⟩))
    rw [a1, a2, a3, p0, p1, st, s0 a (by omega), s0 b (by omega), pA0, pB0, fa_sh, fa_sh]
    exact ⟨ek, eA, eB, rfl, rfl, z⟩
  · refine Or.inr (Or.inr (Or.inr ⟨a, b, c, ha, hb, hc, ?_⟩))
    rw [a1, a2, a3, a4, p0, p1, p2, st, s0 a (by omega), s0 b (by omega), s0 c (by omega), pA0, pB0, pC0, fa_sh, fa_sh, fa_sh]
    exact ⟨ek, eA, eB, eC, rfl, rfl, rfl, z⟩
theorem rb_def (hf : f < 4) (hM : fa_MG ki pA pB pC nu pt ynu stk ystk sz bd m 1) (hF : fa_FN ki pA pB pC nu pt ynu size yrt sz rt) (hz : fa_Z4 co) (hyz : fa_Z4 yco) (hp : fa_MV pt f m p) :
    fa_RB 0 0 (fa_cp ki f m) (fa_cp pA f m) (fa_cp pB f m) (fa_cp pC f m) (fa_cp nu f m) (upd size f (nI m)) stk co 0 0 (fa_cp ki f m) p (fa_cp ynu f m) (upd yrt f (ystk 0 + ((14 : Int32) * nI f - 56))) ystk yco := by
  obtain ⟨m1, m2, m3, m4, m5⟩ := hM
  obtain ⟨y1, y2, y3, y4⟩ := m4 0 (by omega)
  have m3' : bd (0 + 1) = m := m3
  rw [m3', m2] at y1 y4
  rw [m3'] at y3
  refine rb_dis (sz := fa_szM sz f m) (rt := fun g => if g = f then m - 1 else rt g) ?_ hz hyz
  intro g hg
  by_cases e : g = f
  · subst e
    have er : (fun g' => if g' = g then m - 1 else rt g') g = m - 1 := if_pos rfl
    have sm : fa_szM sz g m (14 * g + (m - 1)) = sz (56 + (m - 1)) := (if_pos ⟨by omega, by omega⟩).trans (congrArg sz (by omega))
    have em : m - 1 + 1 = m := by omega
    rw [er]
    refine ⟨by omega, ?_, ?_, by rw [sm, y4]; omega, fun t ht => fa_TKm hf m1 (by omega) hp (m5 t (by omega))⟩
    · rw [pk_us, em]
    · rw [pk_us, y3, fa_sh]
  · obtain ⟨h1, h2, h3, h4, h5⟩ := hF g hg
    have er : (fun g' => if g' = f then m - 1 else rt g') g = rt g := if_neg e
    have s0 : ∀ t, t < 14 → fa_szM sz f m (14 * g + t) = sz (14 * g + t) := fun t ht => if_neg (by omega)
    rw [er]
    refine ⟨h1, by rw [pk_un e]; exact h2, by rw [pk_un e]; exact h3, by rw [s0 _ h1]; exact h4, fun t ht => ?_⟩
    exact fa_TKc (fa_cpO _ _ (by omega)) (fa_cpO _ _ (by omega)) (fa_cpO _ _ (by omega)) (fa_cpO _ _ (by omega)) (fa_cpO _ _ (by omega)) (fa_cpO _ _ (by omega)) (fun l hl => hp.2 _ (by omega)) (fun j hj => s0 j (by omega)) (h5 t ht)
end
theorem i_vc_define {k : Nat} {u : SX} {v : SY} (I : i_Rel k u v) (hk : k + 5 ≤ 2560) (v1 : Int32) : wpX_define (fun r u' => wpY_define (fun r' v' => r' = r ∧ i_Rel (k + 5) u' v') v v1) u v1 := by
  refine zz_el (Q := fun u v => wpX_define (fun r u' => wpY_define (fun r' v' => r' = r ∧ i_Rel (k + 5) u' v') v v1) u v1) ?_ u v I
  intro f_made f_height f_versions f_codeSize f_tasks f_values f_frames f_called f_ended a_kind a_partA a_partB a_partC a_number a_size a_stack a_versionOf a_known a_knownA a_knownB a_entry a_fixed a_value a_code a_extra a_task a_phase a_hole a_pile a_frameA a_frameB a_back a_calledOf yf_made yf_depth yf_waiting yf_held yf_called yf_tired ya_kinds ya_parts ya_numbers ya_roots ya_stack ya_waits ya_values ya_firsts ya_seconds ya_counts hRB
  unfold wpX_define
  rcases fa_ix4 v1 (n := 4) (by omega) with hb | ⟨hb, hb2⟩ | ⟨f, hf, rfl⟩
  · refine br_t hb ?_
    unfold wpY_define
    exact br_t hb ⟨rfl, hRB⟩
  · have h3 : ¬ v1 ≤ 3 := by
      rw [Int32.le_iff_toInt_le, nI_toInt (by omega)] at hb2
      rw [Int32.le_iff_toInt_le, show (3 : Int32).toInt = 3 by decide]
      omega
    refine br_f hb (br_f (Int32.not_lt.mpr hb2) ?_)
    unfold wpY_define
    exact br_f hb (br_f h3 ⟨rfl, hRB⟩)
  · have n0 : ¬ nI f < 0 := nI_pos (by omega)
    have n3 : nI f ≤ 3 := nI_le (b := 3) (by omega) (by omega)
    refine br_f n0 (br_t (nI_lt (b := 4) hf (by omega)) ?_)
    have hRB2 := hRB
    obtain ⟨sz, bd, rt, m, h, rfl, rfl, rfl, rfl, rfl, hMG, hFN, hz, hyz⟩ := hRB
    have hhm := mg_h hMG
    have hm14 := hMG.1
    by_cases e : h = 1
    · subst e
      refine br_t rfl ⟨m + 1, xd_loop hm14 hf ?_ m 0 (by omega)⟩
      unfold wpY_define
      refine br_f n0 (br_t n3 (br_t rfl (nm_e ⟨m + 1, yd_out hm14 hf (fun p hp => ⟨rfl, rb_def hf hMG hFN hz hyz hp⟩) m 0 _ (by omega) ?_⟩)))
      exact ⟨fun t ht => absurd ht (by omega), fun _ _ => rfl⟩
    · have e' : ¬ nI h = 1 := fa_ne (b := 1) e (by omega) (by omega)
      refine br_f e' ?_
      unfold wpY_define
      exact br_f n0 (br_t n3 (br_f e' ⟨rfl, hRB2⟩))
def fa_ik : Nat → Nat → Int32
  | 0 => fun _ => 0
  | i + 1 => upd (fa_ik i) (14 * i) 9
def fa_is : Nat → Nat → Int32
  | 0 => fun _ => 0
  | i + 1 => upd (fa_is i) i 1
def fa_ir : Nat → Nat → Int32
  | 0 => fun _ => 0
  | i + 1 => upd (fa_ir i) i (nI (14 * i))
section
variable {f_made f_height f_versions f_codeSize f_tasks f_values f_frames f_called f_ended : Int32} {a_kind a_partA a_partB a_partC a_number a_size a_stack a_versionOf a_known a_knownA a_knownB a_entry a_fixed a_value a_code a_extra a_task a_phase a_hole a_pile a_frameA a_frameB a_back a_calledOf : Nat → Int32}
theorem xi_loop {post : SX → Prop} (H : post (f_made, f_height, f_versions, f_codeSize, f_tasks, f_values, f_frames, f_called, f_ended, fa_ik 4, a_partA, a_partB, a_partC, a_number, fa_is 4, a_stack, a_versionOf, a_known, a_knownA, a_knownB, a_entry, a_fixed, a_value, a_code, a_extra, a_task, a_phase, a_hole, a_pile, a_frameA, a_frameB, a_back, a_calledOf)) : ∀ k i, i + k = 4 → wX_init_199 post f_made f_height f_versions f_codeSize f_tasks f_values f_frames f_called f_ended (k + 1) (nI i) (fa_ik i) a_partA a_partB a_partC a_number (fa_is i) a_stack a_versionOf a_known a_knownA a_knownB a_entry a_fixed a_value a_code a_extra a_task a_phase a_hole a_pile a_frameA a_frameB a_back a_calledOf := by
  intro k
  induction k with
  | zero =>
    intro i hi
    have e : i = 4 := hi
    subst e
    rw [wX_init_199]
    exact br_t (by decide) H
  | succ k ih =>
    intro i hi
    have e : (14 : Int32) * nI i = nI (14 * i) := pk_mul 14 i
    rw [wX_init_199]
    dsimp only
    rw [e]
    exact br_f (nI_ge (b := 4) (by omega) (by omega)) (And.intro (vp_in_nI (by omega) (by omega)) (nm_r (fa_ux (by omega)) (And.intro (vp_in_nI (by omega) (by omega)) (nm_r (fa_ux (by omega)) (nm_r (nI_1 i) (ih (i + 1) (by omega)))))))
end
section
variable {yf_made yf_depth yf_waiting yf_held yf_called yf_tired : Int32} {ya_kinds ya_parts ya_numbers ya_roots ya_stack ya_waits ya_values ya_firsts ya_seconds ya_counts : Nat → Int32}
theorem yi_loop {post : SY → Prop} (H : post (yf_made, yf_depth, yf_waiting, yf_held, yf_called, yf_tired, fa_ik 4, ya_parts, ya_numbers, fa_ir 4, ya_stack, ya_waits, ya_values, ya_firsts, ya_seconds, ya_counts)) : ∀ k i, i + k = 4 → wY_init_87 post yf_made yf_depth yf_waiting yf_held yf_called yf_tired (k + 1) (nI i) (fa_ik i) ya_parts ya_numbers (fa_ir i) ya_stack ya_waits ya_values ya_firsts ya_seconds ya_counts := by
  intro k
  induction k with
  | zero =>
    intro i hi
    have e : i = 4 := hi
    subst e
    rw [wY_init_87]
    exact br_t (by decide) H
  | succ k ih =>
    intro i hi
    have e : (14 : Int32) * nI i = nI (14 * i) := pk_mul 14 i
    rw [wY_init_87]
    dsimp only
    rw [e]
    exact br_f (nI_ge (b := 4) (by omega) (by omega)) (And.intro (vp_in_nI (by omega) (by omega)) (nm_r (fa_ux (by omega)) (And.intro (vp_in_nI (by omega) (by omega)) (nm_r (fa_ux (by omega)) (nm_r (nI_1 i) (ih (i + 1) (by omega)))))))
end
theorem rb_init : fa_RB 0 0 (fa_ik 4) (fun _ => 0) (fun _ => 0) (fun _ => 0) (fun _ => 0) (fa_is 4) (fun _ => 0) (fun _ => 0) 0 0 (fa_ik 4) (fun _ => 0) (fun _ => 0) (fa_ir 4) (fun _ => 0) (fun _ => 0) := by
  refine rb_dis (sz := fun _ => 1) (rt := fun _ => 0) ?_ (fun _ _ => rfl) (fun _ _ => rfl)
  intro f hf
  have hf4 : f = 0 ∨ f = 1 ∨ f = 2 ∨ f = 3 := by omega
  have k0 : fa_ik 4 (14 * f) = 9 ∧ fa_is 4 f = 1 ∧ fa_ir 4 f = nI (14 * f) := by
    rcases hf4 with rfl | rfl | rfl | rfl <;> exact ⟨rfl, rfl, rfl⟩
  refine ⟨show 0 < 14 by decide, k0.2.1, k0.2.2, show 1 ≤ 14 by decide, fun t ht => ?_⟩
  have e : t = 0 := by
    have ht' : t ≤ 0 := ht
    omega
  subst e
  exact Or.inl ⟨k0.1, rfl, rfl⟩
theorem i_vc0 : wpX_init (fun u => wpY_init (fun v => i_Rel 0 u v)) :=
  ⟨4 + 1, xi_loop (show wpY_init _ from ⟨4 + 1, yi_loop rb_init 4 0 rfl⟩) 4 0 rfl⟩
end
