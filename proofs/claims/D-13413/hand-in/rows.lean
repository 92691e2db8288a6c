section
/-- a picture: field, index to value; field 0: at, 25: keptCount, 26: keptNext, 1 to 24: the arrays -/
abbrev tm_P : Type := Nat → Nat → Nat
/-- the turned signs -/
def tm_f (k : Bool) (n : Nat) : Nat := match k with
  | true => if 33 ≤ n ∧ n ≤ 62 then 95 - n else n
  | false => n
theorem tm_f_T (n : Nat) : tm_f true n = if 33 ≤ n ∧ n ≤ 62 then 95 - n else n := rfl
theorem tm_f_F (n : Nat) : tm_f false n = n := rfl
/-- the state that shows a picture -/
def tm_T (k : Bool) (p : tm_P) : St1 := ((nI (p 0 0)), (nI (p 25 0)), (nI (p 26 0)), (fun i => nI (tm_f k (p 1 i))), (fun i => nI (p 2 i)), (fun i => nI (p 3 i)), (fun i => nI (p 4 i)), (fun i => nI (p 5 i)), (fun i => nI (p 6 i)), (fun i => nI (p 7 i)), (fun i => nI (p 8 i)), (fun i => nI (p 9 i)), (fun i => nI (p 10 i)), (fun i => nI (p 11 i)), (fun i => nI (p 12 i)), (fun i => nI (p 13 i)), (fun i => nI (p 14 i)), (fun i => nI (p 15 i)), (fun i => nI (p 16 i)), (fun i => nI (p 17 i)), (fun i => nI (p 18 i)), (fun i => nI (p 19 i)), (fun i => nI (p 20 i)), (fun i => nI (p 21 i)), (fun i => nI (p 22 i)), (fun i => nI (p 23 i)), (fun i => nI (tm_f k (p 24 i))))
/-- one place written -/
def tm_u (p : tm_P) (g i v : Nat) : tm_P := fun g' i' => bif (Nat.beq g' g && Nat.beq i' i) then v else p g' i'
theorem tm_ue (p : tm_P) (g i v g' i' : Nat) : tm_u p g i v g' i' = if g' = g ∧ i' = i then v else p g' i' := by
  unfold tm_u
  cases h1 : Nat.beq g' g with
  | true =>
    have e := Nat.eq_of_beq_eq_true h1
    cases h2 : Nat.beq i' i with
    | true =>
      have e2 := Nat.eq_of_beq_eq_true h2
      rw [if_pos ⟨e, e2⟩]; rfl
    | false =>
      have e2 := Nat.ne_of_beq_eq_false h2
      rw [if_neg (fun z => e2 z.2)]; rfl
  | false =>
    have e := Nat.ne_of_beq_eq_false h1
    rw [if_neg (fun z => e z.1)]; rfl
theorem tm_uS (p : tm_P) (g i v : Nat) : tm_u p g i v g i = v := by
  rw [tm_ue, if_pos ⟨rfl, rfl⟩]
theorem tm_uN (p : tm_P) (g i v : Nat) {g' i' : Nat} (h : g' ≠ g ∨ i' ≠ i) : tm_u p g i v g' i' = p g' i' := by
  rw [tm_ue, if_neg (fun z => by omega)]
theorem tm_f_r {k : Bool} {n : Nat} (h : 32 ≤ n ∧ n ≤ 62) : 32 ≤ tm_f k n ∧ tm_f k n ≤ 62 := by
  cases k with
  | true => rw [tm_f_T]; split <;> omega
  | false => rw [tm_f_F]; exact h
theorem tm_f_le {k : Bool} {n : Nat} (h : n ≤ 62) : tm_f k n ≤ 62 := by
  cases k with
  | true => rw [tm_f_T]; split <;> omega
  | false => rw [tm_f_F]; exact h
theorem tm_f_out (k : Bool) {n : Nat} (h : n < 33 ∨ 62 < n) : tm_f k n = n := by
  cases k with
  | true => rw [tm_f_T, if_neg (by omega)]
  | false => rfl
theorem tm_f_32 (k : Bool) : tm_f k 32 = 32 := tm_f_out k (by omega)
theorem tm_f_inj {k : Bool} {a b : Nat} (ha : 32 ≤ a ∧ a ≤ 62) (hb : 32 ≤ b ∧ b ≤ 62) : tm_f k a = tm_f k b ↔ a = b := by
  cases k with
  | false => exact Iff.rfl
  | true =>
    rw [tm_f_T, tm_f_T]
    constructor
    · intro h
      split at h <;> split at h <;> omega
    · intro h; rw [h]
theorem tm_f_em {k : Bool} {a : Nat} (ha : 32 ≤ a ∧ a ≤ 62) : tm_f k a = 32 ↔ a = 32 := by
  have := tm_f_inj (k := k) ha (b := 32) (by omega)
  rw [tm_f_32] at this
  exact this
/-! stores -/
theorem tm_up (p : tm_P) (g j v : Nat) {n : Nat} {x : Int32} (hn : n = j) (hx : x = nI v) : upd (fun i => nI (p g i)) n x = fun i => nI (tm_u p g j v g i) := by
  subst hn hx
  funext i
  rw [tm_ue]
  by_cases h : i = n
  · rw [if_pos ⟨rfl, h⟩, h]; exact pk_us
  · rw [if_neg (fun z => h z.2)]; exact pk_un h
theorem tm_us (k : Bool) (p : tm_P) (g j v : Nat) {n : Nat} {x : Int32} (hn : n = j) (hx : x = nI (tm_f k v)) : upd (fun i => nI (tm_f k (p g i))) n x = fun i => nI (tm_f k (tm_u p g j v g i)) := by
  subst hn hx
  funext i
  rw [tm_ue]
  by_cases h : i = n
  · rw [if_pos ⟨rfl, h⟩, h]; exact pk_us
  · rw [if_neg (fun z => h z.2)]; exact pk_un h
theorem tm_b8 : ∀ v, v < 128 → (nI v).toInt8.toInt32 = nI v := by decide +kernel
theorem tm_nb {v : Nat} (h : v < 128) : vp_nar .byte (nI v) = nI v := by
  rw [vp_nar_byte, tm_b8 v h]
theorem tm_nz {v : Nat} (h : v ≤ 1) : vp_nar .boolean (nI v) = nI v := by
  have : v = 0 ∨ v = 1 := by omega
  rcases this with e | e <;> subst e <;> rfl
theorem tm_cl {n : Nat} (h : n < 1000) : (nI n).toNatClampNeg = n := nI_clamp (by omega)
/-! the invariant -/
def tm_ok (g i v : Nat) : Prop := match g with
  | 0 => v ≤ 1
  | 1 => i < 288 → 32 ≤ v ∧ v ≤ 62
  | 2 => v = 0
  | 3 => v ≤ 11
  | 4 => v ≤ 5
  | 5 => v ≤ 11
  | 6 => v ≤ 1
  | 7 => v = 0
  | 8 => v = 0
  | 9 => i < 2 → v = 5
  | 10 => v = 0
  | 11 => v ≤ 1
  | 12 => v ≤ 1 ∧ (i = 1 → v = 0)
  | 13 => v ≤ 5
  | 14 => v ≤ 11
  | 15 => v = 0
  | 16 => v ≤ 5
  | 17 => v ≤ 11
  | 18 => v = 0
  | 19 => v ≤ 5
  | 20 => v ≤ 3
  | 21 => v ≤ 1
  | 22 => v ≤ 5
  | 23 => v ≤ 99
  | 24 => v ≤ 62
  | 25 => v ≤ 8
  | 26 => v ≤ 7
  | _ => True
def tm_I (p : tm_P) : Prop := (∀ g i, tm_ok g i (p g i)) ∧ (∀ r s, r < 6 → s < 6 → p 3 (12 + r) = p 3 (12 + s) → r = s) ∧ (p 12 0 = 1 → p 19 0 = 5)
/-- terminal 0 stands still when terminal 1 works -/
def tm_Z (p p' : tm_P) : Prop := (∀ i, i < 144 → p' 1 i = p 1 i) ∧ (∀ i, i < 12 → p' 3 i = p 3 i) ∧ p' 12 0 = p 12 0
def tm_R (t : Nat) (p p' : tm_P) : Prop := tm_I p' ∧ p' 0 0 = p 0 0 ∧ (∀ g i, 20 ≤ g → g ≤ 23 → p' g i = p g i) ∧ (t = 1 → tm_Z p p')
theorem tm_Z_r (p : tm_P) : tm_Z p p := ⟨fun _ _ => rfl, fun _ _ => rfl, rfl⟩
theorem tm_Z_t {p q r : tm_P} (h : tm_Z p q) (g : tm_Z q r) : tm_Z p r :=
  ⟨fun i hi => (g.1 i hi).trans (h.1 i hi), fun i hi => (g.2.1 i hi).trans (h.2.1 i hi), g.2.2.trans h.2.2⟩
theorem tm_R_r {t : Nat} {p : tm_P} (h : tm_I p) : tm_R t p p := ⟨h, rfl, fun _ _ _ _ => rfl, fun _ => tm_Z_r p⟩
theorem tm_R_t {t : Nat} {p q r : tm_P} (h : tm_R t p q) (g : tm_R t q r) : tm_R t p r :=
  ⟨g.1, g.2.1.trans h.2.1, fun a i ha hb => (g.2.2.1 a i ha hb).trans (h.2.2.1 a i ha hb), fun e => tm_Z_t (h.2.2.2 e) (g.2.2.2 e)⟩
theorem tm_Iu {p : tm_P} {g i v : Nat} (h : tm_I p) (hv : tm_ok g i v) (h3 : g ≠ 3) (h12 : g ≠ 12) (h19 : g ≠ 19) : tm_I (tm_u p g i v) := by
  refine ⟨fun a b => ?_, fun r s hr hs => ?_, ?_⟩
  · rw [tm_ue]
    by_cases e : a = g ∧ b = i
    · rw [if_pos e, e.1, e.2]; exact hv
    · rw [if_neg e]; exact h.1 a b
  · rw [tm_uN p g i v (Or.inl (Ne.symm h3)), tm_uN p g i v (Or.inl (Ne.symm h3))]
    exact h.2.1 r s hr hs
  · rw [tm_uN p g i v (Or.inl (Ne.symm h12)), tm_uN p g i v (Or.inl (Ne.symm h19))]
    exact h.2.2
theorem tm_Ru {t : Nat} {p : tm_P} {g v : Nat} (i : Nat) (h : tm_I p) (hv : tm_ok g i v) (h4 : 4 ≤ g) (h12 : g ≠ 12) (h19 : g ≤ 18) : tm_R t p (tm_u p g i v) :=
  ⟨tm_Iu h hv (by omega) h12 (by omega), tm_uN _ _ _ _ (Or.inl (by omega)), fun a b h1 h2 => tm_uN _ _ _ _ (Or.inl (by omega)),
    fun _ => ⟨fun a _ => tm_uN _ _ _ _ (Or.inl (by omega)), fun a _ => tm_uN _ _ _ _ (Or.inl (by omega)), tm_uN _ _ _ _ (Or.inl (by omega))⟩⟩
/-- the first cell of a row -/
def tm_l (p : tm_P) (t r : Nat) : Nat := (t * 12 + p 3 ((t * 2 + p 12 t) * 6 + r)) * 12
theorem tm_l_lt {p : tm_P} (h : tm_I p) (t r : Nat) : tm_l p t r ≤ t * 144 + 132 ∧ t * 144 ≤ tm_l p t r := by
  have a : p 3 ((t * 2 + p 12 t) * 6 + r) ≤ 11 := h.1 3 _
  unfold tm_l
  omega
theorem tm_l_e {p q : tm_P} (t r : Nat) (h3 : ∀ i, q 3 i = p 3 i) (h12 : q 12 t = p 12 t) : tm_l q t r = tm_l p t r := by
  unfold tm_l; rw [h12, h3]
end
section
/-- what reading a line rests on -/
def tm_W (p : tm_P) : Prop := p 0 0 ≤ 1 ∧ (∀ i, p 12 i ≤ 1) ∧ (∀ i, p 3 i ≤ 11)
theorem tm_IW {p : tm_P} (h : tm_I p) : tm_W p := ⟨h.1 0 0, fun i => (h.1 12 i).1, fun i => h.1 3 i⟩
theorem tm_at {p : tm_P} (h : tm_I p) : p 0 0 ≤ 1 := h.1 0 0
theorem tm_inW {p : tm_P} (h : tm_W p) : vp_in (nI (p 0 0)) 2 := vp_in_nI (Nat.lt_succ_of_le h.1) (by decide)
theorem tm_acW {p : tm_P} {t : Nat} (h : tm_W p) (h0 : p 0 0 = t) : (nI (p 0 0)).toNatClampNeg = t := by
  have := h.1
  rw [tm_cl (by omega), h0]
theorem tm_in {p : tm_P} (h : tm_I p) : vp_in (nI (p 0 0)) 2 := tm_inW (tm_IW h)
theorem tm_ac {p : tm_P} {t : Nat} (h : tm_I p) (h0 : p 0 0 = t) : (nI (p 0 0)).toNatClampNeg = t := tm_acW (tm_IW h) h0
theorem tm_l_ltW {p : tm_P} (h : tm_W p) (t r : Nat) : tm_l p t r ≤ t * 144 + 132 ∧ t * 144 ≤ tm_l p t r := by
  have a := h.2.2 ((t * 2 + p 12 t) * 6 + r)
  unfold tm_l
  omega
theorem tm_screen {k : Bool} {p : tm_P} {t : Nat} {post : Int32 → Prop} (h : tm_W p) (h0 : p 0 0 = t) (hp : post (nI (t * 2 + p 12 t))) : wpX_screen post (tm_T k p) := by
  refine ⟨tm_inW h, ?_⟩
  show post (nI (p 0 0) * nI 2 + nI (p 12 (nI (p 0 0)).toNatClampNeg))
  rw [tm_acW h h0, h0, pk_mul, nI_add]
  exact hp
theorem tm_lineAt {k : Bool} {p : tm_P} {t : Nat} {post : Int32 → Prop} (h : tm_W p) (h0 : p 0 0 = t) {r : Nat} (hr : r ≤ 5) (hp : post (nI (tm_l p t r))) : wpX_lineAt post (tm_T k p) (nI r) := by
  have ht := h.1
  have ho : p 12 t ≤ 1 := h.2.1 t
  unfold wpX_lineAt tm_T
  dsimp only
  refine tm_screen (k := k) (p := p) h h0 ?_
  show vp_in (nI (t * 2 + p 12 t) * nI 6 + nI r) 24 ∧ post ((nI (p 0 0) * nI 12 + nI (p 3 (nI (t * 2 + p 12 t) * nI 6 + nI r).toNatClampNeg)) * nI 12)
  rw [show nI (t * 2 + p 12 t) * nI 6 + nI r = nI ((t * 2 + p 12 t) * 6 + r) from by rw [pk_mul, nI_add], tm_cl (by omega), h0, pk_mul, nI_add, pk_mul]
  exact ⟨vp_in_nI (by omega) (by omega), hp⟩
theorem tm_lineOf {k : Bool} {p : tm_P} {t : Nat} {post : Int32 → Prop} (h : tm_I p) (ht : t ≤ 1) {r : Nat} (hr : r ≤ 5) (hp : post (nI (tm_l p t r))) : wpX_lineOf post (tm_T k p) (nI t) (nI r) := by
  have ho : p 12 t ≤ 1 := (h.1 12 t).1
  refine ⟨vp_in_nI (by omega) (by omega), nm_r (e' := nI (t * 2 + p 12 t)) ?_ ?_⟩
  · show nI t * nI 2 + nI (p 12 (nI t).toNatClampNeg) = _
    rw [tm_cl (by omega), pk_mul, nI_add]
  · show vp_in (nI (t * 2 + p 12 t) * nI 6 + nI r) 24 ∧ post ((nI t * nI 12 + nI (p 3 (nI (t * 2 + p 12 t) * nI 6 + nI r).toNatClampNeg)) * nI 12)
    rw [show nI (t * 2 + p 12 t) * nI 6 + nI r = nI ((t * 2 + p 12 t) * 6 + r) from by rw [pk_mul, nI_add], tm_cl (by omega), pk_mul, nI_add, pk_mul]
    exact ⟨vp_in_nI (by omega) (by omega), hp⟩
theorem tm_number {k : Bool} {p : tm_P} {t : Nat} {post : Int32 → Prop} (h : tm_I p) (h0 : p 0 0 = t) {i : Nat} (hi : i ≤ 3) (hp : post (nI (if p 22 t ≤ i then 0 else p 23 (t * 4 + i)))) : wpX_number post (tm_T k p) (nI i) := by
  have ht := tm_at h
  have hc : p 22 t ≤ 5 := h.1 22 t
  refine ⟨tm_in h, ?_⟩
  show (nI (p 22 (nI (p 0 0)).toNatClampNeg) ≤ nI i → post (nI 0)) ∧ (¬ nI (p 22 (nI (p 0 0)).toNatClampNeg) ≤ nI i → vp_in (nI (p 0 0) * nI 4 + nI i) 8 ∧ post (nI (p 23 (nI (p 0 0) * nI 4 + nI i).toNatClampNeg)))
  rw [tm_ac h h0, h0, pk_mul, nI_add, tm_cl (by omega)]
  refine pk_le (p 22 t) i (fun z => ?_) (fun z => ⟨vp_in_nI (by omega) (by omega), ?_⟩)
  · rw [if_pos z] at hp; exact hp
  · rw [if_neg (by omega)] at hp; exact hp
theorem tm_lesser {post : Int32 → Prop} {a b : Nat} (ha : a < 1000) (hb : b < 1000) (hp : post (nI (min a b))) : wpX_lesser post () (nI a) (nI b) := by
  refine pk_le b a (fun z => ?_) (fun z => ?_)
  · rw [show min a b = b by omega] at hp; exact hp
  · rw [show min a b = a by omega] at hp; exact hp
theorem tm_greater {post : Int32 → Prop} {a n b : Nat} (ha : a < 1000) (hn : n < 1000) (hb : b < 1000) (hp : post (nI (max (a - n) b))) : wpX_greater post () (nI a - nI n) (nI b) := by
  by_cases e : n ≤ a
  · rw [pk_sub e]
    refine pk_le (a - n) b (fun z => ?_) (fun z => ?_)
    · rw [show max (a - n) b = b by omega] at hp; exact hp
    · rw [show max (a - n) b = a - n by omega] at hp; exact hp
  · rw [show max (a - n) b = b by omega] at hp
    refine br_t ?_ hp
    rw [Int32.le_iff_toInt_le, pk_sub_toInt (by omega) (by omega), nI_toInt (by omega)]
    omega
theorem tm_moveTo {k : Bool} {p : tm_P} {t : Nat} {post : St1 → Prop} (h : tm_W p) (h0 : p 0 0 = t) {r c : Nat} (hr : r ≤ 5) (hc : c ≤ 11) (hp : post (tm_T k (tm_u (tm_u p 4 t r) 5 t c))) : wpX_moveTo post (tm_T k p) (nI r) (nI c) := by
  refine ⟨tm_inW h, nm_r (tm_up p 4 t r (tm_acW h h0) (tm_b8 r (by omega))) ⟨tm_inW h, nm_r (tm_up (tm_u p 4 t r) 5 t c (tm_acW h h0) (tm_b8 c (by omega))) hp⟩⟩
/-- cells l+a .. l+b-1 made empty -/
def tm_E (p : tm_P) (l a b : Nat) : tm_P := fun g i => if (g = 1 ∨ g = 2) ∧ l + a ≤ i ∧ i < l + b then (if g = 1 then 32 else 0) else p g i
theorem tm_E_0 (p : tm_P) (l a b : Nat) (h : b ≤ a) : tm_E p l a b = p := by
  funext g i
  unfold tm_E
  rw [if_neg (by omega)]
theorem tm_E_s (p : tm_P) (l a b : Nat) (h : a < b) : tm_E (tm_u (tm_u p 1 (l + a) 32) 2 (l + a) 0) l (a + 1) b = tm_E p l a b := by
  funext g i
  unfold tm_E
  rw [tm_ue, tm_ue]
  by_cases g1 : g = 1
  · subst g1
    by_cases e : i = l + a
    · rw [if_neg (by omega), if_neg (by omega), if_pos ⟨rfl, e⟩, if_pos (by omega), if_pos rfl]
    · rw [if_neg (c := (1 : Nat) = 2 ∧ i = l + a) (by omega), if_neg (c := (1 : Nat) = 1 ∧ i = l + a) (by omega)]
      by_cases q : l + a ≤ i ∧ i < l + b
      · rw [if_pos (show ((1 : Nat) = 1 ∨ (1 : Nat) = 2) ∧ l + (a + 1) ≤ i ∧ i < l + b by omega), if_pos (show ((1 : Nat) = 1 ∨ (1 : Nat) = 2) ∧ l + a ≤ i ∧ i < l + b by omega)]
      · rw [if_neg (by omega), if_neg (by omega)]
  · by_cases g2 : g = 2
    · subst g2
      by_cases e : i = l + a
      · rw [if_neg (by omega), if_pos ⟨rfl, e⟩, if_pos (by omega), if_neg (by omega)]
      · rw [if_neg (c := (2 : Nat) = 2 ∧ i = l + a) (by omega), if_neg (c := (2 : Nat) = 1 ∧ i = l + a) (by omega)]
        by_cases q : l + a ≤ i ∧ i < l + b
        · rw [if_pos (show ((2 : Nat) = 1 ∨ (2 : Nat) = 2) ∧ l + (a + 1) ≤ i ∧ i < l + b by omega), if_pos (show ((2 : Nat) = 1 ∨ (2 : Nat) = 2) ∧ l + a ≤ i ∧ i < l + b by omega)]
        · rw [if_neg (by omega), if_neg (by omega)]
    · rw [if_neg (by omega), if_neg (by omega), if_neg (by omega), if_neg (by omega)]
theorem tm_E_o (p : tm_P) (l a b g i : Nat) (h : ¬ (g = 1 ∨ g = 2) ∨ i < l + a ∨ l + b ≤ i) : tm_E p l a b g i = p g i := by
  unfold tm_E; rw [if_neg (by omega)]
theorem tm_E_i (p : tm_P) (l a b i : Nat) (h : l + a ≤ i ∧ i < l + b) : tm_E p l a b 1 i = 32 := by
  unfold tm_E; rw [if_pos (by omega), if_pos rfl]
theorem tm_emptyCells_l {k : Bool} {post : St1 → Prop} (l b : Nat) (hb : b ≤ 12) (hl : l ≤ 276) : ∀ (d c : Nat) (p : tm_P), c + d = b → post (tm_T k (tm_E p l c b)) → ∃ fu, wX_emptyCells_10 post (nI b) (nI l) (nI (p 0 0)) (nI (p 25 0)) (nI (p 26 0)) fu (nI c) (fun i => nI (tm_f k (p 1 i))) (fun i => nI (p 2 i)) (fun i => nI (p 3 i)) (fun i => nI (p 4 i)) (fun i => nI (p 5 i)) (fun i => nI (p 6 i)) (fun i => nI (p 7 i)) (fun i => nI (p 8 i)) (fun i => nI (p 9 i)) (fun i => nI (p 10 i)) (fun i => nI (p 11 i)) (fun i => nI (p 12 i)) (fun i => nI (p 13 i)) (fun i => nI (p 14 i)) (fun i => nI (p 15 i)) (fun i => nI (p 16 i)) (fun i => nI (p 17 i)) (fun i => nI (p 18 i)) (fun i => nI (p 19 i)) (fun i => nI (p 20 i)) (fun i => nI (p 21 i)) (fun i => nI (p 22 i)) (fun i => nI (p 23 i)) (fun i => nI (tm_f k (p 24 i))) := by
  intro d
  induction d with
  | zero =>
    intro c p hc hp
    refine ⟨1, ?_⟩
    rw [tm_E_0 p l c b (by omega)] at hp
    exact pk_le b c (fun _ => hp) (fun z => absurd z (by omega))
  | succ d ih =>
    intro c p hc hp
    have e : nI l + nI c = nI (l + c) := nI_add l c
    have ec : (nI l + nI c).toNatClampNeg = l + c := by rw [e, tm_cl (by omega)]
    have ei : vp_in (nI l + nI c) 288 := by rw [e]; exact vp_in_nI (by omega) (by omega)
    obtain ⟨fu, hf⟩ := ih (c + 1) (tm_u (tm_u p 1 (l + c) 32) 2 (l + c) 0) (by omega) (by rw [tm_E_s p l c b (by omega)]; exact hp)
    refine ⟨fu + 1, pk_le b c (fun z => absurd z (by omega)) (fun _ => ⟨ei, nm_r (tm_us k p 1 (l + c) 32 ec (by rw [tm_f_32]; rfl)) ⟨ei, nm_r (tm_up (tm_u p 1 (l + c) 32) 2 (l + c) 0 ec rfl) (nm_r (nI_1 c) ?_)⟩⟩)⟩
    exact hf
theorem tm_emptyCells {k : Bool} {p : tm_P} {t : Nat} {post : St1 → Prop} (h : tm_W p) (h0 : p 0 0 = t) {r a b : Nat} (hr : r ≤ 5) (ha : a ≤ b) (hb : b ≤ 12) (hp : post (tm_T k (tm_E p (tm_l p t r) a b))) : wpX_emptyCells post (tm_T k p) (nI r) (nI a) (nI b) := by
  have hl := tm_l_ltW h t r
  have ht := h.1
  unfold wpX_emptyCells tm_T
  dsimp only
  refine tm_lineAt (k := k) (p := p) h h0 hr ?_
  exact tm_emptyCells_l (tm_l p t r) b hb (by omega) (b - a) a p (by omega) hp
/-- some cells of a terminal were made empty, and nothing else changed -/
def tm_ee (t : Nat) (p p' : tm_P) : Prop := ∀ g i, p' g i = p g i ∨ ((g = 1 ∧ p' g i = 32 ∨ g = 2 ∧ p' g i = 0) ∧ t * 144 ≤ i)
theorem tm_ee_r (t : Nat) (p : tm_P) : tm_ee t p p := fun _ _ => Or.inl rfl
theorem tm_ee_t {t : Nat} {p q r : tm_P} (h : tm_ee t p q) (g : tm_ee t q r) : tm_ee t p r := by
  intro a i
  rcases g a i with e | e
  · rcases h a i with f | f
    · exact Or.inl (e.trans f)
    · refine Or.inr ⟨?_, f.2⟩
      rcases f.1 with z | z
      · exact Or.inl ⟨z.1, e.trans z.2⟩
      · exact Or.inr ⟨z.1, e.trans z.2⟩
  · exact Or.inr e
theorem tm_ee_o {t : Nat} {p q : tm_P} (h : tm_ee t p q) {g : Nat} (i : Nat) (hg : g ≠ 1) (hg2 : g ≠ 2) : q g i = p g i := by
  rcases h g i with e | e
  · exact e
  · omega
theorem tm_ee_E {p : tm_P} (h : tm_W p) (t r a b : Nat) : tm_ee t p (tm_E p (tm_l p t r) a b) := by
  have hl := tm_l_ltW h t r
  intro g i
  unfold tm_E
  by_cases q : (g = 1 ∨ g = 2) ∧ tm_l p t r + a ≤ i ∧ i < tm_l p t r + b
  · rw [if_pos q]
    refine Or.inr ⟨?_, by omega⟩
    rcases q.1 with e | e
    · exact Or.inl ⟨e, if_pos e⟩
    · exact Or.inr ⟨e, if_neg (by omega)⟩
  · rw [if_neg q]; exact Or.inl rfl
theorem tm_ee_I {t : Nat} {p p' : tm_P} (h : tm_I p) (e : tm_ee t p p') : tm_I p' := by
  refine ⟨fun g i => ?_, fun r s hr hs => ?_, ?_⟩
  · rcases e g i with z | z
    · rw [z]; exact h.1 g i
    · rcases z.1 with y | y
      · rw [y.2, y.1]; exact fun _ => by omega
      · rw [y.2, y.1]; exact rfl
  · rw [tm_ee_o e _ (by omega) (by omega), tm_ee_o e _ (by omega) (by omega)]
    exact h.2.1 r s hr hs
  · rw [tm_ee_o e _ (by omega) (by omega), tm_ee_o e _ (by omega) (by omega)]
    exact h.2.2
theorem tm_ee_R {t : Nat} {p p' : tm_P} (h : tm_I p) (e : tm_ee t p p') : tm_R t p p' := by
  refine ⟨tm_ee_I h e, tm_ee_o e _ (by omega) (by omega), fun g i h1 h2 => tm_ee_o e _ (by omega) (by omega), fun z => ⟨fun i hi => ?_, fun i hi => tm_ee_o e _ (by omega) (by omega), tm_ee_o e _ (by omega) (by omega)⟩⟩
  rcases e 1 i with y | y
  · exact y
  · omega
theorem tm_ee_W {t : Nat} {p p' : tm_P} (h : tm_W p) (e : tm_ee t p p') : tm_W p' :=
  ⟨by rw [tm_ee_o e _ (by omega) (by omega)]; exact h.1, fun i => by rw [tm_ee_o e _ (by omega) (by omega)]; exact h.2.1 i, fun i => by rw [tm_ee_o e _ (by omega) (by omega)]; exact h.2.2 i⟩
theorem tm_ee_l {t : Nat} {p p' : tm_P} (e : tm_ee t p p') (s r : Nat) : tm_l p' s r = tm_l p s r :=
  tm_l_e s r (fun i => tm_ee_o e _ (by omega) (by omega)) (tm_ee_o e _ (by omega) (by omega))
/-- rows r .. b-1 made empty -/
theorem tm_emptyRows_l {t : Nat} (b : Nat) (hb : b ≤ 6) : ∀ (d r : Nat) (p : tm_P), r + d = b → tm_W p → p 0 0 = t →
    ∃ p', (tm_ee t p p' ∧ (∀ i s, r ≤ s → s < b → tm_l p t s ≤ i → i < tm_l p t s + 12 → p' 1 i = 32)) ∧
      ∀ (k : Bool) (post : St1 → Prop), post (tm_T k p') → ∃ fu, wX_emptyRows_2 post (nI b) fu (nI r) (nI (p 0 0)) (nI (p 25 0)) (nI (p 26 0)) (fun i => nI (tm_f k (p 1 i))) (fun i => nI (p 2 i)) (fun i => nI (p 3 i)) (fun i => nI (p 4 i)) (fun i => nI (p 5 i)) (fun i => nI (p 6 i)) (fun i => nI (p 7 i)) (fun i => nI (p 8 i)) (fun i => nI (p 9 i)) (fun i => nI (p 10 i)) (fun i => nI (p 11 i)) (fun i => nI (p 12 i)) (fun i => nI (p 13 i)) (fun i => nI (p 14 i)) (fun i => nI (p 15 i)) (fun i => nI (p 16 i)) (fun i => nI (p 17 i)) (fun i => nI (p 18 i)) (fun i => nI (p 19 i)) (fun i => nI (p 20 i)) (fun i => nI (p 21 i)) (fun i => nI (p 22 i)) (fun i => nI (p 23 i)) (fun i => nI (tm_f k (p 24 i))) := by
  intro d
  induction d with
  | zero =>
    intro r p hr h h0
    refine ⟨p, ⟨tm_ee_r t p, fun i s h1 h2 => absurd h1 (by omega)⟩, fun k post hp => ⟨1, ?_⟩⟩
    exact pk_le b r (fun _ => hp) (fun z => absurd z (by omega))
  | succ d ih =>
    intro r p hr h h0
    have hE := tm_ee_E h t r 0 12
    obtain ⟨p', ⟨h1, h4⟩, run⟩ := ih (r + 1) (tm_E p (tm_l p t r) 0 12) (by omega) (tm_ee_W h hE) ((tm_ee_o hE 0 (by omega) (by omega)).trans h0)
    refine ⟨p', ⟨tm_ee_t hE h1, fun i s s1 s2 s3 s4 => ?_⟩, fun k post hp => ?_⟩
    · by_cases e : s = r
      · subst e
        rcases h1 1 i with z | z
        · exact z.trans (tm_E_i _ _ _ _ _ (by omega))
        · omega
      · exact h4 i s (by omega) s2 (by rw [tm_ee_l hE]; exact s3) (by rw [tm_ee_l hE]; exact s4)
    · obtain ⟨fu, hf⟩ := run k post hp
      refine ⟨fu + 1, pk_le b r (fun z => absurd z (by omega)) (fun _ => ?_)⟩
      refine tm_emptyCells (k := k) (p := p) (a := 0) (b := 12) h h0 (by omega) (by omega) (by omega) ?_
      exact nm_r (nI_1 r) hf
theorem tm_emptyRows {t a b : Nat} {p : tm_P} (ha : a ≤ b) (hb : b ≤ 6) (h : tm_W p) (h0 : p 0 0 = t) :
    ∃ p', (tm_ee t p p' ∧ (∀ i s, a ≤ s → s < b → tm_l p t s ≤ i → i < tm_l p t s + 12 → p' 1 i = 32)) ∧
      ∀ (k : Bool) (post : St1 → Prop), post (tm_T k p') → wpX_emptyRows post (tm_T k p) (nI a) (nI b) := by
  obtain ⟨p', hs, run⟩ := tm_emptyRows_l b hb (b - a) a p (by omega) h h0
  exact ⟨p', hs, fun k post hp => run k post hp⟩
end
section
/-! rows turned around -/
def tm_hU (p : tm_P) (a b : Nat) : tm_P := fun g i => if g = 3 ∧ a ≤ i ∧ i < b then p 3 (i + 1) else p g i
def tm_hD (p : tm_P) (a b : Nat) : tm_P := fun g i => if g = 3 ∧ a < i ∧ i ≤ b then p 3 (i - 1) else p g i
theorem tm_hU_0 (p : tm_P) (a b : Nat) (h : b ≤ a) : tm_hU p a b = p := by
  funext g i; unfold tm_hU; rw [if_neg (by omega)]
theorem tm_hD_0 (p : tm_P) (a b : Nat) (h : b ≤ a) : tm_hD p a b = p := by
  funext g i; unfold tm_hD; rw [if_neg (by omega)]
theorem tm_hU_s (p : tm_P) (a b : Nat) (h : a < b) : tm_hU (tm_u p 3 a (p 3 (a + 1))) (a + 1) b = tm_hU p a b := by
  funext g i
  unfold tm_hU
  by_cases e : g = 3
  · subst e
    by_cases q : i = a
    · subst q; rw [if_neg (by omega), tm_uS, if_pos (by omega)]
    · by_cases z : a ≤ i ∧ i < b
      · rw [if_pos (by omega), if_pos (by omega), tm_uN _ _ _ _ (by omega)]
      · rw [if_neg (by omega), if_neg (by omega), tm_uN _ _ _ _ (by omega)]
  · rw [if_neg (by omega), if_neg (by omega), tm_uN _ _ _ _ (by omega)]
theorem tm_hD_s (p : tm_P) (a b : Nat) (h : a < b + 1) : tm_hD (tm_u p 3 (b + 1) (p 3 b)) a b = tm_hD p a (b + 1) := by
  funext g i
  unfold tm_hD
  by_cases e : g = 3
  · subst e
    by_cases q : i = b + 1
    · subst q; rw [if_neg (by omega), tm_uS, if_pos (by omega)]; rfl
    · by_cases z : a < i ∧ i ≤ b
      · rw [if_pos (by omega), if_pos (by omega), tm_uN _ _ _ _ (by omega)]
      · rw [if_neg (by omega), if_neg (by omega), tm_uN _ _ _ _ (by omega)]
  · rw [if_neg (by omega), if_neg (by omega), tm_uN _ _ _ _ (by omega)]
def tm_qU (p : tm_P) (s a b : Nat) : tm_P := tm_u (tm_hU p (s + a) (s + b)) 3 (s + b) (p 3 (s + a))
def tm_qD (p : tm_P) (s a b : Nat) : tm_P := tm_u (tm_hD p (s + a) (s + b)) 3 (s + a) (p 3 (s + b))
theorem tm_qU_o (p : tm_P) (s a b : Nat) {g : Nat} (i : Nat) (h : g ≠ 3) : tm_qU p s a b g i = p g i := by
  unfold tm_qU tm_hU; rw [tm_uN _ _ _ _ (by omega), if_neg (by omega)]
theorem tm_qD_o (p : tm_P) (s a b : Nat) {g : Nat} (i : Nat) (h : g ≠ 3) : tm_qD p s a b g i = p g i := by
  unfold tm_qD tm_hD; rw [tm_uN _ _ _ _ (by omega), if_neg (by omega)]
/-- every slot behind is a slot before: at which place -/
def tm_sU (s a b i : Nat) : Nat := if s + a ≤ i ∧ i < s + b then i + 1 else if i = s + b then s + a else i
def tm_sD (s a b i : Nat) : Nat := if s + a < i ∧ i ≤ s + b then i - 1 else if i = s + a then s + b else i
theorem tm_qU_3 (p : tm_P) (s a b i : Nat) : tm_qU p s a b 3 i = p 3 (tm_sU s a b i) := by
  unfold tm_qU tm_hU tm_sU
  rw [tm_ue]
  by_cases e : i = s + b
  · rw [if_pos ⟨rfl, e⟩, if_neg (by omega), if_pos e]
  · rw [if_neg (by omega)]
    by_cases z : s + a ≤ i ∧ i < s + b
    · rw [if_pos (by omega), if_pos z]
    · rw [if_neg (by omega), if_neg z, if_neg e]
theorem tm_qD_3 (p : tm_P) (s a b i : Nat) : tm_qD p s a b 3 i = p 3 (tm_sD s a b i) := by
  unfold tm_qD tm_hD tm_sD
  rw [tm_ue]
  by_cases e : i = s + a
  · rw [if_pos ⟨rfl, e⟩, if_neg (by omega), if_pos e]
  · rw [if_neg (by omega)]
    by_cases z : s + a < i ∧ i ≤ s + b
    · rw [if_pos (by omega), if_pos z]
    · rw [if_neg (by omega), if_neg z, if_neg e]
/-- a picture whose slots are another one's, at other places of the screen of terminal t -/
theorem tm_perm {t : Nat} {p q : tm_P} {f : Nat → Nat} (h : tm_I p) (ho : ∀ g i, g ≠ 3 → q g i = p g i) (h3 : ∀ i, q 3 i = p 3 (f i))
    (hi : ∀ r s, r < 6 → s < 6 → f (12 + r) = f (12 + s) → r = s) (hr : ∀ r, r < 6 → ∃ s, s < 6 ∧ f (12 + r) = 12 + s) (hz : t = 1 → ∀ i, i < 12 → f i = i) : tm_R t p q := by
  refine ⟨⟨fun g i => ?_, fun r s h1 h2 e => ?_, ?_⟩, ho _ _ (by omega), fun g i h1 h2 => ho _ _ (by omega), fun e => ⟨fun i _ => ho _ _ (by omega), fun i hi => ?_, ho _ _ (by omega)⟩⟩
  · by_cases e : g = 3
    · subst e; rw [h3]; exact h.1 3 (f i)
    · rw [ho _ _ e]; exact h.1 g i
  · rw [h3, h3] at e
    obtain ⟨r', r1, r2⟩ := hr r h1
    obtain ⟨s', s1, s2⟩ := hr s h2
    rw [r2, s2] at e
    have z := h.2.1 r' s' r1 s1 e
    exact hi r s h1 h2 (by rw [r2, s2, z])
  · rw [ho _ _ (by omega), ho _ _ (by omega)]; exact h.2.2
  · rw [h3, hz e i hi]
theorem tm_qU_R {t : Nat} {p : tm_P} (h : tm_I p) (ht : t ≤ 1) {s a b : Nat} (hs : s = (t * 2 + p 12 t) * 6) (hab : a ≤ b) (hb : b ≤ 5) : tm_R t p (tm_qU p s a b) := by
  have ho : p 12 t ≤ 1 ∧ (t = 1 → p 12 t = 0) := h.1 12 t
  have hs' : s = 0 ∨ s = 6 ∨ s = 12 := by omega
  have ht1 : t = 1 → s = 12 := by omega
  refine tm_perm (f := tm_sU s a b) h (fun g i hg => tm_qU_o p s a b i hg) (tm_qU_3 p s a b) ?_ ?_ ?_
  · intro x y hx hy
    unfold tm_sU
    split <;> split <;> (try split) <;> (try split) <;> omega
  · intro x hx
    refine ⟨tm_sU s a b (12 + x) - 12, ?_, ?_⟩ <;> unfold tm_sU <;> split <;> (try split) <;> omega
  · intro e i hi
    unfold tm_sU
    rw [if_neg (by omega), if_neg (by omega)]
theorem tm_qD_R {t : Nat} {p : tm_P} (h : tm_I p) (ht : t ≤ 1) {s a b : Nat} (hs : s = (t * 2 + p 12 t) * 6) (hab : a ≤ b) (hb : b ≤ 5) : tm_R t p (tm_qD p s a b) := by
  have ho : p 12 t ≤ 1 ∧ (t = 1 → p 12 t = 0) := h.1 12 t
  have hs' : s = 0 ∨ s = 6 ∨ s = 12 := by omega
  have ht1 : t = 1 → s = 12 := by omega
  refine tm_perm (f := tm_sD s a b) h (fun g i hg => tm_qD_o p s a b i hg) (tm_qD_3 p s a b) ?_ ?_ ?_
  · intro x y hx hy
    unfold tm_sD
    split <;> split <;> (try split) <;> (try split) <;> omega
  · intro x hx
    refine ⟨tm_sD s a b (12 + x) - 12, ?_, ?_⟩ <;> unfold tm_sD <;> split <;> (try split) <;> omega
  · intro e i hi
    unfold tm_sD
    rw [if_neg (by omega), if_neg (by omega)]
theorem tm_W3 {p : tm_P} (h : tm_W p) {i v : Nat} (hv : v ≤ 11) : tm_W (tm_u p 3 i v) := by
  refine ⟨h.1, h.2.1, fun j => ?_⟩
  rw [tm_ue]
  split
  · exact hv
  · exact h.2.2 j
theorem tm_turnUp_l {k : Bool} {post : St1 → Prop} {t s b v : Nat} (hv : v ≤ 11) (hb : b ≤ 5) (hs : s ≤ 18) : ∀ (d r : Nat) (p : tm_P), r + d = b → tm_W p → p 0 0 = t →
    post (tm_T k (tm_E (tm_u (tm_hU p (s + r) (s + b)) 3 (s + b) v) (tm_l (tm_u (tm_hU p (s + r) (s + b)) 3 (s + b) v) t b) 0 12)) →
    ∃ fu, wX_turnUp_21 post (nI b) (nI s) (nI v) (nI (p 0 0)) (nI (p 25 0)) (nI (p 26 0)) fu (nI r) (fun i => nI (tm_f k (p 1 i))) (fun i => nI (p 2 i)) (fun i => nI (p 3 i)) (fun i => nI (p 4 i)) (fun i => nI (p 5 i)) (fun i => nI (p 6 i)) (fun i => nI (p 7 i)) (fun i => nI (p 8 i)) (fun i => nI (p 9 i)) (fun i => nI (p 10 i)) (fun i => nI (p 11 i)) (fun i => nI (p 12 i)) (fun i => nI (p 13 i)) (fun i => nI (p 14 i)) (fun i => nI (p 15 i)) (fun i => nI (p 16 i)) (fun i => nI (p 17 i)) (fun i => nI (p 18 i)) (fun i => nI (p 19 i)) (fun i => nI (p 20 i)) (fun i => nI (p 21 i)) (fun i => nI (p 22 i)) (fun i => nI (p 23 i)) (fun i => nI (tm_f k (p 24 i))) := by
  intro d
  induction d with
  | zero =>
    intro r p hr h h0 hp
    rw [tm_hU_0 p (s + r) (s + b) (by omega)] at hp
    have e : nI s + nI b = nI (s + b) := nI_add s b
    refine ⟨1, pk_le b r (fun _ => ⟨?_, nm_r (tm_up p 3 (s + b) v ?_ ?_) ?_⟩) (fun z => absurd z (by omega))⟩
    · rw [e]; exact vp_in_nI (by omega) (by omega)
    · rw [e]; exact tm_cl (by omega)
    · exact tm_nb (by omega)
    · exact tm_emptyCells (k := k) (p := tm_u p 3 (s + b) v) (a := 0) (b := 12) (tm_W3 h hv) h0 hb (by omega) (by omega) hp
  | succ d ih =>
    intro r p hr h h0 hp
    have e : nI s + nI r = nI (s + r) := nI_add s r
    have e1 : nI s + nI r + 1 = nI (s + r + 1) := by rw [e]; exact nI_1 (s + r)
    have hq := h.2.2 (s + r + 1)
    obtain ⟨fu, hf⟩ := ih (r + 1) (tm_u p 3 (s + r) (p 3 (s + r + 1))) (by omega) (tm_W3 h hq) h0 (by
      rw [show s + (r + 1) = s + r + 1 from rfl, tm_hU_s p (s + r) (s + b) (by omega)]; exact hp)
    refine ⟨fu + 1, pk_le b r (fun z => absurd z (by omega)) (fun _ => ⟨?_, ?_, nm_r (tm_up p 3 (s + r) (p 3 (s + r + 1)) ?_ ?_) (nm_r (nI_1 r) ?_)⟩)⟩
    · rw [e1]; exact vp_in_nI (by omega) (by omega)
    · rw [e]; exact vp_in_nI (by omega) (by omega)
    · rw [e]; exact tm_cl (by omega)
    · show vp_nar .byte (nI (p 3 (nI s + nI r + 1).toNatClampNeg)) = _
      rw [e1, tm_cl (by omega)]
      exact tm_nb (by omega)
    · exact hf
theorem tm_turnUp {t a b : Nat} {p : tm_P} (h : tm_I p) (h0 : p 0 0 = t) (hab : a ≤ b) (hb : b ≤ 5) :
    ∃ p', (tm_R t p p' ∧ (∀ g i, 4 ≤ g → p' g i = p g i)) ∧ ∀ (k : Bool) (post : St1 → Prop), post (tm_T k p') → wpX_turnUp post (tm_T k p) (nI a) (nI b) := by
  have ht := tm_at h
  have ho : p 12 t ≤ 1 := (h.1 12 t).1
  have hq := tm_qU_R h (t := t) (by omega) (s := (t * 2 + p 12 t) * 6) rfl hab hb
  have hE := tm_ee_E (tm_IW hq.1) t b 0 12
  refine ⟨_, ⟨tm_R_t hq (tm_ee_R hq.1 hE), fun g i hg => (tm_ee_o hE i (by omega) (by omega)).trans (tm_qU_o _ _ _ _ _ (by omega))⟩, fun k post hp => ?_⟩
  unfold wpX_turnUp tm_T
  dsimp only
  refine tm_screen (k := k) (p := p) (tm_IW h) h0 ?_
  have hv : p 3 ((t * 2 + p 12 t) * 6 + a) ≤ 11 := h.1 3 _
  refine nm_r (e' := nI ((t * 2 + p 12 t) * 6)) (pk_mul _ 6) ⟨?_, nm_r (e' := nI (p 3 ((t * 2 + p 12 t) * 6 + a))) ?_ ?_⟩
  · rw [nI_add]; exact vp_in_nI (by omega) (by omega)
  · rw [nI_add, tm_cl (by omega)]
  · exact tm_turnUp_l hv hb (by omega) (b - a) a p (by omega) (tm_IW h) h0 hp
theorem tm_turnDown_l {k : Bool} {post : St1 → Prop} {t s a v : Nat} (hv : v ≤ 11) (ha : a ≤ 5) (hs : s ≤ 18) : ∀ (d r : Nat) (p : tm_P), a + d = r → r ≤ 5 → tm_W p → p 0 0 = t →
    post (tm_T k (tm_E (tm_u (tm_hD p (s + a) (s + r)) 3 (s + a) v) (tm_l (tm_u (tm_hD p (s + a) (s + r)) 3 (s + a) v) t a) 0 12)) →
    ∃ fu, wX_turnDown_21 post (nI a) (nI s) (nI v) (nI (p 0 0)) (nI (p 25 0)) (nI (p 26 0)) fu (nI r) (fun i => nI (tm_f k (p 1 i))) (fun i => nI (p 2 i)) (fun i => nI (p 3 i)) (fun i => nI (p 4 i)) (fun i => nI (p 5 i)) (fun i => nI (p 6 i)) (fun i => nI (p 7 i)) (fun i => nI (p 8 i)) (fun i => nI (p 9 i)) (fun i => nI (p 10 i)) (fun i => nI (p 11 i)) (fun i => nI (p 12 i)) (fun i => nI (p 13 i)) (fun i => nI (p 14 i)) (fun i => nI (p 15 i)) (fun i => nI (p 16 i)) (fun i => nI (p 17 i)) (fun i => nI (p 18 i)) (fun i => nI (p 19 i)) (fun i => nI (p 20 i)) (fun i => nI (p 21 i)) (fun i => nI (p 22 i)) (fun i => nI (p 23 i)) (fun i => nI (tm_f k (p 24 i))) := by
  intro d
  induction d with
  | zero =>
    intro r p hr h5 h h0 hp
    rw [tm_hD_0 p (s + a) (s + r) (by omega)] at hp
    have e : nI s + nI a = nI (s + a) := nI_add s a
    refine ⟨1, pk_le r a (fun _ => ⟨?_, nm_r (tm_up p 3 (s + a) v ?_ ?_) ?_⟩) (fun z => absurd z (by omega))⟩
    · rw [e]; exact vp_in_nI (by omega) (by omega)
    · rw [e]; exact tm_cl (by omega)
    · exact tm_nb (by omega)
    · exact tm_emptyCells (k := k) (p := tm_u p 3 (s + a) v) (a := 0) (b := 12) (tm_W3 h hv) h0 ha (by omega) (by omega) hp
  | succ d ih =>
    intro r p hr h5 h h0 hp
    obtain ⟨m, rfl⟩ : ∃ m, r = m + 1 := ⟨r - 1, by omega⟩
    have e : nI s + nI (m + 1) = nI (s + m + 1) := nI_add s (m + 1)
    have e1 : nI s + nI (m + 1) - 1 = nI (s + m) := by rw [e]; exact nI_pred (s + m)
    have hq := h.2.2 (s + m)
    obtain ⟨fu, hf⟩ := ih m (tm_u p 3 (s + m + 1) (p 3 (s + m))) (by omega) (by omega) (tm_W3 h hq) h0 (by
      rw [tm_hD_s p (s + a) (s + m) (by omega)]; exact hp)
    refine ⟨fu + 1, pk_le (m + 1) a (fun z => absurd z (by omega)) (fun _ => ⟨?_, ?_, nm_r (tm_up p 3 (s + m + 1) (p 3 (s + m)) ?_ ?_) (nm_r (pk_m1 m) ?_)⟩)⟩
    · rw [e1]; exact vp_in_nI (by omega) (by omega)
    · rw [e]; exact vp_in_nI (by omega) (by omega)
    · rw [e]; exact tm_cl (by omega)
    · show vp_nar .byte (nI (p 3 (nI s + nI (m + 1) - 1).toNatClampNeg)) = _
      rw [e1, tm_cl (by omega)]
      exact tm_nb (by omega)
    · exact hf
theorem tm_turnDown {t a b : Nat} {p : tm_P} (h : tm_I p) (h0 : p 0 0 = t) (hab : a ≤ b) (hb : b ≤ 5) :
    ∃ p', (tm_R t p p' ∧ (∀ g i, 4 ≤ g → p' g i = p g i)) ∧ ∀ (k : Bool) (post : St1 → Prop), post (tm_T k p') → wpX_turnDown post (tm_T k p) (nI a) (nI b) := by
  have ht := tm_at h
  have ho : p 12 t ≤ 1 := (h.1 12 t).1
  have hq := tm_qD_R h (t := t) (by omega) (s := (t * 2 + p 12 t) * 6) rfl hab hb
  have hE := tm_ee_E (tm_IW hq.1) t a 0 12
  refine ⟨_, ⟨tm_R_t hq (tm_ee_R hq.1 hE), fun g i hg => (tm_ee_o hE i (by omega) (by omega)).trans (tm_qD_o _ _ _ _ _ (by omega))⟩, fun k post hp => ?_⟩
  unfold wpX_turnDown tm_T
  dsimp only
  refine tm_screen (k := k) (p := p) (tm_IW h) h0 ?_
  have hv : p 3 ((t * 2 + p 12 t) * 6 + b) ≤ 11 := h.1 3 _
  refine nm_r (e' := nI ((t * 2 + p 12 t) * 6)) (pk_mul _ 6) ⟨?_, nm_r (e' := nI (p 3 ((t * 2 + p 12 t) * 6 + b))) ?_ ?_⟩
  · rw [nI_add]; exact vp_in_nI (by omega) (by omega)
  · rw [nI_add, tm_cl (by omega)]
  · exact tm_turnDown_l hv (by omega) (by omega) (b - a) b p (by omega) hb (tm_IW h) h0 hp
/-! the kept rows -/
theorem tm_keepRow_l {l : Nat} (hl : l ≤ 276) : ∀ (d c : Nat) (p : tm_P), c + d = 12 → tm_I p →
    ∃ p', (tm_I p' ∧ ∀ g i, g < 24 → p' g i = p g i) ∧ ∀ (k : Bool) (post : St1 → Prop), post (tm_T k p') → ∃ fu, wX_keepRow_8 post (nI l) (nI (p 0 0)) (nI (p 25 0)) (nI (p 26 0)) fu (nI c) (fun i => nI (tm_f k (p 1 i))) (fun i => nI (p 2 i)) (fun i => nI (p 3 i)) (fun i => nI (p 4 i)) (fun i => nI (p 5 i)) (fun i => nI (p 6 i)) (fun i => nI (p 7 i)) (fun i => nI (p 8 i)) (fun i => nI (p 9 i)) (fun i => nI (p 10 i)) (fun i => nI (p 11 i)) (fun i => nI (p 12 i)) (fun i => nI (p 13 i)) (fun i => nI (p 14 i)) (fun i => nI (p 15 i)) (fun i => nI (p 16 i)) (fun i => nI (p 17 i)) (fun i => nI (p 18 i)) (fun i => nI (p 19 i)) (fun i => nI (p 20 i)) (fun i => nI (p 21 i)) (fun i => nI (p 22 i)) (fun i => nI (p 23 i)) (fun i => nI (tm_f k (p 24 i))) := by
  intro d
  induction d with
  | zero =>
    intro c p hc h
    have hn : p 26 0 ≤ 7 := h.1 26 0
    have hk : p 25 0 ≤ 8 := h.1 25 0
    refine ⟨tm_u (tm_u p 26 0 ((p 26 0 + 1) % 8)) 25 0 (if 8 ≤ p 25 0 then 8 else p 25 0 + 1), ⟨tm_Iu (tm_Iu h ?_ (by omega) (by omega) (by omega)) ?_ (by omega) (by omega) (by omega), fun g i hg => ?_⟩, fun k post hp => ⟨1, pk_le 12 c (fun _ => ⟨by decide, nm_r (e' := nI ((p 26 0 + 1) % 8)) ?_ ?_⟩) (fun z => absurd z (by omega))⟩⟩
    · show (p 26 0 + 1) % 8 ≤ 7; omega
    · show (if 8 ≤ p 25 0 then 8 else p 25 0 + 1) ≤ 8; split <;> omega
    · rw [tm_uN _ _ _ _ (by omega), tm_uN _ _ _ _ (by omega)]
    · rw [nI_1]; exact pk_rem (d := 8) (by omega) (by omega) (by omega)
    · refine pk_le 8 (p 25 0) (fun z => ?_) (fun z => nm_r (nI_1 _) ?_)
      · rw [if_pos z] at hp; exact hp
      · rw [if_neg (by omega)] at hp; exact hp
  | succ d ih =>
    intro c p hc h
    have hn : p 26 0 ≤ 7 := h.1 26 0
    have hs : 32 ≤ p 1 (l + c) ∧ p 1 (l + c) ≤ 62 := h.1 1 (l + c) (by omega)
    obtain ⟨p', ⟨h1, h2⟩, run⟩ := ih (c + 1) (tm_u p 24 (p 26 0 * 12 + c) (p 1 (l + c))) (by omega) (tm_Iu h hs.2 (by omega) (by omega) (by omega))
    refine ⟨p', ⟨h1, fun g i hg => (h2 g i hg).trans (tm_uN _ _ _ _ (by omega))⟩, fun k post hp => ?_⟩
    obtain ⟨fu, hf⟩ := run k post hp
    have e1 : nI l + nI c = nI (l + c) := nI_add l c
    have e2 : nI (p 26 0) * nI 12 + nI c = nI (p 26 0 * 12 + c) := by rw [pk_mul, nI_add]
    have hs2 := tm_f_r (k := k) hs
    refine ⟨fu + 1, pk_le 12 c (fun z => absurd z (by omega)) (fun _ => ⟨?_, ?_, nm_r (tm_us k p 24 (p 26 0 * 12 + c) (p 1 (l + c)) ?_ ?_) (nm_r (nI_1 c) hf)⟩)⟩
    · rw [e1]; exact vp_in_nI (by omega) (by omega)
    · show vp_in (nI (p 26 0) * nI 12 + nI c) 96
      rw [e2]; exact vp_in_nI (by omega) (by omega)
    · show (nI (p 26 0) * nI 12 + nI c).toNatClampNeg = _
      rw [e2]; exact tm_cl (by omega)
    · show vp_nar .byte (nI (tm_f k (p 1 (nI l + nI c).toNatClampNeg))) = _
      rw [e1, tm_cl (by omega)]
      exact tm_nb (by omega)
theorem tm_keepRow {p : tm_P} (h : tm_I p) (h0 : p 0 0 = 0) : ∃ p', (tm_R 0 p p' ∧ ∀ g i, g < 24 → p' g i = p g i) ∧ ∀ (k : Bool) (post : St1 → Prop), post (tm_T k p') → wpX_keepRow post (tm_T k p) := by
  have hl := tm_l_lt h 0 0
  obtain ⟨p', ⟨h1, h2⟩, run⟩ := tm_keepRow_l (l := tm_l p 0 0) (by omega) 12 0 p (by omega) h
  refine ⟨p', ⟨⟨h1, h2 0 0 (by omega), fun g i _ hg => h2 g i (by omega), fun z => absurd z (by omega)⟩, h2⟩, fun k post hp => ?_⟩
  unfold wpX_keepRow tm_T
  dsimp only
  refine tm_lineAt (k := k) (p := p) (tm_IW h) h0 (r := 0) (by omega) ?_
  exact run k post hp
theorem tm_scrollUp_l {t : Nat} (n : Nat) (hn : n ≤ 99) : ∀ (d j : Nat) (p : tm_P), j + d = n → tm_I p → p 0 0 = t →
    ∃ p', tm_R t p p' ∧ ∀ (k : Bool) (post : St1 → Prop), post (tm_T k p') → ∃ fu, wX_scrollUp_2 post (nI n) fu (nI j) (nI (p 0 0)) (nI (p 25 0)) (nI (p 26 0)) (fun i => nI (tm_f k (p 1 i))) (fun i => nI (p 2 i)) (fun i => nI (p 3 i)) (fun i => nI (p 4 i)) (fun i => nI (p 5 i)) (fun i => nI (p 6 i)) (fun i => nI (p 7 i)) (fun i => nI (p 8 i)) (fun i => nI (p 9 i)) (fun i => nI (p 10 i)) (fun i => nI (p 11 i)) (fun i => nI (p 12 i)) (fun i => nI (p 13 i)) (fun i => nI (p 14 i)) (fun i => nI (p 15 i)) (fun i => nI (p 16 i)) (fun i => nI (p 17 i)) (fun i => nI (p 18 i)) (fun i => nI (p 19 i)) (fun i => nI (p 20 i)) (fun i => nI (p 21 i)) (fun i => nI (p 22 i)) (fun i => nI (p 23 i)) (fun i => nI (tm_f k (p 24 i))) := by
  intro d
  induction d with
  | zero =>
    intro j p hj h h0
    exact ⟨p, tm_R_r h, fun k post hp => ⟨1, pk_le n j (fun _ => hp) (fun z => absurd z (by omega))⟩⟩
  | succ d ih =>
    intro j p hj h h0
    have core : ∀ q : tm_P, tm_I q → q 0 0 = t → ∃ p', tm_R t q p' ∧ ∀ (k : Bool) (post : St1 → Prop), post (tm_T k p') → ∃ fu, wX_scrollUp_42 post (wX_scrollUp_2 post (nI n) fu) (nI n) (nI j) (nI (q 0 0)) (nI (q 25 0)) (nI (q 26 0)) (fun i => nI (tm_f k (q 1 i))) (fun i => nI (q 2 i)) (fun i => nI (q 3 i)) (fun i => nI (q 4 i)) (fun i => nI (q 5 i)) (fun i => nI (q 6 i)) (fun i => nI (q 7 i)) (fun i => nI (q 8 i)) (fun i => nI (q 9 i)) (fun i => nI (q 10 i)) (fun i => nI (q 11 i)) (fun i => nI (q 12 i)) (fun i => nI (q 13 i)) (fun i => nI (q 14 i)) (fun i => nI (q 15 i)) (fun i => nI (q 16 i)) (fun i => nI (q 17 i)) (fun i => nI (q 18 i)) (fun i => nI (q 19 i)) (fun i => nI (q 20 i)) (fun i => nI (q 21 i)) (fun i => nI (q 22 i)) (fun i => nI (q 23 i)) (fun i => nI (tm_f k (q 24 i))) := by
      intro q hq q0
      obtain ⟨p1, ⟨r1, _⟩, run1⟩ := tm_turnUp (a := 0) (b := 5) hq q0 (by omega) (by omega)
      obtain ⟨p2, r2, run2⟩ := ih (j + 1) p1 (by omega) r1.1 (r1.2.1.trans q0)
      refine ⟨p2, tm_R_t r1 r2, fun k post hp => ?_⟩
      obtain ⟨fu, hf⟩ := run2 k post hp
      have ht := tm_at hq
      have e8 : nI (q 8 (nI (q 0 0)).toNatClampNeg) = nI 0 := congrArg nI (hq.1 8 _)
      have e9 : nI (q 9 (nI (q 0 0)).toNatClampNeg) = nI 5 := congrArg nI (hq.1 9 _ (by rw [tm_ac hq q0]; omega))
      refine ⟨fu, tm_in hq, tm_in hq, ?_⟩
      show wpX_turnUp _ (tm_T k q) (nI (q 8 (nI (q 0 0)).toNatClampNeg)) (nI (q 9 (nI (q 0 0)).toNatClampNeg))
      rw [e8, e9]
      refine run1 k _ ?_
      exact nm_r (nI_1 j) hf
    by_cases c : t = 0 ∧ p 12 0 = 0
    · obtain ⟨ct, c2⟩ := c
      subst ct
      obtain ⟨p1, ⟨r1, _⟩, run1⟩ := tm_keepRow h h0
      obtain ⟨p2, r2, run2⟩ := core p1 r1.1 (r1.2.1.trans h0)
      refine ⟨p2, tm_R_t r1 r2, fun k post hp => ?_⟩
      obtain ⟨fu, hf⟩ := run2 k post hp
      have e12 : nI (p 12 (nI (p 0 0)).toNatClampNeg) = nI 0 := by rw [tm_ac h h0, c2]
      have e8 : nI (p 8 (nI (p 0 0)).toNatClampNeg) = nI 0 := congrArg nI (h.1 8 _)
      refine ⟨fu + 1, pk_le n j (fun z => absurd z (by omega)) (fun _ => br_t (by show nI (p 0 0) = nI 0; rw [h0]) ⟨tm_in h, br_t e12 ⟨tm_in h, br_t e8 ?_⟩⟩)⟩
      exact run1 k _ hf
    · obtain ⟨p2, r2, run2⟩ := core p h h0
      refine ⟨p2, r2, fun k post hp => ?_⟩
      obtain ⟨fu, hf⟩ := run2 k post hp
      have ht := tm_at h
      refine ⟨fu + 1, pk_le n j (fun z => absurd z (by omega)) (fun _ => pk_eq (p 0 0) 0 (fun z => ⟨tm_in h, br_f ?_ hf⟩) (fun _ => hf))⟩
      show ¬ nI (p 12 (nI (p 0 0)).toNatClampNeg) = nI 0
      rw [tm_ac h h0]
      have ho : p 12 t ≤ 1 := (h.1 12 t).1
      rw [nI_eq (by omega) (by omega)]
      intro e
      apply c
      rw [h0] at z
      subst z
      exact ⟨rfl, e⟩
theorem tm_scrollUp {t n : Nat} {p : tm_P} (hn : n ≤ 99) (h : tm_I p) (h0 : p 0 0 = t) : ∃ p', tm_R t p p' ∧ ∀ (k : Bool) (post : St1 → Prop), post (tm_T k p') → wpX_scrollUp post (tm_T k p) (nI n) := by
  obtain ⟨p', r, run⟩ := tm_scrollUp_l n hn n 0 p (by omega) h h0
  exact ⟨p', r, fun k post hp => run k post hp⟩
theorem tm_scrollDown_l {t : Nat} (n : Nat) (hn : n ≤ 99) : ∀ (d j : Nat) (p : tm_P), j + d = n → tm_I p → p 0 0 = t →
    ∃ p', tm_R t p p' ∧ ∀ (k : Bool) (post : St1 → Prop), post (tm_T k p') → ∃ fu, wX_scrollDown_2 post (nI n) fu (nI j) (nI (p 0 0)) (nI (p 25 0)) (nI (p 26 0)) (fun i => nI (tm_f k (p 1 i))) (fun i => nI (p 2 i)) (fun i => nI (p 3 i)) (fun i => nI (p 4 i)) (fun i => nI (p 5 i)) (fun i => nI (p 6 i)) (fun i => nI (p 7 i)) (fun i => nI (p 8 i)) (fun i => nI (p 9 i)) (fun i => nI (p 10 i)) (fun i => nI (p 11 i)) (fun i => nI (p 12 i)) (fun i => nI (p 13 i)) (fun i => nI (p 14 i)) (fun i => nI (p 15 i)) (fun i => nI (p 16 i)) (fun i => nI (p 17 i)) (fun i => nI (p 18 i)) (fun i => nI (p 19 i)) (fun i => nI (p 20 i)) (fun i => nI (p 21 i)) (fun i => nI (p 22 i)) (fun i => nI (p 23 i)) (fun i => nI (tm_f k (p 24 i))) := by
  intro d
  induction d with
  | zero =>
    intro j p hj h h0
    exact ⟨p, tm_R_r h, fun k post hp => ⟨1, pk_le n j (fun _ => hp) (fun z => absurd z (by omega))⟩⟩
  | succ d ih =>
    intro j q hj hq q0
    obtain ⟨p1, ⟨r1, _⟩, run1⟩ := tm_turnDown (a := 0) (b := 5) hq q0 (by omega) (by omega)
    obtain ⟨p2, r2, run2⟩ := ih (j + 1) p1 (by omega) r1.1 (r1.2.1.trans q0)
    refine ⟨p2, tm_R_t r1 r2, fun k post hp => ?_⟩
    obtain ⟨fu, hf⟩ := run2 k post hp
    have ht := tm_at hq
    have e8 : nI (q 8 (nI (q 0 0)).toNatClampNeg) = nI 0 := congrArg nI (hq.1 8 _)
    have e9 : nI (q 9 (nI (q 0 0)).toNatClampNeg) = nI 5 := congrArg nI (hq.1 9 _ (by rw [tm_ac hq q0]; omega))
    refine ⟨fu + 1, pk_le n j (fun z => absurd z (by omega)) (fun _ => ⟨tm_in hq, tm_in hq, ?_⟩)⟩
    show wpX_turnDown _ (tm_T k q) (nI (q 8 (nI (q 0 0)).toNatClampNeg)) (nI (q 9 (nI (q 0 0)).toNatClampNeg))
    rw [e8, e9]
    refine run1 k _ ?_
    exact nm_r (nI_1 j) hf
theorem tm_scrollDown {t n : Nat} {p : tm_P} (hn : n ≤ 99) (h : tm_I p) (h0 : p 0 0 = t) : ∃ p', tm_R t p p' ∧ ∀ (k : Bool) (post : St1 → Prop), post (tm_T k p') → wpX_scrollDown post (tm_T k p) (nI n) := by
  obtain ⟨p', r, run⟩ := tm_scrollDown_l n hn n 0 p (by omega) h h0
  exact ⟨p', r, fun k post hp => run k post hp⟩
end
section
theorem tm_copyCell {k : Bool} {p : tm_P} {post : St1 → Prop} {l a b : Nat} (h : tm_I p) (ha : l + a < 288) (hb : l + b < 288) (hp : post (tm_T k (tm_u (tm_u p 1 (l + b) (p 1 (l + a))) 2 (l + b) (p 2 (l + a))))) : wpX_copyCell post (tm_T k p) (nI l) (nI a) (nI b) := by
  have ia : vp_in (nI l + nI a) 288 := by rw [nI_add]; exact vp_in_nI ha (by omega)
  have ib : vp_in (nI l + nI b) 288 := by rw [nI_add]; exact vp_in_nI hb (by omega)
  have ca : (nI l + nI a).toNatClampNeg = l + a := by rw [nI_add]; exact tm_cl (by omega)
  have cb : (nI l + nI b).toNatClampNeg = l + b := by rw [nI_add]; exact tm_cl (by omega)
  have hs := tm_f_r (k := k) (h.1 1 (l + a) ha)
  have hz : p 2 (l + a) = 0 := h.1 2 (l + a)
  refine ⟨ia, ib, nm_r (tm_us k p 1 (l + b) (p 1 (l + a)) cb ?_) ⟨ia, ib, nm_r (tm_up (tm_u p 1 (l + b) (p 1 (l + a))) 2 (l + b) (p 2 (l + a)) cb ?_) hp⟩⟩
  · show vp_nar .byte (nI (tm_f k (p 1 (nI l + nI a).toNatClampNeg))) = _
    rw [ca]; exact tm_nb (by omega)
  · show vp_nar .byte (nI (p 2 (nI l + nI a).toNatClampNeg)) = _
    rw [ca]; exact tm_nb (by omega)
/-- only cells of one line from a column on have changed -/
def tm_cc (l c : Nat) (p p' : tm_P) : Prop := tm_I p' ∧ ∀ g i, ¬ ((g = 1 ∨ g = 2) ∧ l + c ≤ i ∧ i < l + 12) → p' g i = p g i
theorem tm_cc_t {l c : Nat} {p q r : tm_P} (h : tm_cc l c p q) (g : tm_cc l c q r) : tm_cc l c p r := ⟨g.1, fun a i z => (g.2 a i z).trans (h.2 a i z)⟩
theorem tm_cc_l {l c : Nat} {p q : tm_P} (h : tm_cc l c p q) (t r : Nat) : tm_l q t r = tm_l p t r :=
  tm_l_e t r (fun i => h.2 3 i (by omega)) (h.2 12 t (by omega))
theorem tm_cc_R {t r c : Nat} {p q : tm_P} (h : tm_I p) (e : tm_cc (tm_l p t r) c p q) : tm_R t p q := by
  have hl := tm_l_lt h t r
  refine ⟨e.1, e.2 _ _ (by omega), fun g i h1 h2 => e.2 _ _ (by omega), fun z => ⟨fun i hi => e.2 _ _ ?_, fun i hi => e.2 _ _ (by omega), e.2 _ _ (by omega)⟩⟩
  subst z; omega
theorem tm_cc_c {p : tm_P} (h : tm_I p) {l c a b : Nat} (ha : l + a < 288) (hb : b < 12) (hc : c ≤ b) : tm_cc l c p (tm_u (tm_u p 1 (l + b) (p 1 (l + a))) 2 (l + b) (p 2 (l + a))) := by
  refine ⟨tm_Iu (tm_Iu h (fun _ => h.1 1 (l + a) ha) (by omega) (by omega) (by omega)) (h.1 2 (l + a)) (by omega) (by omega) (by omega), fun g i z => ?_⟩
  rw [tm_uN _ _ _ _ (by omega), tm_uN _ _ _ _ (by omega)]
theorem tm_cc_E {p : tm_P} (h : tm_I p) {t r c a b : Nat} (hb : b ≤ 12) (hc : c ≤ a) : tm_cc (tm_l p t r) c p (tm_E p (tm_l p t r) a b) :=
  ⟨tm_ee_I h (tm_ee_E (tm_IW h) t r a b), fun g i z => tm_E_o _ _ _ _ _ _ (by omega)⟩
theorem tm_shiftIn_l {t r l c n : Nat} (hr : r ≤ 5) (hc : c ≤ 11) (hn : 1 ≤ n) (hcn : c + n ≤ 12) (hl : l ≤ 276) : ∀ (d m : Nat) (p : tm_P), m + 1 = c + n + d → m ≤ 11 → tm_I p → p 0 0 = t → tm_l p t r = l →
    ∃ p', tm_cc l c p p' ∧ ∀ (k : Bool) (post : St1 → Prop), post (tm_T k p') → ∃ fu, wX_shiftCells_47 post (nI r) (nI l) (nI c) (nI n) fu (nI m) (nI (p 0 0)) (nI (p 25 0)) (nI (p 26 0)) (fun i => nI (tm_f k (p 1 i))) (fun i => nI (p 2 i)) (fun i => nI (p 3 i)) (fun i => nI (p 4 i)) (fun i => nI (p 5 i)) (fun i => nI (p 6 i)) (fun i => nI (p 7 i)) (fun i => nI (p 8 i)) (fun i => nI (p 9 i)) (fun i => nI (p 10 i)) (fun i => nI (p 11 i)) (fun i => nI (p 12 i)) (fun i => nI (p 13 i)) (fun i => nI (p 14 i)) (fun i => nI (p 15 i)) (fun i => nI (p 16 i)) (fun i => nI (p 17 i)) (fun i => nI (p 18 i)) (fun i => nI (p 19 i)) (fun i => nI (p 20 i)) (fun i => nI (p 21 i)) (fun i => nI (p 22 i)) (fun i => nI (p 23 i)) (fun i => nI (tm_f k (p 24 i))) := by
  intro d
  induction d with
  | zero =>
    intro m p hm h11 h h0 e
    subst e
    refine ⟨_, tm_cc_E h (t := t) (r := r) (c := c) (a := c) (b := c + n) (by omega) (by omega), fun k post hp => ⟨1, pk_lt m (c + n) (fun _ => ?_) (fun z => absurd z (by omega)) rfl (nI_add c n)⟩⟩
    rw [nI_add]
    exact tm_emptyCells (k := k) (p := p) (tm_IW h) h0 hr (by omega) (by omega) hp
  | succ d ih =>
    intro m p hm h11 h h0 e
    obtain ⟨j, rfl⟩ : ∃ j, m = j + 1 := ⟨m - 1, by omega⟩
    have hC := tm_cc_c h (l := l) (c := c) (a := j + 1 - n) (b := j + 1) (by omega) (by omega) (by omega)
    obtain ⟨p', h1, run⟩ := ih j _ (by omega) (by omega) hC.1 ((hC.2 0 0 (by omega)).trans h0) ((tm_cc_l hC t r).trans e)
    refine ⟨p', tm_cc_t hC h1, fun k post hp => ?_⟩
    obtain ⟨fu, hf⟩ := run k post hp
    refine ⟨fu + 1, pk_lt (j + 1) (c + n) (fun z => absurd z (by omega)) (fun _ => ?_) rfl (nI_add c n)⟩
    rw [pk_sub (show n ≤ j + 1 by omega)]
    refine tm_copyCell (k := k) (p := p) h (by omega) (by omega) ?_
    exact nm_r (pk_m1 j) hf
theorem tm_shiftOut_l {t r l c n : Nat} (hr : r ≤ 5) (hcn : c + n ≤ 12) (hl : l ≤ 276) : ∀ (d m : Nat) (p : tm_P), m + n + d = 12 → c ≤ m → tm_I p → p 0 0 = t → tm_l p t r = l →
    ∃ p', tm_cc l c p p' ∧ ∀ (k : Bool) (post : St1 → Prop), post (tm_T k p') → ∃ fu, wX_shiftCells_95 post (nI r) (nI l) (nI n) fu (nI m) (nI (p 0 0)) (nI (p 25 0)) (nI (p 26 0)) (fun i => nI (tm_f k (p 1 i))) (fun i => nI (p 2 i)) (fun i => nI (p 3 i)) (fun i => nI (p 4 i)) (fun i => nI (p 5 i)) (fun i => nI (p 6 i)) (fun i => nI (p 7 i)) (fun i => nI (p 8 i)) (fun i => nI (p 9 i)) (fun i => nI (p 10 i)) (fun i => nI (p 11 i)) (fun i => nI (p 12 i)) (fun i => nI (p 13 i)) (fun i => nI (p 14 i)) (fun i => nI (p 15 i)) (fun i => nI (p 16 i)) (fun i => nI (p 17 i)) (fun i => nI (p 18 i)) (fun i => nI (p 19 i)) (fun i => nI (p 20 i)) (fun i => nI (p 21 i)) (fun i => nI (p 22 i)) (fun i => nI (p 23 i)) (fun i => nI (tm_f k (p 24 i))) := by
  intro d
  induction d with
  | zero =>
    intro m p hm h11 h h0 e
    subst e
    refine ⟨_, tm_cc_E h (t := t) (r := r) (c := c) (a := 12 - n) (b := 12) (by omega) (by omega), fun k post hp => ⟨1, pk_le 12 (m + n) (fun _ => ?_) (fun z => absurd z (by omega)) rfl (nI_add m n)⟩⟩
    show wpX_emptyCells _ (tm_T k p) (nI r) (nI 12 - nI n) (nI 12)
    rw [pk_sub (show n ≤ 12 by omega)]
    exact tm_emptyCells (k := k) (p := p) (tm_IW h) h0 hr (by omega) (by omega) hp
  | succ d ih =>
    intro m p hm h11 h h0 e
    have hC := tm_cc_c h (l := l) (c := c) (a := m + n) (b := m) (by omega) (by omega) (by omega)
    obtain ⟨p', h1, run⟩ := ih (m + 1) _ (by omega) (by omega) hC.1 ((hC.2 0 0 (by omega)).trans h0) ((tm_cc_l hC t r).trans e)
    refine ⟨p', tm_cc_t hC h1, fun k post hp => ?_⟩
    obtain ⟨fu, hf⟩ := run k post hp
    refine ⟨fu + 1, pk_le 12 (m + n) (fun z => absurd z (by omega)) (fun _ => ?_) rfl (nI_add m n)⟩
    rw [nI_add]
    refine tm_copyCell (k := k) (p := p) h (by omega) (by omega) ?_
    exact nm_r (nI_1 m) hf
theorem tm_shiftCells {t n z : Nat} {p : tm_P} (hz : z ≤ 1) (hn : 1 ≤ n) (hn2 : n ≤ 99) (h : tm_I p) (h0 : p 0 0 = t) :
    ∃ p', tm_cc (tm_l p t (p 4 t)) (p 5 t) p p' ∧ ∀ (k : Bool) (post : St1 → Prop), post (tm_T k p') → wpX_shiftCells post (tm_T k p) (nI z) (nI n) := by
  have hr : p 4 t ≤ 5 := h.1 4 t
  have hc : p 5 t ≤ 11 := h.1 5 t
  have hl := tm_l_lt h t (p 4 t)
  have ht := tm_at h
  have opn : ∀ (k : Bool) (post : St1 → Prop), ((nI z = 0 → ∃ fu, wX_shiftCells_95 post (nI (p 4 t)) (nI (tm_l p t (p 4 t))) (nI (min n (12 - p 5 t))) fu (nI (p 5 t)) (nI (p 0 0)) (nI (p 25 0)) (nI (p 26 0)) (fun i => nI (tm_f k (p 1 i))) (fun i => nI (p 2 i)) (fun i => nI (p 3 i)) (fun i => nI (p 4 i)) (fun i => nI (p 5 i)) (fun i => nI (p 6 i)) (fun i => nI (p 7 i)) (fun i => nI (p 8 i)) (fun i => nI (p 9 i)) (fun i => nI (p 10 i)) (fun i => nI (p 11 i)) (fun i => nI (p 12 i)) (fun i => nI (p 13 i)) (fun i => nI (p 14 i)) (fun i => nI (p 15 i)) (fun i => nI (p 16 i)) (fun i => nI (p 17 i)) (fun i => nI (p 18 i)) (fun i => nI (p 19 i)) (fun i => nI (p 20 i)) (fun i => nI (p 21 i)) (fun i => nI (p 22 i)) (fun i => nI (p 23 i)) (fun i => nI (tm_f k (p 24 i)))) ∧ (¬ nI z = 0 → ∃ fu, wX_shiftCells_47 post (nI (p 4 t)) (nI (tm_l p t (p 4 t))) (nI (p 5 t)) (nI (min n (12 - p 5 t))) fu 11 (nI (p 0 0)) (nI (p 25 0)) (nI (p 26 0)) (fun i => nI (tm_f k (p 1 i))) (fun i => nI (p 2 i)) (fun i => nI (p 3 i)) (fun i => nI (p 4 i)) (fun i => nI (p 5 i)) (fun i => nI (p 6 i)) (fun i => nI (p 7 i)) (fun i => nI (p 8 i)) (fun i => nI (p 9 i)) (fun i => nI (p 10 i)) (fun i => nI (p 11 i)) (fun i => nI (p 12 i)) (fun i => nI (p 13 i)) (fun i => nI (p 14 i)) (fun i => nI (p 15 i)) (fun i => nI (p 16 i)) (fun i => nI (p 17 i)) (fun i => nI (p 18 i)) (fun i => nI (p 19 i)) (fun i => nI (p 20 i)) (fun i => nI (p 21 i)) (fun i => nI (p 22 i)) (fun i => nI (p 23 i)) (fun i => nI (tm_f k (p 24 i))))) → wpX_shiftCells post (tm_T k p) (nI z) (nI n) := by
    intro k post H
    refine ⟨tm_in h, nm_r (e' := nI (p 4 t)) (congrArg (fun j => nI (p 4 j)) (tm_ac h h0)) ?_⟩
    refine tm_lineAt (k := k) (p := p) (tm_IW h) h0 hr ⟨tm_in h, nm_r (e' := nI (p 5 t)) (congrArg (fun j => nI (p 5 j)) (tm_ac h h0)) ?_⟩
    rw [show (12 : Int32) - nI (p 5 t) = nI (12 - p 5 t) from pk_sub (show p 5 t ≤ 12 by omega)]
    exact tm_lesser (by omega) (by omega) H
  by_cases e : z = 0
  · subst e
    obtain ⟨p', h1, run⟩ := tm_shiftOut_l (t := t) (r := p 4 t) (l := tm_l p t (p 4 t)) (c := p 5 t) (n := min n (12 - p 5 t)) hr (by omega) (by omega) (12 - p 5 t - min n (12 - p 5 t)) (p 5 t) p (by omega) (by omega) h h0 rfl
    exact ⟨p', h1, fun k post hp => opn k post (br_t rfl (run k post hp))⟩
  · have ez : z = 1 := by omega
    subst ez
    obtain ⟨p', h1, run⟩ := tm_shiftIn_l (t := t) (r := p 4 t) (l := tm_l p t (p 4 t)) (c := p 5 t) (n := min n (12 - p 5 t)) hr hc (by omega) (by omega) (by omega) (12 - (p 5 t + min n (12 - p 5 t))) 11 p (by omega) (by omega) h h0 rfl
    exact ⟨p', h1, fun k post hp => opn k post (br_f (by decide) (run k post hp))⟩
theorem tm_shiftRows_l {t r z n : Nat} (hr : r ≤ 5) (hz : z ≤ 1) (hn : n ≤ 6) : ∀ (d j : Nat) (p : tm_P), j + d = n → tm_I p → p 0 0 = t →
    ∃ p', tm_R t p p' ∧ ∀ (k : Bool) (post : St1 → Prop), post (tm_T k p') → ∃ fu, wX_shiftRows_66 post (nI z) (nI r) 5 (nI n) fu (nI j) (nI (p 0 0)) (nI (p 25 0)) (nI (p 26 0)) (fun i => nI (tm_f k (p 1 i))) (fun i => nI (p 2 i)) (fun i => nI (p 3 i)) (fun i => nI (p 4 i)) (fun i => nI (p 5 i)) (fun i => nI (p 6 i)) (fun i => nI (p 7 i)) (fun i => nI (p 8 i)) (fun i => nI (p 9 i)) (fun i => nI (p 10 i)) (fun i => nI (p 11 i)) (fun i => nI (p 12 i)) (fun i => nI (p 13 i)) (fun i => nI (p 14 i)) (fun i => nI (p 15 i)) (fun i => nI (p 16 i)) (fun i => nI (p 17 i)) (fun i => nI (p 18 i)) (fun i => nI (p 19 i)) (fun i => nI (p 20 i)) (fun i => nI (p 21 i)) (fun i => nI (p 22 i)) (fun i => nI (p 23 i)) (fun i => nI (tm_f k (p 24 i))) := by
  intro d
  induction d with
  | zero =>
    intro j p hj h h0
    exact ⟨p, tm_R_r h, fun k post hp => ⟨1, pk_le n j (fun _ => hp) (fun z => absurd z (by omega))⟩⟩
  | succ d ih =>
    intro j p hj h h0
    by_cases e : z = 0
    · obtain ⟨p1, ⟨r1, _⟩, run1⟩ := tm_turnUp (a := r) (b := 5) h h0 (by omega) (by omega)
      obtain ⟨p2, r2, run2⟩ := ih (j + 1) p1 (by omega) r1.1 (r1.2.1.trans h0)
      refine ⟨p2, tm_R_t r1 r2, fun k post hp => ?_⟩
      obtain ⟨fu, hf⟩ := run2 k post hp
      subst e
      refine ⟨fu + 1, pk_le n j (fun z => absurd z (by omega)) (fun _ => br_t rfl ?_)⟩
      refine run1 k _ ?_
      exact nm_r (nI_1 j) hf
    · obtain ⟨p1, ⟨r1, _⟩, run1⟩ := tm_turnDown (a := r) (b := 5) h h0 (by omega) (by omega)
      obtain ⟨p2, r2, run2⟩ := ih (j + 1) p1 (by omega) r1.1 (r1.2.1.trans h0)
      refine ⟨p2, tm_R_t r1 r2, fun k post hp => ?_⟩
      obtain ⟨fu, hf⟩ := run2 k post hp
      have ez : z = 1 := by omega
      subst ez
      refine ⟨fu + 1, pk_le n j (fun z => absurd z (by omega)) (fun _ => br_f (by decide) ?_)⟩
      refine run1 k _ ?_
      exact nm_r (nI_1 j) hf
theorem tm_shiftRows {t n z : Nat} {p : tm_P} (hz : z ≤ 1) (hn2 : n ≤ 99) (h : tm_I p) (h0 : p 0 0 = t) :
    ∃ p', tm_R t p p' ∧ ∀ (k : Bool) (post : St1 → Prop), post (tm_T k p') → wpX_shiftRows post (tm_T k p) (nI z) (nI n) := by
  have hr : p 4 t ≤ 5 := h.1 4 t
  have ht := tm_at h
  have r0 : tm_R t p (tm_u p 5 t 0) := tm_Ru t h (by show (0 : Nat) ≤ 11; omega) (by omega) (by omega) (by omega)
  obtain ⟨p2, r2, run2⟩ := tm_shiftRows_l (t := t) (r := p 4 t) (z := z) (n := min n (5 - p 4 t + 1)) hr hz (by omega) (min n (5 - p 4 t + 1)) 0 (tm_u p 5 t 0) (by omega) r0.1 (r0.2.1.trans h0)
  refine ⟨p2, tm_R_t r0 r2, fun k post hp => ?_⟩
  have c := tm_ac h h0
  have e8 : p 8 t = 0 := h.1 8 t
  have e9 : p 9 t = 5 := h.1 9 t (by omega)
  have c8 : nI (p 8 (nI (p 0 0)).toNatClampNeg) = nI 0 := by rw [c, e8]
  have c9 : nI (p 9 (nI (p 0 0)).toNatClampNeg) = nI 5 := by rw [c, e9]
  refine ⟨tm_in h, nm_r (e' := nI (p 4 t)) (congrArg (fun j => nI (p 4 j)) c) ⟨tm_in h, nm_r (e' := nI 5) c9 ⟨tm_in h, ?_⟩⟩⟩
  refine pk_lt (p 4 t) 0 (fun z => absurd z (by omega)) (fun _ => ?_) rfl c8
  refine pk_le (p 4 t) 5 (fun _ => ⟨tm_in h, nm_r (tm_up p 5 t 0 c rfl) ?_⟩) (fun z => absurd z (by omega))
  rw [pk_sub hr, show nI (5 - p 4 t) + 1 = nI (5 - p 4 t + 1) from nI_1 _]
  exact tm_lesser (by omega) (by omega) (run2 k post hp)
end
section
theorem tm_lineFeed {t : Nat} {p : tm_P} (h : tm_I p) (h0 : p 0 0 = t) : ∃ p', tm_R t p p' ∧ ∀ (k : Bool) (post : St1 → Prop), post (tm_T k p') → wpX_lineFeed post (tm_T k p) := by
  have hr : p 4 t ≤ 5 := h.1 4 t
  have ht := tm_at h
  have c := tm_ac h h0
  have e9 : p 9 t = 5 := h.1 9 t (by omega)
  have c4 : nI (p 4 (nI (p 0 0)).toNatClampNeg) = nI (p 4 t) := by rw [c]
  have c9 : nI (p 9 (nI (p 0 0)).toNatClampNeg) = nI 5 := by rw [c, e9]
  by_cases e : p 4 t = 5
  · obtain ⟨p', r, run⟩ := tm_scrollUp (n := 1) (by omega) h h0
    refine ⟨p', r, fun k post hp => ⟨tm_in h, tm_in h, pk_eq (p 4 t) 5 (fun _ => ?_) (fun z => absurd e z) c4 c9⟩⟩
    exact run k _ hp
  · refine ⟨tm_u p 4 t (p 4 t + 1), tm_Ru t h (by show p 4 t + 1 ≤ 5; omega) (by omega) (by omega) (by omega), fun k post hp => ⟨tm_in h, tm_in h, pk_eq (p 4 t) 5 (fun z => absurd z e) (fun _ => ⟨tm_in h, pk_le 5 (p 4 t) (fun z => absurd z (by omega)) (fun _ => ⟨tm_in h, tm_in h, nm_r (tm_up p 4 t (p 4 t + 1) c ?_) hp⟩) rfl c4⟩) c4 c9⟩⟩
    show (nI (p 4 (nI (p 0 0)).toNatClampNeg) + 1).toInt8.toInt32 = _
    rw [c4, nI_1]
    exact tm_b8 _ (by omega)
theorem tm_goUp {t : Nat} {p : tm_P} (h : tm_I p) (h0 : p 0 0 = t) : ∃ p', tm_R t p p' ∧ ∀ (k : Bool) (post : St1 → Prop), post (tm_T k p') → wpX_goUp post (tm_T k p) := by
  have hr : p 4 t ≤ 5 := h.1 4 t
  have ht := tm_at h
  have c := tm_ac h h0
  have e8 : p 8 t = 0 := h.1 8 t
  have c4 : nI (p 4 (nI (p 0 0)).toNatClampNeg) = nI (p 4 t) := by rw [c]
  have c8 : nI (p 8 (nI (p 0 0)).toNatClampNeg) = nI 0 := by rw [c, e8]
  by_cases e : p 4 t = 0
  · obtain ⟨p', r, run⟩ := tm_scrollDown (n := 1) (by omega) h h0
    refine ⟨p', r, fun k post hp => ⟨tm_in h, tm_in h, pk_eq (p 4 t) 0 (fun _ => ?_) (fun z => absurd e z) c4 c8⟩⟩
    exact run k _ hp
  · refine ⟨tm_u p 4 t (p 4 t - 1), tm_Ru t h (by show p 4 t - 1 ≤ 5; omega) (by omega) (by omega) (by omega), fun k post hp => ⟨tm_in h, tm_in h, pk_eq (p 4 t) 0 (fun z => absurd z e) (fun _ => ⟨tm_in h, pk_le (p 4 t) 0 (fun z => absurd z (by omega)) (fun _ => ⟨tm_in h, tm_in h, nm_r (tm_up p 4 t (p 4 t - 1) c ?_) hp⟩) c4⟩) c4 c8⟩⟩
    show (nI (p 4 (nI (p 0 0)).toNatClampNeg) - nI 1).toInt8.toInt32 = _
    rw [c4, pk_sub (by omega)]
    exact tm_b8 _ (by omega)
/-- a sign is written at the cursor -/
theorem tm_put36 {t s : Nat} {p : tm_P} (hs : 32 ≤ s ∧ s ≤ 62) (h : tm_I p) (h0 : p 0 0 = t) :
    ∃ p', (tm_R t p p' ∧ (∀ i, p' 1 i = if i = tm_l p t (p 4 t) + p 5 t then s else p 1 i) ∧ (∀ i, p' 3 i = p 3 i) ∧ (∀ i, p' 12 i = p 12 i) ∧ p' 4 t = p 4 t ∧ (p 5 t < 11 → p' 5 t = p 5 t + 1 ∧ p' 6 t = p 6 t)) ∧
      ∀ (k : Bool) (post : St1 → Prop), post (tm_T k p') → wX_putSign_36 post (nI (tm_f k s)) (nI (p 0 0)) (nI (p 25 0)) (nI (p 26 0)) (fun i => nI (tm_f k (p 1 i))) (fun i => nI (p 2 i)) (fun i => nI (p 3 i)) (fun i => nI (p 4 i)) (fun i => nI (p 5 i)) (fun i => nI (p 6 i)) (fun i => nI (p 7 i)) (fun i => nI (p 8 i)) (fun i => nI (p 9 i)) (fun i => nI (p 10 i)) (fun i => nI (p 11 i)) (fun i => nI (p 12 i)) (fun i => nI (p 13 i)) (fun i => nI (p 14 i)) (fun i => nI (p 15 i)) (fun i => nI (p 16 i)) (fun i => nI (p 17 i)) (fun i => nI (p 18 i)) (fun i => nI (p 19 i)) (fun i => nI (p 20 i)) (fun i => nI (p 21 i)) (fun i => nI (p 22 i)) (fun i => nI (p 23 i)) (fun i => nI (tm_f k (p 24 i))) := by
  have hr : p 4 t ≤ 5 := h.1 4 t
  have hc : p 5 t ≤ 11 := h.1 5 t
  have h7 : p 7 t = 0 := h.1 7 t
  have h10 : p 10 t = 0 := h.1 10 t
  have h11 : p 11 t ≤ 1 := h.1 11 t
  have ht := tm_at h
  have hl := tm_l_lt h t (p 4 t)
  have c := tm_ac h h0
  have hl2 : tm_l p t (p 4 t) + p 5 t < 288 := by omega
  have iq : tm_I (tm_u (tm_u p 1 (tm_l p t (p 4 t) + p 5 t) s) 2 (tm_l p t (p 4 t) + p 5 t) 0) := tm_Iu (tm_Iu h (fun _ => hs) (by omega) (by omega) (by omega)) (by exact rfl) (by omega) (by omega) (by omega)
  have rq : tm_R t p (tm_u (tm_u p 1 (tm_l p t (p 4 t) + p 5 t) s) 2 (tm_l p t (p 4 t) + p 5 t) 0) := by
    refine ⟨iq, ?_, fun g i h1 h2 => ?_, fun e => ⟨fun i hi => ?_, fun i hi => ?_, ?_⟩⟩
    · rw [tm_uN _ _ _ _ (by omega), tm_uN _ _ _ _ (by omega)]
    · rw [tm_uN _ _ _ _ (by omega), tm_uN _ _ _ _ (by omega)]
    · subst e; rw [tm_uN _ _ _ _ (by omega), tm_uN _ _ _ _ (by omega)]
    · rw [tm_uN _ _ _ _ (by omega), tm_uN _ _ _ _ (by omega)]
    · rw [tm_uN _ _ _ _ (by omega), tm_uN _ _ _ _ (by omega)]
  have go : ∀ (k : Bool) (post : St1 → Prop) , wX_putSign_99 post (nI (tm_f k s)) (nI (tm_l p t (p 4 t))) (nI (p 5 t)) (nI (p 0 0)) (nI (p 25 0)) (nI (p 26 0)) (fun i => nI (tm_f k (p 1 i))) (fun i => nI (p 2 i)) (fun i => nI (p 3 i)) (fun i => nI (p 4 i)) (fun i => nI (p 5 i)) (fun i => nI (p 6 i)) (fun i => nI (p 7 i)) (fun i => nI (p 8 i)) (fun i => nI (p 9 i)) (fun i => nI (p 10 i)) (fun i => nI (p 11 i)) (fun i => nI (p 12 i)) (fun i => nI (p 13 i)) (fun i => nI (p 14 i)) (fun i => nI (p 15 i)) (fun i => nI (p 16 i)) (fun i => nI (p 17 i)) (fun i => nI (p 18 i)) (fun i => nI (p 19 i)) (fun i => nI (p 20 i)) (fun i => nI (p 21 i)) (fun i => nI (p 22 i)) (fun i => nI (p 23 i)) (fun i => nI (tm_f k (p 24 i))) → wX_putSign_36 post (nI (tm_f k s)) (nI (p 0 0)) (nI (p 25 0)) (nI (p 26 0)) (fun i => nI (tm_f k (p 1 i))) (fun i => nI (p 2 i)) (fun i => nI (p 3 i)) (fun i => nI (p 4 i)) (fun i => nI (p 5 i)) (fun i => nI (p 6 i)) (fun i => nI (p 7 i)) (fun i => nI (p 8 i)) (fun i => nI (p 9 i)) (fun i => nI (p 10 i)) (fun i => nI (p 11 i)) (fun i => nI (p 12 i)) (fun i => nI (p 13 i)) (fun i => nI (p 14 i)) (fun i => nI (p 15 i)) (fun i => nI (p 16 i)) (fun i => nI (p 17 i)) (fun i => nI (p 18 i)) (fun i => nI (p 19 i)) (fun i => nI (p 20 i)) (fun i => nI (p 21 i)) (fun i => nI (p 22 i)) (fun i => nI (p 23 i)) (fun i => nI (tm_f k (p 24 i))) := by
    intro k post H
    refine ⟨tm_in h, ?_⟩
    show wpX_lineAt _ (tm_T k p) (nI (p 4 (nI (p 0 0)).toNatClampNeg))
    rw [c]
    refine tm_lineAt (k := k) (p := p) (tm_IW h) h0 hr ⟨tm_in h, nm_r (e' := nI (p 5 t)) rfl ⟨tm_in h, br_t ?_ H⟩⟩
    show nI (p 10 t) = nI 0
    rw [h10]
  have e : nI (tm_l p t (p 4 t)) + nI (p 5 t) = nI (tm_l p t (p 4 t) + p 5 t) := nI_add _ _
  have ei : vp_in (nI (tm_l p t (p 4 t)) + nI (p 5 t)) 288 := by rw [e]; exact vp_in_nI hl2 (by omega)
  have ec : (nI (tm_l p t (p 4 t)) + nI (p 5 t)).toNatClampNeg = tm_l p t (p 4 t) + p 5 t := by rw [e]; exact tm_cl (by omega)
  have v7 : vp_nar .byte (nI (p 7 (nI (p 0 0)).toNatClampNeg)) = nI 0 := by rw [c, h7]; exact tm_nb (by omega)
  by_cases e11 : 11 ≤ p 5 t
  · refine ⟨tm_u (tm_u (tm_u p 1 (tm_l p t (p 4 t) + p 5 t) s) 2 (tm_l p t (p 4 t) + p 5 t) 0) 6 t (p 11 t), ⟨tm_R_t rq (tm_Ru t iq h11 (by omega) (by omega) (by omega)), fun i => ?_, fun i => rfl, fun i => rfl, rfl, fun z => absurd z (by omega)⟩, fun k post hp => go k post ?_⟩
    · rw [tm_uN _ _ _ _ (by omega), tm_uN _ _ _ _ (by omega), tm_ue]
      by_cases q : i = tm_l p t (p 4 t) + p 5 t
      · rw [if_pos ⟨rfl, q⟩, if_pos q]
      · rw [if_neg (fun z => q z.2), if_neg q]
    · have hs2 := tm_f_r (k := k) hs
      refine ⟨ei, nm_r (tm_us k p 1 _ s ec (tm_b8 _ (by omega))) ⟨tm_in h, ei, nm_r (tm_up (tm_u p 1 (tm_l p t (p 4 t) + p 5 t) s) 2 _ 0 ec v7) (pk_le 11 (p 5 t) (fun _ => ⟨tm_in h, tm_in h, nm_r (tm_up (tm_u (tm_u p 1 (tm_l p t (p 4 t) + p 5 t) s) 2 (tm_l p t (p 4 t) + p 5 t) 0) 6 t (p 11 t) c ?_) hp⟩) (fun z => absurd z (by omega)))⟩⟩
      show vp_nar .boolean (nI (p 11 (nI (p 0 0)).toNatClampNeg)) = _
      rw [c]; exact tm_nz h11
  · refine ⟨tm_u (tm_u (tm_u p 1 (tm_l p t (p 4 t) + p 5 t) s) 2 (tm_l p t (p 4 t) + p 5 t) 0) 5 t (p 5 t + 1), ⟨tm_R_t rq (tm_Ru t iq (by show p 5 t + 1 ≤ 11; omega) (by omega) (by omega) (by omega)), fun i => ?_, fun i => rfl, fun i => rfl, rfl, fun z => ⟨tm_uS _ _ _ _, rfl⟩⟩, fun k post hp => go k post ?_⟩
    · rw [tm_uN _ _ _ _ (by omega), tm_uN _ _ _ _ (by omega), tm_ue]
      by_cases q : i = tm_l p t (p 4 t) + p 5 t
      · rw [if_pos ⟨rfl, q⟩, if_pos q]
      · rw [if_neg (fun z => q z.2), if_neg q]
    · have hs2 := tm_f_r (k := k) hs
      refine ⟨ei, nm_r (tm_us k p 1 _ s ec (tm_b8 _ (by omega))) ⟨tm_in h, ei, nm_r (tm_up (tm_u p 1 (tm_l p t (p 4 t) + p 5 t) s) 2 _ 0 ec v7) (pk_le 11 (p 5 t) (fun z => absurd z (by omega)) (fun _ => ⟨tm_in h, tm_in h, nm_r (tm_up (tm_u (tm_u p 1 (tm_l p t (p 4 t) + p 5 t) s) 2 (tm_l p t (p 4 t) + p 5 t) 0) 5 t (p 5 t + 1) c ?_) hp⟩))⟩⟩
      show (nI (p 5 (nI (p 0 0)).toNatClampNeg) + 1).toInt8.toInt32 = _
      rw [c, nI_1]; exact tm_b8 _ (by omega)
/-- with no wait: what is written where -/
theorem tm_putSign0 {t s : Nat} {p : tm_P} (hs : 32 ≤ s ∧ s ≤ 62) (h : tm_I p) (h0 : p 0 0 = t) (h6 : p 6 t = 0) :
    ∃ p', (tm_R t p p' ∧ (∀ i, p' 1 i = if i = tm_l p t (p 4 t) + p 5 t then s else p 1 i) ∧ (∀ i, p' 3 i = p 3 i) ∧ (∀ i, p' 12 i = p 12 i) ∧ p' 4 t = p 4 t ∧ (p 5 t < 11 → p' 5 t = p 5 t + 1 ∧ p' 6 t = p 6 t)) ∧
      ∀ (k : Bool) (post : St1 → Prop), post (tm_T k p') → wpX_putSign post (tm_T k p) (nI (tm_f k s)) := by
  obtain ⟨p', hs', run⟩ := tm_put36 hs h h0
  refine ⟨p', hs', fun k post hp => ⟨tm_in h, br_t ?_ (run k post hp)⟩⟩
  show nI (p 6 (nI (p 0 0)).toNatClampNeg) = nI 0
  rw [tm_ac h h0, h6]
theorem tm_putSign {t s : Nat} {p : tm_P} (hs : 32 ≤ s ∧ s ≤ 62) (h : tm_I p) (h0 : p 0 0 = t) :
    ∃ p', tm_R t p p' ∧ ∀ (k : Bool) (post : St1 → Prop), post (tm_T k p') → wpX_putSign post (tm_T k p) (nI (tm_f k s)) := by
  by_cases h6 : p 6 t = 0
  · obtain ⟨p', hs', run⟩ := tm_putSign0 hs h h0 h6
    exact ⟨p', hs'.1, run⟩
  · have h6' : p 6 t ≤ 1 := h.1 6 t
    have c := tm_ac h h0
    have ra : tm_R t p (tm_u (tm_u p 6 t 0) 5 t 0) := by
      have a : tm_R t p (tm_u p 6 t 0) := tm_Ru t h (by show (0 : Nat) ≤ 1; omega) (by omega) (by omega) (by omega)
      exact tm_R_t a (tm_Ru t a.1 (by show (0 : Nat) ≤ 11; omega) (by omega) (by omega) (by omega))
    obtain ⟨p1, r1, run1⟩ := tm_lineFeed ra.1 (ra.2.1.trans h0)
    obtain ⟨p2, r2, run2⟩ := tm_put36 hs r1.1 (r1.2.1.trans (ra.2.1.trans h0))
    refine ⟨p2, tm_R_t ra (tm_R_t r1 r2.1), fun k post hp => ⟨tm_in h, br_f ?_ ⟨tm_in h, nm_r (tm_up p 6 t 0 c rfl) ⟨tm_in h, nm_r (tm_up (tm_u p 6 t 0) 5 t 0 c rfl) ?_⟩⟩⟩⟩
    · show ¬ nI (p 6 (nI (p 0 0)).toNatClampNeg) = nI 0
      rw [c, nI_eq (by omega) (by omega)]; exact h6
    · refine run1 k _ ?_
      exact run2 k post hp
theorem tm_control {t b : Nat} {p : tm_P} (hb : b = 8 ∨ b = 10 ∨ b = 13) (h : tm_I p) (h0 : p 0 0 = t) :
    ∃ p', (tm_R t p p' ∧ (b ≠ 10 → p' = tm_u (tm_u p 6 t 0) 5 t (if b = 8 then p 5 t - 1 else 0))) ∧ ∀ (k : Bool) (post : St1 → Prop), post (tm_T k p') → wpX_control post (tm_T k p) (nI b) := by
  have hc : p 5 t ≤ 11 := h.1 5 t
  have c := tm_ac h h0
  have ra : tm_R t p (tm_u p 6 t 0) := tm_Ru t h (by show (0 : Nat) ≤ 1; omega) (by omega) (by omega) (by omega)
  have c5 : nI (p 5 (nI (p 0 0)).toNatClampNeg) = nI (p 5 t) := by rw [c]
  rcases hb with e | e | e
  · subst e
    refine ⟨_, ⟨tm_R_t ra (tm_Ru t ra.1 (by show (if (8 : Nat) = 8 then p 5 t - 1 else 0) ≤ 11; rw [if_pos rfl]; omega) (by omega) (by omega) (by omega)), fun _ => rfl⟩, fun k post hp => br_f (by decide) (br_f (by decide) ⟨tm_in h, nm_r (tm_up p 6 t 0 c rfl) ⟨tm_in h, nm_r c5 (br_t rfl ?_)⟩⟩)⟩
    rw [if_pos rfl] at hp
    refine pk_le (p 5 t) 0 (fun z => ⟨tm_in h, nm_r (tm_up (tm_u p 6 t 0) 5 t (p 5 t - 1) c ?_) hp⟩) (fun z => ⟨tm_in h, nm_r (tm_up (tm_u p 6 t 0) 5 t (p 5 t - 1) c ?_) hp⟩)
    · rw [show p 5 t - 1 = 0 by omega]; exact tm_b8 0 (by omega)
    · show (nI (p 5 t) - nI 1).toInt8.toInt32 = _
      rw [pk_sub (by omega)]; exact tm_b8 _ (by omega)
  · subst e
    obtain ⟨p1, r1, run1⟩ := tm_lineFeed ra.1 (ra.2.1.trans h0)
    refine ⟨p1, ⟨tm_R_t ra r1, fun z => absurd rfl z⟩, fun k post hp => br_f (by decide) (br_f (by decide) ⟨tm_in h, nm_r (tm_up p 6 t 0 c rfl) ⟨tm_in h, nm_r c5 (br_f (by decide) (br_f (by decide) (br_t rfl ?_)))⟩⟩)⟩
    exact run1 k _ hp
  · subst e
    refine ⟨_, ⟨tm_R_t ra (tm_Ru t ra.1 (by show (if (13 : Nat) = 8 then p 5 t - 1 else 0) ≤ 11; rw [if_neg (by omega)]; omega) (by omega) (by omega) (by omega)), fun _ => rfl⟩, fun k post hp => br_f (by decide) (br_f (by decide) ⟨tm_in h, nm_r (tm_up p 6 t 0 c rfl) ⟨tm_in h, nm_r c5 (br_f (by decide) (br_f (by decide) (br_f (by decide) ⟨tm_in h, nm_r (tm_up (tm_u p 6 t 0) 5 t 0 c rfl) ?_⟩)))⟩⟩)⟩
    rw [if_neg (by omega)] at hp
    exact hp
end
section
theorem tm_short {b : Nat} {p : tm_P} {t : Nat} (hb : b = 55 ∨ b = 56 ∨ b = 69 ∨ b = 77) (h : tm_I p) (h0 : p 0 0 = t) :
    ∃ p', tm_R t p p' ∧ ∀ (k : Bool) (post : St1 → Prop), post (tm_T k p') → wpX_shortSequence post (tm_T k p) (nI b) := by
  have h4 : p 4 t ≤ 5 := h.1 4 t
  have h5 : p 5 t ≤ 11 := h.1 5 t
  have h6 : p 6 t ≤ 1 := h.1 6 t
  have h7 : p 7 t = 0 := h.1 7 t
  have h13 : p 13 t ≤ 5 := h.1 13 t
  have h14 : p 14 t ≤ 11 := h.1 14 t
  have h15 : p 15 t = 0 := h.1 15 t
  have c := tm_ac h h0
  have ra : tm_R t p (tm_u p 6 t 0) := tm_Ru t h (by show (0 : Nat) ≤ 1; omega) (by omega) (by omega) (by omega)
  have known : ∀ (x : Int32) (k : Bool) (post : St1 → Prop), wX_shortSequence_125 post x (nI (p 0 0)) (nI (p 0 0)) (nI (p 25 0)) (nI (p 26 0)) (fun i => nI (tm_f k (p 1 i))) (fun i => nI (p 2 i)) (fun i => nI (p 3 i)) (fun i => nI (p 4 i)) (fun i => nI (p 5 i)) (fun i => nI (p 6 i)) (fun i => nI (p 7 i)) (fun i => nI (p 8 i)) (fun i => nI (p 9 i)) (fun i => nI (p 10 i)) (fun i => nI (p 11 i)) (fun i => nI (p 12 i)) (fun i => nI (p 13 i)) (fun i => nI (p 14 i)) (fun i => nI (p 15 i)) (fun i => nI (p 16 i)) (fun i => nI (p 17 i)) (fun i => nI (p 18 i)) (fun i => nI (p 19 i)) (fun i => nI (p 20 i)) (fun i => nI (p 21 i)) (fun i => nI (p 22 i)) (fun i => nI (p 23 i)) (fun i => nI (tm_f k (p 24 i))) → wX_shortSequence_91 post x (nI (p 0 0)) (nI (p 25 0)) (nI (p 26 0)) (fun i => nI (tm_f k (p 1 i))) (fun i => nI (p 2 i)) (fun i => nI (p 3 i)) (fun i => nI (p 4 i)) (fun i => nI (p 5 i)) (fun i => nI (p 6 i)) (fun i => nI (p 7 i)) (fun i => nI (p 8 i)) (fun i => nI (p 9 i)) (fun i => nI (p 10 i)) (fun i => nI (p 11 i)) (fun i => nI (p 12 i)) (fun i => nI (p 13 i)) (fun i => nI (p 14 i)) (fun i => nI (p 15 i)) (fun i => nI (p 16 i)) (fun i => nI (p 17 i)) (fun i => nI (p 18 i)) (fun i => nI (p 19 i)) (fun i => nI (p 20 i)) (fun i => nI (p 21 i)) (fun i => nI (p 22 i)) (fun i => nI (p 23 i)) (fun i => nI (tm_f k (p 24 i))) := by
    intro x k post H
    exact ⟨tm_in h, br_c (fun _ => H) (fun _ => br_f (by decide) H)⟩
  rcases hb with e | e | e | e
  · subst e
    have r1 : tm_R t p (tm_u p 13 t (p 4 t)) := tm_Ru t h h4 (by omega) (by omega) (by omega)
    have r2 : tm_R t (tm_u p 13 t (p 4 t)) (tm_u (tm_u p 13 t (p 4 t)) 14 t (p 5 t)) := tm_Ru t r1.1 h5 (by omega) (by omega) (by omega)
    have r3 : tm_R t (tm_u (tm_u p 13 t (p 4 t)) 14 t (p 5 t)) (tm_u (tm_u (tm_u p 13 t (p 4 t)) 14 t (p 5 t)) 15 t 0) := tm_Ru t r2.1 (by exact rfl) (by omega) (by omega) (by omega)
    refine ⟨_, tm_R_t r1 (tm_R_t r2 r3), fun k post hp => br_t rfl ⟨tm_in h, tm_in h, nm_r (tm_up p 13 t (p 4 t) c ?_) ⟨tm_in h, tm_in h, nm_r (tm_up (tm_u p 13 t (p 4 t)) 14 t (p 5 t) c ?_) ⟨tm_in h, tm_in h, nm_r (tm_up (tm_u (tm_u p 13 t (p 4 t)) 14 t (p 5 t)) 15 t 0 c ?_) hp⟩⟩⟩⟩
    · show vp_nar .byte (nI (p 4 (nI (p 0 0)).toNatClampNeg)) = _
      rw [c]; exact tm_nb (by omega)
    · show vp_nar .byte (nI (p 5 (nI (p 0 0)).toNatClampNeg)) = _
      rw [c]; exact tm_nb (by omega)
    · show vp_nar .byte (nI (p 7 (nI (p 0 0)).toNatClampNeg)) = _
      rw [c, h7]; exact tm_nb (by omega)
  · subst e
    have r1 : tm_R t (tm_u p 6 t 0) (tm_u (tm_u p 6 t 0) 4 t (p 13 t)) := tm_Ru t ra.1 h13 (by omega) (by omega) (by omega)
    have r2 : tm_R t (tm_u (tm_u p 6 t 0) 4 t (p 13 t)) (tm_u (tm_u (tm_u p 6 t 0) 4 t (p 13 t)) 5 t (p 14 t)) := tm_Ru t r1.1 h14 (by omega) (by omega) (by omega)
    have r3 : tm_R t (tm_u (tm_u (tm_u p 6 t 0) 4 t (p 13 t)) 5 t (p 14 t)) (tm_u (tm_u (tm_u (tm_u p 6 t 0) 4 t (p 13 t)) 5 t (p 14 t)) 7 t 0) := tm_Ru t r2.1 (by exact rfl) (by omega) (by omega) (by omega)
    refine ⟨_, tm_R_t ra (tm_R_t r1 (tm_R_t r2 r3)), fun k post hp => br_f (by decide) (br_t rfl (known _ k post ⟨tm_in h, nm_r (tm_up p 6 t 0 c (tm_nz (v := 0) (Nat.zero_le 1))) (br_t rfl ⟨tm_in h, tm_in h, ?_⟩)⟩))⟩
    show wpX_moveTo _ (tm_T k (tm_u p 6 t 0)) (nI (p 13 (nI (p 0 0)).toNatClampNeg)) (nI (p 14 (nI (p 0 0)).toNatClampNeg))
    rw [c]
    refine tm_moveTo (tm_IW ra.1) (ra.2.1.trans h0) h13 h14 ⟨tm_in r2.1, tm_in r2.1, nm_r (tm_up (tm_u (tm_u (tm_u p 6 t 0) 4 t (p 13 t)) 5 t (p 14 t)) 7 t 0 c ?_) hp⟩
    show vp_nar .byte (nI (p 15 (nI (p 0 0)).toNatClampNeg)) = _
    rw [c, h15]; exact tm_nb (by omega)
  · subst e
    have r1 : tm_R t (tm_u p 6 t 0) (tm_u (tm_u p 6 t 0) 5 t 0) := tm_Ru t ra.1 (by show (0 : Nat) ≤ 11; omega) (by omega) (by omega) (by omega)
    have rb := tm_R_t ra r1
    obtain ⟨p1, r2, run1⟩ := tm_lineFeed rb.1 (rb.2.1.trans h0)
    refine ⟨p1, tm_R_t rb r2, fun k post hp => br_f (by decide) (br_f (by decide) (br_f (by decide) (br_t rfl (known _ k post ⟨tm_in h, nm_r (tm_up p 6 t 0 c (tm_nz (v := 0) (Nat.zero_le 1))) (br_f (by decide) (br_f (by decide) (br_t rfl ⟨tm_in h, nm_r (tm_up (tm_u p 6 t 0) 5 t 0 c rfl) ?_⟩)))⟩))))⟩
    exact run1 k _ hp
  · subst e
    obtain ⟨p1, r2, run1⟩ := tm_goUp ra.1 (ra.2.1.trans h0)
    refine ⟨p1, tm_R_t ra r2, fun k post hp => br_f (by decide) (br_f (by decide) (br_f (by decide) (br_f (by decide) (br_t rfl (known _ k post ⟨tm_in h, nm_r (tm_up p 6 t 0 c (tm_nz (v := 0) (Nat.zero_le 1))) (br_f (by decide) (br_f (by decide) (br_f (by decide) (br_t rfl ?_))))⟩)))))⟩
    exact run1 k _ hp
/-- the second number of a list -/
def tm_q (p : tm_P) (t : Nat) : Nat := if p 22 t ≤ 1 then 0 else p 23 (t * 4 + 1)
theorem tm_travel {b n t : Nat} {p : tm_P} (hb : b = 65 ∨ b = 66 ∨ b = 67 ∨ b = 68 ∨ b = 71 ∨ b = 72) (hn : 1 ≤ n) (hn2 : n ≤ 99) (h : tm_I p) (h0 : p 0 0 = t) :
    ∃ r c, r ≤ 5 ∧ c ≤ 11 ∧ (b = 67 → r = p 4 t ∧ c = min (p 5 t + n) 11) ∧ (b = 68 → r = p 4 t ∧ c = p 5 t - n) ∧ (b = 72 → r = min (n - 1) 5 ∧ c = if tm_q p t = 0 then 0 else min (tm_q p t - 1) 11) ∧
      ∀ (k : Bool) (post : St1 → Prop), post (tm_T k (tm_u (tm_u p 4 t r) 5 t c)) → wpX_travel post (tm_T k p) (nI b) (nI n) := by
  have h4 : p 4 t ≤ 5 := h.1 4 t
  have h5 : p 5 t ≤ 11 := h.1 5 t
  have h8 : p 8 t = 0 := h.1 8 t
  have ht := tm_at h
  have h9 : p 9 t = 5 := h.1 9 t (by omega)
  have hq : tm_q p t ≤ 99 := by
    unfold tm_q
    split
    · omega
    · exact h.1 23 _
  have c := tm_ac h h0
  have c4 : nI (p 4 (nI (p 0 0)).toNatClampNeg) = nI (p 4 t) := by rw [c]
  have c5 : nI (p 5 (nI (p 0 0)).toNatClampNeg) = nI (p 5 t) := by rw [c]
  have c8 : nI (p 8 (nI (p 0 0)).toNatClampNeg) = nI 0 := by rw [c, h8]
  have c9 : nI (p 9 (nI (p 0 0)).toNatClampNeg) = nI 5 := by rw [c, h9]
  have mv : ∀ (k : Bool) (post : St1 → Prop) (r' c' : Nat), r' ≤ 5 → c' ≤ 11 → post (tm_T k (tm_u (tm_u p 4 t r') 5 t c')) → wX_travel_229 post (nI r') (nI c') (nI (p 0 0)) (nI (p 25 0)) (nI (p 26 0)) (fun i => nI (tm_f k (p 1 i))) (fun i => nI (p 2 i)) (fun i => nI (p 3 i)) (fun i => nI (p 4 i)) (fun i => nI (p 5 i)) (fun i => nI (p 6 i)) (fun i => nI (p 7 i)) (fun i => nI (p 8 i)) (fun i => nI (p 9 i)) (fun i => nI (p 10 i)) (fun i => nI (p 11 i)) (fun i => nI (p 12 i)) (fun i => nI (p 13 i)) (fun i => nI (p 14 i)) (fun i => nI (p 15 i)) (fun i => nI (p 16 i)) (fun i => nI (p 17 i)) (fun i => nI (p 18 i)) (fun i => nI (p 19 i)) (fun i => nI (p 20 i)) (fun i => nI (p 21 i)) (fun i => nI (p 22 i)) (fun i => nI (p 23 i)) (fun i => nI (tm_f k (p 24 i))) := by
    intro k post r' c' hr hc hp
    exact tm_moveTo (k := k) (p := p) (tm_IW h) h0 hr hc hp
  rcases hb with e | e | e | e | e | e
  · subst e
    refine ⟨max (p 4 t - n) 0, p 5 t, by omega, h5, by omega, by omega, by omega, fun k post hp => ⟨tm_in h, nm_r c4 ⟨tm_in h, nm_r c5 (br_t rfl ⟨tm_in h, pk_lt (p 4 t) 0 (fun z => absurd z (by omega)) (fun _ => ⟨tm_in h, ?_⟩) rfl c8⟩)⟩⟩⟩
    show wpX_greater _ () (nI (p 4 t) - nI n) (nI (p 8 (nI (p 0 0)).toNatClampNeg))
    rw [c8]
    exact tm_greater (by omega) (by omega) (by omega) (mv k post _ _ (by omega) h5 hp)
  · subst e
    refine ⟨min (p 4 t + n) 5, p 5 t, by omega, h5, by omega, by omega, by omega, fun k post hp => ⟨tm_in h, nm_r c4 ⟨tm_in h, nm_r c5 (br_f (by decide) (br_t rfl ⟨tm_in h, pk_lt 5 (p 4 t) (fun z => absurd z (by omega)) (fun _ => ⟨tm_in h, ?_⟩) c9 rfl⟩))⟩⟩⟩
    show wpX_lesser _ () (nI (p 4 t) + nI n) (nI (p 9 (nI (p 0 0)).toNatClampNeg))
    rw [c9, nI_add]
    exact tm_lesser (by omega) (by omega) (mv k post _ _ (by omega) h5 hp)
  · subst e
    refine ⟨p 4 t, min (p 5 t + n) 11, by omega, by omega, fun _ => ⟨rfl, rfl⟩, by omega, by omega, fun k post hp => ⟨tm_in h, nm_r c4 ⟨tm_in h, nm_r c5 (br_f (by decide) (br_f (by decide) (br_t rfl ?_)))⟩⟩⟩
    show wpX_lesser _ () (nI (p 5 t) + nI n) (nI 11)
    rw [nI_add]
    exact tm_lesser (by omega) (by omega) (mv k post _ _ h4 (by omega) hp)
  · subst e
    refine ⟨p 4 t, max (p 5 t - n) 0, by omega, by omega, by omega, fun _ => ⟨rfl, by omega⟩, by omega, fun k post hp => ⟨tm_in h, nm_r c4 ⟨tm_in h, nm_r c5 (br_f (by decide) (br_f (by decide) (br_f (by decide) (br_t rfl ?_))))⟩⟩⟩
    exact tm_greater (b := 0) (by omega) (by omega) (by omega) (mv k post _ _ h4 (by omega) hp)
  · subst e
    refine ⟨p 4 t, min (n - 1) 11, by omega, by omega, by omega, by omega, by omega, fun k post hp => ⟨tm_in h, nm_r c4 ⟨tm_in h, nm_r c5 (br_f (by decide) (br_f (by decide) (br_f (by decide) (br_f (by decide) (br_t rfl ?_)))))⟩⟩⟩
    show wpX_lesser _ () (nI n - nI 1) (nI 11)
    rw [pk_sub hn]
    exact tm_lesser (by omega) (by omega) (mv k post _ _ h4 (by omega) hp)
  · subst e
    refine ⟨min (n - 1) 5, if tm_q p t = 0 then 0 else min (tm_q p t - 1) 11, by omega, by split <;> omega, by omega, by omega, fun _ => ⟨rfl, rfl⟩, fun k post hp => ⟨tm_in h, nm_r c4 ⟨tm_in h, nm_r c5 (br_f (by decide) (br_f (by decide) (br_f (by decide) (br_f (by decide) (br_f (by decide) (br_f (by decide) (br_t rfl ?_)))))))⟩⟩⟩
    refine tm_number (k := k) (p := p) (i := 1) h h0 (by omega) ?_
    show wpX_lesser _ () (nI n - nI 1) (nI 5)
    rw [pk_sub hn]
    refine tm_lesser (by omega) (by omega) ?_
    refine pk_eq (tm_q p t) 0 (fun z => ?_) (fun z => ?_)
    · rw [if_pos z] at hp
      exact mv k post (min (n - 1) 5) 0 (by omega) (by omega) hp
    · rw [if_neg z] at hp
      show wpX_lesser _ () (nI (tm_q p t) - nI 1) (nI 11)
      rw [pk_sub (by omega)]
      exact tm_lesser (by omega) (by omega) (mv k post _ _ (by omega) (by omega) hp)
theorem tm_erase {b m n t : Nat} {p : tm_P} (hb : b = 74 ∨ b = 75 ∨ b = 88) (hm : m ≤ 99) (hn2 : n ≤ 99) (h : tm_I p) (h0 : p 0 0 = t) :
    ∃ p', (tm_ee t p p' ∧ (b = 75 → m = 0 → p' = tm_E p (tm_l p t (p 4 t)) (p 5 t) 12)) ∧ ∀ (k : Bool) (post : St1 → Prop), post (tm_T k p') → wpX_erase post (tm_T k p) (nI b) (nI m) (nI n) := by
  have h4 : p 4 t ≤ 5 := h.1 4 t
  have h5 : p 5 t ≤ 11 := h.1 5 t
  have c := tm_ac h h0
  have c4 : nI (p 4 (nI (p 0 0)).toNatClampNeg) = nI (p 4 t) := by rw [c]
  have c5 : nI (p 5 (nI (p 0 0)).toNatClampNeg) = nI (p 5 t) := by rw [c]
  have hW := tm_IW h
  by_cases b88 : b = 88
  · subst b88
    refine ⟨_, ⟨tm_ee_E hW t (p 4 t) (p 5 t) (min (p 5 t + n) 12), by omega⟩, fun k post hp => ⟨tm_in h, nm_r c4 ⟨tm_in h, nm_r c5 (br_t rfl ?_)⟩⟩⟩
    show wpX_lesser _ () (nI (p 5 t) + nI n) (nI 12)
    rw [nI_add]
    refine tm_lesser (by omega) (by omega) ?_
    exact tm_emptyCells (k := k) (p := p) hW h0 h4 (by omega) (by omega) hp
  · by_cases m3 : 2 < m
    · refine ⟨p, ⟨tm_ee_r t p, by omega⟩, fun k post hp => ⟨tm_in h, nm_r c4 ⟨tm_in h, nm_r c5 (pk_eq b 88 (fun z => absurd z b88) (fun _ => pk_le m 2 (fun z => absurd z (by omega)) (fun _ => hp)))⟩⟩⟩
    · -- the first cells
      have first : ∀ (a e : Nat) , a = (if m = 0 then p 5 t else 0) → e = (if m = 1 then p 5 t + 1 else 12) → ∀ (k : Bool) (post : St1 → Prop), wX_erase_82 post (nI b) (nI m) (nI (p 4 t)) (nI a) (nI e) (nI (p 0 0)) (nI (p 25 0)) (nI (p 26 0)) (fun i => nI (tm_f k (p 1 i))) (fun i => nI (p 2 i)) (fun i => nI (p 3 i)) (fun i => nI (p 4 i)) (fun i => nI (p 5 i)) (fun i => nI (p 6 i)) (fun i => nI (p 7 i)) (fun i => nI (p 8 i)) (fun i => nI (p 9 i)) (fun i => nI (p 10 i)) (fun i => nI (p 11 i)) (fun i => nI (p 12 i)) (fun i => nI (p 13 i)) (fun i => nI (p 14 i)) (fun i => nI (p 15 i)) (fun i => nI (p 16 i)) (fun i => nI (p 17 i)) (fun i => nI (p 18 i)) (fun i => nI (p 19 i)) (fun i => nI (p 20 i)) (fun i => nI (p 21 i)) (fun i => nI (p 22 i)) (fun i => nI (p 23 i)) (fun i => nI (tm_f k (p 24 i))) → wpX_erase post (tm_T k p) (nI b) (nI m) (nI n) := by
        intro a e ea ee k post H
        have six : wX_erase_66 post (nI b) (nI m) (nI (p 4 t)) (nI (p 5 t)) (nI a) (nI (p 0 0)) (nI (p 25 0)) (nI (p 26 0)) (fun i => nI (tm_f k (p 1 i))) (fun i => nI (p 2 i)) (fun i => nI (p 3 i)) (fun i => nI (p 4 i)) (fun i => nI (p 5 i)) (fun i => nI (p 6 i)) (fun i => nI (p 7 i)) (fun i => nI (p 8 i)) (fun i => nI (p 9 i)) (fun i => nI (p 10 i)) (fun i => nI (p 11 i)) (fun i => nI (p 12 i)) (fun i => nI (p 13 i)) (fun i => nI (p 14 i)) (fun i => nI (p 15 i)) (fun i => nI (p 16 i)) (fun i => nI (p 17 i)) (fun i => nI (p 18 i)) (fun i => nI (p 19 i)) (fun i => nI (p 20 i)) (fun i => nI (p 21 i)) (fun i => nI (p 22 i)) (fun i => nI (p 23 i)) (fun i => nI (tm_f k (p 24 i))) := by
          refine pk_eq m 1 (fun z => ?_) (fun z => ?_)
          · rw [nI_1]; rw [if_pos z] at ee; subst ee; exact H
          · rw [if_neg z] at ee; subst ee; exact H
        refine ⟨tm_in h, nm_r c4 ⟨tm_in h, nm_r c5 (pk_eq b 88 (fun z => absurd z b88) (fun _ => pk_le m 2 (fun _ => ?_) (fun z => absurd z (by omega))))⟩⟩
        refine pk_eq m 0 (fun z => ?_) (fun z => ?_)
        · rw [if_pos z] at ea; subst ea; exact six
        · rw [if_neg z] at ea; subst ea; exact six
      have hE := tm_ee_E hW t (p 4 t) (if m = 0 then p 5 t else 0) (if m = 1 then p 5 t + 1 else 12)
      have hEW := tm_ee_W hW hE
      have hE0 := (tm_ee_o hE 0 (g := 0) (by omega) (by omega)).trans h0
      have bounds : (if m = 0 then p 5 t else 0) ≤ (if m = 1 then p 5 t + 1 else 12) ∧ (if m = 1 then p 5 t + 1 else 12) ≤ 12 := by
        constructor <;> (try split) <;> (try split) <;> omega
      by_cases b75 : b = 75
      · subst b75
        refine ⟨_, ⟨hE, fun _ e => by subst e; rfl⟩, fun k post hp => first _ _ rfl rfl k post ?_⟩
        refine tm_emptyCells (k := k) (p := p) hW h0 h4 bounds.1 bounds.2 ?_
        exact br_f (by decide) (br_f (by decide) hp)
      · have b74 : b = 74 := by omega
        subst b74
        -- the rows below
        have below : ∃ p1, tm_ee t p p1 ∧ ∀ (k : Bool) (post : St1 → Prop), wX_erase_115 post (nI 74) (nI m) (nI (p 4 t)) (nI (p1 0 0)) (nI (p1 25 0)) (nI (p1 26 0)) (fun i => nI (tm_f k (p1 1 i))) (fun i => nI (p1 2 i)) (fun i => nI (p1 3 i)) (fun i => nI (p1 4 i)) (fun i => nI (p1 5 i)) (fun i => nI (p1 6 i)) (fun i => nI (p1 7 i)) (fun i => nI (p1 8 i)) (fun i => nI (p1 9 i)) (fun i => nI (p1 10 i)) (fun i => nI (p1 11 i)) (fun i => nI (p1 12 i)) (fun i => nI (p1 13 i)) (fun i => nI (p1 14 i)) (fun i => nI (p1 15 i)) (fun i => nI (p1 16 i)) (fun i => nI (p1 17 i)) (fun i => nI (p1 18 i)) (fun i => nI (p1 19 i)) (fun i => nI (p1 20 i)) (fun i => nI (p1 21 i)) (fun i => nI (p1 22 i)) (fun i => nI (p1 23 i)) (fun i => nI (tm_f k (p1 24 i))) → wX_erase_82 post (nI 74) (nI m) (nI (p 4 t)) (nI (if m = 0 then p 5 t else 0)) (nI (if m = 1 then p 5 t + 1 else 12)) (nI (p 0 0)) (nI (p 25 0)) (nI (p 26 0)) (fun i => nI (tm_f k (p 1 i))) (fun i => nI (p 2 i)) (fun i => nI (p 3 i)) (fun i => nI (p 4 i)) (fun i => nI (p 5 i)) (fun i => nI (p 6 i)) (fun i => nI (p 7 i)) (fun i => nI (p 8 i)) (fun i => nI (p 9 i)) (fun i => nI (p 10 i)) (fun i => nI (p 11 i)) (fun i => nI (p 12 i)) (fun i => nI (p 13 i)) (fun i => nI (p 14 i)) (fun i => nI (p 15 i)) (fun i => nI (p 16 i)) (fun i => nI (p 17 i)) (fun i => nI (p 18 i)) (fun i => nI (p 19 i)) (fun i => nI (p 20 i)) (fun i => nI (p 21 i)) (fun i => nI (p 22 i)) (fun i => nI (p 23 i)) (fun i => nI (tm_f k (p 24 i))) := by
          by_cases m1 : m = 1
          · subst m1
            refine ⟨_, hE, fun k post H => ?_⟩
            refine tm_emptyCells (k := k) (p := p) hW h0 h4 bounds.1 bounds.2 ?_
            exact br_t rfl (br_t rfl H)
          · obtain ⟨p1, ⟨e1, _⟩, run1⟩ := tm_emptyRows (a := p 4 t + 1) (b := 6) (by omega) (by omega) hEW hE0
            refine ⟨p1, tm_ee_t hE e1, fun k post H => ?_⟩
            refine tm_emptyCells (k := k) (p := p) hW h0 h4 bounds.1 bounds.2 ?_
            refine br_t rfl (pk_eq m 1 (fun z => absurd z m1) (fun _ => ?_))
            rw [nI_1]
            exact run1 k _ H
        obtain ⟨p1, e1, run1⟩ := below
        have h1W := tm_ee_W hW e1
        have h10 := (tm_ee_o e1 0 (g := 0) (by omega) (by omega)).trans h0
        by_cases m0 : m = 0
        · subst m0
          exact ⟨p1, ⟨e1, by omega⟩, fun k post hp => first _ _ rfl rfl k post (run1 k post (br_t rfl (br_t rfl hp)))⟩
        · obtain ⟨p2, ⟨e2, _⟩, run2⟩ := tm_emptyRows (a := 0) (b := p 4 t) (by omega) (by omega) h1W h10
          refine ⟨p2, ⟨tm_ee_t e1 e2, by omega⟩, fun k post hp => first _ _ rfl rfl k post (run1 k post (br_t rfl (pk_eq m 0 (fun z => absurd z m0) (fun _ => ?_))))⟩
          exact run2 k _ hp
end
section
theorem tm_I12 {p : tm_P} {v : Nat} (h : tm_I p) (hv : v ≤ 1) (h19 : v = 1 → p 19 0 = 5) : tm_I (tm_u p 12 0 v) := by
  refine ⟨fun a b => ?_, fun r s hr hs => h.2.1 r s hr hs, fun e => ?_⟩
  · rw [tm_ue]
    by_cases e : a = 12 ∧ b = 0
    · rw [if_pos e, e.1, e.2]; exact ⟨hv, fun z => absurd z (by omega)⟩
    · rw [if_neg e]; exact h.1 a b
  · rw [tm_uS] at e; exact h19 e
theorem tm_I19 {p : tm_P} (h : tm_I p) : tm_I (tm_u p 19 0 5) := by
  refine ⟨fun a b => ?_, fun r s hr hs => h.2.1 r s hr hs, fun e => tm_uS _ _ _ _⟩
  rw [tm_ue]
  by_cases e : a = 19 ∧ b = 0
  · rw [if_pos e, e.1]; show (5 : Nat) ≤ 5; omega
  · rw [if_neg e]; exact h.1 a b
theorem tm_R0 {p p' : tm_P} (h : tm_I p') (h0 : p' 0 0 = p 0 0) (hf : ∀ g i, 20 ≤ g → g ≤ 23 → p' g i = p g i) : tm_R 0 p p' := ⟨h, h0, hf, fun z => absurd z (by omega)⟩
theorem tm_switchOther {z : Nat} {p : tm_P} (hz : z ≤ 1) (h : tm_I p) (h0 : p 0 0 = 0) :
    ∃ p', tm_R 0 p p' ∧ ∀ (k : Bool) (post : St1 → Prop), post (tm_T k p') → wpX_switchOther post (tm_T k p) (nI z) := by
  have h4 : p 4 0 ≤ 5 := h.1 4 0
  have h5 : p 5 0 ≤ 11 := h.1 5 0
  have h8 : p 8 0 = 0 := h.1 8 0
  have h9 : p 9 0 = 5 := h.1 9 0 (by omega)
  have h12 : p 12 0 ≤ 1 := (h.1 12 0).1
  have h16 : p 16 0 ≤ 5 := h.1 16 0
  have h17 : p 17 0 ≤ 11 := h.1 17 0
  have h18 : p 18 0 = 0 := h.1 18 0
  have c := tm_ac h h0
  have opn : ∀ (k : Bool) (post : St1 → Prop), wX_switchOther_19 post (nI z) (nI (p 12 0)) (nI z) (nI (p 0 0)) (nI (p 25 0)) (nI (p 26 0)) (fun i => nI (tm_f k (p 1 i))) (fun i => nI (p 2 i)) (fun i => nI (p 3 i)) (fun i => nI (p 4 i)) (fun i => nI (p 5 i)) (fun i => nI (p 6 i)) (fun i => nI (p 7 i)) (fun i => nI (p 8 i)) (fun i => nI (p 9 i)) (fun i => nI (p 10 i)) (fun i => nI (p 11 i)) (fun i => nI (p 12 i)) (fun i => nI (p 13 i)) (fun i => nI (p 14 i)) (fun i => nI (p 15 i)) (fun i => nI (p 16 i)) (fun i => nI (p 17 i)) (fun i => nI (p 18 i)) (fun i => nI (p 19 i)) (fun i => nI (p 20 i)) (fun i => nI (p 21 i)) (fun i => nI (p 22 i)) (fun i => nI (p 23 i)) (fun i => nI (tm_f k (p 24 i))) → wpX_switchOther post (tm_T k p) (nI z) := by
    intro k post H
    refine ⟨tm_in h, pk_eq (p 12 0) 1 (fun e => ?_) (fun e => ?_) (by show nI (p 12 (nI (p 0 0)).toNatClampNeg) = _; rw [c]) rfl⟩
    · rw [e] at H; exact H
    · rw [show p 12 0 = 0 by omega] at H; exact H
  by_cases e : z = p 12 0
  · exact ⟨p, tm_R_r h, fun k post hp => opn k post (br_t (by rw [e]) hp)⟩
  · have i6 : tm_I (tm_u p 6 0 0) := tm_Iu h (by show (0 : Nat) ≤ 1; omega) (by omega) (by omega) (by omega)
    by_cases ez : z = 0
    · subst ez
      have e12 : p 12 0 = 1 := by omega
      have h19 : p 19 0 = 5 := h.2.2 e12
      have i12 : tm_I (tm_u (tm_u p 6 0 0) 12 0 0) := tm_I12 i6 (by omega) (fun z => absurd z (by omega))
      have i4 : tm_I (tm_u (tm_u (tm_u p 6 0 0) 12 0 0) 4 0 (p 16 0)) := tm_Iu i12 h16 (by omega) (by omega) (by omega)
      have i5 : tm_I (tm_u (tm_u (tm_u (tm_u p 6 0 0) 12 0 0) 4 0 (p 16 0)) 5 0 (p 17 0)) := tm_Iu i4 h17 (by omega) (by omega) (by omega)
      have i8 : tm_I (tm_u (tm_u (tm_u (tm_u (tm_u p 6 0 0) 12 0 0) 4 0 (p 16 0)) 5 0 (p 17 0)) 8 0 0) := tm_Iu i5 (by exact rfl) (by omega) (by omega) (by omega)
      have i9 : tm_I (tm_u (tm_u (tm_u (tm_u (tm_u (tm_u p 6 0 0) 12 0 0) 4 0 (p 16 0)) 5 0 (p 17 0)) 8 0 0) 9 0 5) := tm_Iu i8 (fun _ => rfl) (by omega) (by omega) (by omega)
      refine ⟨_, tm_R0 i9 rfl (fun g i g1 g2 => ?_), fun k post hp => opn k post (br_f ?_ ⟨tm_in h, nm_r (tm_up p 6 0 0 c rfl) (br_t rfl ⟨tm_in h, nm_r (tm_up (tm_u p 6 0 0) 12 0 0 c rfl) ⟨tm_in h, tm_in h, ?_⟩⟩)⟩)⟩
      · rw [tm_uN _ _ _ _ (by omega), tm_uN _ _ _ _ (by omega), tm_uN _ _ _ _ (by omega), tm_uN _ _ _ _ (by omega), tm_uN _ _ _ _ (by omega), tm_uN _ _ _ _ (by omega)]
      · rw [e12]; decide
      · show wpX_moveTo _ (tm_T k (tm_u (tm_u p 6 0 0) 12 0 0)) (nI (p 16 (nI (p 0 0)).toNatClampNeg)) (nI (p 17 (nI (p 0 0)).toNatClampNeg))
        rw [c]
        refine tm_moveTo (tm_IW i12) (t := 0) h0 h16 h17 ⟨tm_in i5, tm_in i5, nm_r (tm_up (tm_u (tm_u (tm_u (tm_u p 6 0 0) 12 0 0) 4 0 (p 16 0)) 5 0 (p 17 0)) 8 0 0 c ?_) ⟨tm_in i5, tm_in i5, nm_r (tm_up (tm_u (tm_u (tm_u (tm_u (tm_u p 6 0 0) 12 0 0) 4 0 (p 16 0)) 5 0 (p 17 0)) 8 0 0) 9 0 5 c ?_) hp⟩⟩
        · show vp_nar .byte (nI (p 18 (nI (p 0 0)).toNatClampNeg)) = _
          rw [c, h18]; exact tm_nb (by omega)
        · show vp_nar .byte (nI (p 19 (nI (p 0 0)).toNatClampNeg)) = _
          rw [c, h19]; exact tm_nb (by omega)
    · have ez1 : z = 1 := by omega
      subst ez1
      have e12 : p 12 0 = 0 := by omega
      have i16 : tm_I (tm_u (tm_u p 6 0 0) 16 0 (p 4 0)) := tm_Iu i6 h4 (by omega) (by omega) (by omega)
      have i17 : tm_I (tm_u (tm_u (tm_u p 6 0 0) 16 0 (p 4 0)) 17 0 (p 5 0)) := tm_Iu i16 h5 (by omega) (by omega) (by omega)
      have i18 : tm_I (tm_u (tm_u (tm_u (tm_u p 6 0 0) 16 0 (p 4 0)) 17 0 (p 5 0)) 18 0 0) := tm_Iu i17 (by exact rfl) (by omega) (by omega) (by omega)
      have i19 := tm_I19 i18
      have i12 := tm_I12 (v := 1) i19 (by omega) (fun _ => tm_uS _ _ _ _)
      obtain ⟨p1, ⟨e1, _⟩, run1⟩ := tm_emptyRows (t := 0) (a := 0) (b := 6) (by omega) (by omega) (tm_IW i12) h0
      have i1 := tm_ee_I i12 e1
      have h10 : p1 0 0 = 0 := (tm_ee_o e1 0 (by omega) (by omega)).trans h0
      have c1 := tm_ac i1 h10
      have j4 : tm_I (tm_u p1 4 0 0) := tm_Iu i1 (by show (0 : Nat) ≤ 5; omega) (by omega) (by omega) (by omega)
      have j5 : tm_I (tm_u (tm_u p1 4 0 0) 5 0 0) := tm_Iu j4 (by show (0 : Nat) ≤ 11; omega) (by omega) (by omega) (by omega)
      have j8 : tm_I (tm_u (tm_u (tm_u p1 4 0 0) 5 0 0) 8 0 0) := tm_Iu j5 (by exact rfl) (by omega) (by omega) (by omega)
      have j9 : tm_I (tm_u (tm_u (tm_u (tm_u p1 4 0 0) 5 0 0) 8 0 0) 9 0 5) := tm_Iu j8 (fun _ => rfl) (by omega) (by omega) (by omega)
      refine ⟨_, tm_R0 j9 (h10.trans h0.symm) (fun g i g1 g2 => ?_), fun k post hp => opn k post (br_f ?_ ⟨tm_in h, nm_r (tm_up p 6 0 0 c rfl) (br_f (by decide) ⟨tm_in h, tm_in h, nm_r (tm_up (tm_u p 6 0 0) 16 0 (p 4 0) c ?_) ⟨tm_in h, tm_in h, nm_r (tm_up (tm_u (tm_u p 6 0 0) 16 0 (p 4 0)) 17 0 (p 5 0) c ?_) ⟨tm_in h, tm_in h, nm_r (tm_up (tm_u (tm_u (tm_u p 6 0 0) 16 0 (p 4 0)) 17 0 (p 5 0)) 18 0 0 c ?_) ⟨tm_in h, tm_in h, nm_r (tm_up (tm_u (tm_u (tm_u (tm_u p 6 0 0) 16 0 (p 4 0)) 17 0 (p 5 0)) 18 0 0) 19 0 5 c ?_) ⟨tm_in h, nm_r (tm_up (tm_u (tm_u (tm_u (tm_u (tm_u p 6 0 0) 16 0 (p 4 0)) 17 0 (p 5 0)) 18 0 0) 19 0 5) 12 0 1 c rfl) ?_⟩⟩⟩⟩⟩)⟩)⟩
      · rw [tm_uN _ _ _ _ (by omega), tm_uN _ _ _ _ (by omega), tm_uN _ _ _ _ (by omega), tm_uN _ _ _ _ (by omega), tm_ee_o e1 _ (by omega) (by omega), tm_uN _ _ _ _ (by omega), tm_uN _ _ _ _ (by omega), tm_uN _ _ _ _ (by omega), tm_uN _ _ _ _ (by omega), tm_uN _ _ _ _ (by omega), tm_uN _ _ _ _ (by omega)]
      · rw [e12]; decide
      · show vp_nar .byte (nI (p 4 (nI (p 0 0)).toNatClampNeg)) = _
        rw [c]; exact tm_nb (by omega)
      · show vp_nar .byte (nI (p 5 (nI (p 0 0)).toNatClampNeg)) = _
        rw [c]; exact tm_nb (by omega)
      · show vp_nar .byte (nI (p 8 (nI (p 0 0)).toNatClampNeg)) = _
        rw [c, h8]; exact tm_nb (by omega)
      · show vp_nar .byte (nI (p 9 (nI (p 0 0)).toNatClampNeg)) = _
        rw [c, h9]; exact tm_nb (by omega)
      · refine run1 k _ ?_
        refine tm_moveTo (k := k) (p := p1) (r := 0) (c := 0) (tm_IW i1) h10 (by omega) (by omega) ?_
        exact ⟨tm_in j5, nm_r (tm_up (tm_u (tm_u p1 4 0 0) 5 0 0) 8 0 0 c1 rfl) ⟨tm_in j5, nm_r (tm_up (tm_u (tm_u (tm_u p1 4 0 0) 5 0 0) 8 0 0) 9 0 5 c1 rfl) hp⟩⟩
theorem tm_switchMode {z : Nat} {p : tm_P} (hz : z ≤ 1) (h : tm_I p) (h0 : p 0 0 = 0) :
    ∃ p', tm_R 0 p p' ∧ ∀ (k : Bool) (post : St1 → Prop), post (tm_T k p') → wpX_switchMode post (tm_T k p) (nI z) := by
  have c := tm_ac h h0
  have hv : p 23 (0 * 4 + 0) ≤ 99 := h.1 23 _
  generalize em : (if p 22 0 ≤ 0 then 0 else p 23 (0 * 4 + 0)) = m
  have hm : m ≤ 99 := by rw [← em]; split <;> omega
  have num : ∀ (k : Bool) (Q : Int32 → Prop), Q (nI m) → wpX_number Q (tm_T k p) 0 := fun k Q hQ => tm_number (k := k) (p := p) (i := 0) h h0 (by omega) (by rw [em]; exact hQ)
  by_cases m7 : m = 7
  · refine ⟨tm_u p 11 0 z, tm_Ru 0 h hz (by omega) (by omega) (by omega), fun k post hp => ?_⟩
    unfold wpX_switchMode tm_T
    dsimp only
    exact num k _ (pk_eq m 7 (fun _ => ⟨tm_in h, nm_r (tm_up p 11 0 z c (tm_nz hz)) hp⟩) (fun e => absurd m7 e))
  · by_cases m49 : m = 49
    · obtain ⟨p', r, run⟩ := tm_switchOther hz h h0
      refine ⟨p', r, fun k post hp => ?_⟩
      unfold wpX_switchMode tm_T
      dsimp only
      exact num k _ (pk_eq m 7 (fun e => absurd e m7) (fun _ => pk_eq m 49 (fun _ => run k _ hp) (fun e => absurd m49 e)))
    · refine ⟨p, tm_R_r h, fun k post hp => ?_⟩
      unfold wpX_switchMode tm_T
      dsimp only
      exact num k _ (pk_eq m 7 (fun e => absurd e m7) (fun _ => pk_eq m 49 (fun e => absurd e m49) (fun _ => hp)))
/-- the last byte of a list with a question -/
theorem tm_lastQ {b : Nat} {p : tm_P} (hb : b = 104 ∨ b = 108) (h : tm_I p) (h0 : p 0 0 = 0) (h21 : p 21 0 = 1) :
    ∃ p', tm_R 0 p p' ∧ ∀ (k : Bool) (post : St1 → Prop), post (tm_T k p') → wpX_lastByte post (tm_T k p) (nI b) := by
  have c := tm_ac h h0
  have q : ¬ nI (p 21 (nI (p 0 0)).toNatClampNeg) = nI 0 := by rw [c, h21]; decide
  rcases hb with e | e
  · subst e
    obtain ⟨p', r, run⟩ := tm_switchMode (z := 1) (by omega) h h0
    exact ⟨p', r, fun k post hp => ⟨tm_in h, br_f q (br_t rfl (br_t rfl (run k _ hp)))⟩⟩
  · subst e
    obtain ⟨p', r, run⟩ := tm_switchMode (z := 0) (by omega) h h0
    exact ⟨p', r, fun k post hp => ⟨tm_in h, br_f q (br_f (by decide) (br_t rfl (br_f (by decide) (run k _ hp))))⟩⟩
/-- the last byte of a list without a question: known bytes -/
theorem tm_last_k {b t : Nat} {p : tm_P} {k : Bool} {post : St1 → Prop} (hb : 64 ≤ b ∧ b ≤ 68 ∨ b = 71 ∨ b = 72 ∨ 74 ≤ b ∧ b ≤ 77 ∨ b = 80 ∨ b = 83 ∨ b = 84 ∨ b = 88) (h : tm_I p) (h0 : p 0 0 = t) (h21 : p 21 t = 0)
    (H : wX_lastByte_198 post (nI b) 1 (nI (p 0 0)) (nI (p 25 0)) (nI (p 26 0)) (fun i => nI (tm_f k (p 1 i))) (fun i => nI (p 2 i)) (fun i => nI (p 3 i)) (fun i => nI (p 4 i)) (fun i => nI (p 5 i)) (fun i => nI (p 6 i)) (fun i => nI (p 7 i)) (fun i => nI (p 8 i)) (fun i => nI (p 9 i)) (fun i => nI (p 10 i)) (fun i => nI (p 11 i)) (fun i => nI (p 12 i)) (fun i => nI (p 13 i)) (fun i => nI (p 14 i)) (fun i => nI (p 15 i)) (fun i => nI (p 16 i)) (fun i => nI (p 17 i)) (fun i => nI (p 18 i)) (fun i => nI (p 19 i)) (fun i => nI (p 20 i)) (fun i => nI (p 21 i)) (fun i => nI (p 22 i)) (fun i => nI (p 23 i)) (fun i => nI (tm_f k (p 24 i)))) : wpX_lastByte post (tm_T k p) (nI b) := by
  have c := tm_ac h h0
  have q : nI (p 21 (nI (p 0 0)).toNatClampNeg) = nI 0 := by rw [c, h21]
  have H147 : wX_lastByte_147 post (nI b) (nI (p 0 0)) (nI (p 25 0)) (nI (p 26 0)) (fun i => nI (tm_f k (p 1 i))) (fun i => nI (p 2 i)) (fun i => nI (p 3 i)) (fun i => nI (p 4 i)) (fun i => nI (p 5 i)) (fun i => nI (p 6 i)) (fun i => nI (p 7 i)) (fun i => nI (p 8 i)) (fun i => nI (p 9 i)) (fun i => nI (p 10 i)) (fun i => nI (p 11 i)) (fun i => nI (p 12 i)) (fun i => nI (p 13 i)) (fun i => nI (p 14 i)) (fun i => nI (p 15 i)) (fun i => nI (p 16 i)) (fun i => nI (p 17 i)) (fun i => nI (p 18 i)) (fun i => nI (p 19 i)) (fun i => nI (p 20 i)) (fun i => nI (p 21 i)) (fun i => nI (p 22 i)) (fun i => nI (p 23 i)) (fun i => nI (tm_f k (p 24 i))) := br_f (by decide) H
  have H151 : b < 74 ∨ 77 < b → ¬ (64 ≤ b ∧ b ≤ 68 ∨ b = 71 ∨ b = 72) → wX_lastByte_151 post (nI b) (nI (p 0 0)) (nI (p 25 0)) (nI (p 26 0)) (fun i => nI (tm_f k (p 1 i))) (fun i => nI (p 2 i)) (fun i => nI (p 3 i)) (fun i => nI (p 4 i)) (fun i => nI (p 5 i)) (fun i => nI (p 6 i)) (fun i => nI (p 7 i)) (fun i => nI (p 8 i)) (fun i => nI (p 9 i)) (fun i => nI (p 10 i)) (fun i => nI (p 11 i)) (fun i => nI (p 12 i)) (fun i => nI (p 13 i)) (fun i => nI (p 14 i)) (fun i => nI (p 15 i)) (fun i => nI (p 16 i)) (fun i => nI (p 17 i)) (fun i => nI (p 18 i)) (fun i => nI (p 19 i)) (fun i => nI (p 20 i)) (fun i => nI (p 21 i)) (fun i => nI (p 22 i)) (fun i => nI (p 23 i)) (fun i => nI (tm_f k (p 24 i))) := fun z1 z2 =>
    br_t rfl (pk_eq b 80 (fun _ => H) (fun _ => pk_eq b 83 (fun _ => H) (fun _ => pk_eq b 84 (fun _ => H) (fun _ => pk_eq b 88 (fun _ => H) (fun _ => absurd hb (by omega))))))
  have H123 : ¬ (64 ≤ b ∧ b ≤ 68) → wX_lastByte_123 post (nI b) (nI (p 0 0)) (nI (p 25 0)) (nI (p 26 0)) (fun i => nI (tm_f k (p 1 i))) (fun i => nI (p 2 i)) (fun i => nI (p 3 i)) (fun i => nI (p 4 i)) (fun i => nI (p 5 i)) (fun i => nI (p 6 i)) (fun i => nI (p 7 i)) (fun i => nI (p 8 i)) (fun i => nI (p 9 i)) (fun i => nI (p 10 i)) (fun i => nI (p 11 i)) (fun i => nI (p 12 i)) (fun i => nI (p 13 i)) (fun i => nI (p 14 i)) (fun i => nI (p 15 i)) (fun i => nI (p 16 i)) (fun i => nI (p 17 i)) (fun i => nI (p 18 i)) (fun i => nI (p 19 i)) (fun i => nI (p 20 i)) (fun i => nI (p 21 i)) (fun i => nI (p 22 i)) (fun i => nI (p 23 i)) (fun i => nI (tm_f k (p 24 i))) := fun z0 =>
    pk_eq b 71 (fun _ => H147) (fun _ => pk_eq b 72 (fun _ => H147) (fun _ => pk_lt b 74 (fun z => H151 (by omega) (by omega)) (fun _ => pk_lt 77 b (fun z => H151 (by omega) (by omega)) (fun _ => H147))))
  exact ⟨tm_in h, br_t q (pk_eq b 109 (fun z => absurd z (by omega)) (fun _ => pk_eq b 104 (fun z => absurd z (by omega)) (fun _ => pk_eq b 108 (fun z => absurd z (by omega)) (fun _ =>
    pk_eq b 64 (fun _ => H147) (fun _ => pk_lt b 65 (fun z => H123 (by omega)) (fun _ => pk_le b 68 (fun _ => H147) (fun _ => H123 (by omega))))))))⟩
/-- .. and the two that mean nothing -/
theorem tm_last_u {b t : Nat} {p : tm_P} {k : Bool} {post : St1 → Prop} (hb : b = 69 ∨ b = 70) (h : tm_I p) (h0 : p 0 0 = t) (h21 : p 21 t = 0)
    (H : post (tm_T k p)) : wpX_lastByte post (tm_T k p) (nI b) := by
  have c := tm_ac h h0
  have q : nI (p 21 (nI (p 0 0)).toNatClampNeg) = nI 0 := by rw [c, h21]
  rcases hb with e | e <;> subst e <;>
  exact ⟨tm_in h, br_t q (br_f (by decide) (br_f (by decide) (br_f (by decide) (br_f (by decide) (br_f (by decide) (br_f (by decide)
    (br_f (by decide) (br_f (by decide) (br_t (by decide) (br_t rfl (br_f (by decide) (br_f (by decide) (br_f (by decide) (br_f (by decide) (br_f (by decide) (br_f (by decide) (br_t rfl H)))))))))))))))))⟩
def tm_n1 (m : Nat) : Nat := if m = 0 then 1 else m
theorem tm_n1_r {m : Nat} (h : m ≤ 99) : 1 ≤ tm_n1 m ∧ tm_n1 m ≤ 99 := by unfold tm_n1; split <;> omega
theorem tm_last_m {b t m : Nat} {p : tm_P} {k : Bool} {post : St1 → Prop} (h : tm_I p) (h0 : p 0 0 = t) (h22 : 1 ≤ p 22 t) (h23 : p 23 (t * 4) = m)
    (H : wX_lastByte_232 post (nI b) (nI m) (nI (tm_n1 m)) (nI (p 0 0)) (nI (p 25 0)) (nI (p 26 0)) (fun i => nI (tm_f k (p 1 i))) (fun i => nI (p 2 i)) (fun i => nI (p 3 i)) (fun i => nI (p 4 i)) (fun i => nI (p 5 i)) (fun i => nI (tm_u p 6 t 0 6 i)) (fun i => nI (p 7 i)) (fun i => nI (p 8 i)) (fun i => nI (p 9 i)) (fun i => nI (p 10 i)) (fun i => nI (p 11 i)) (fun i => nI (p 12 i)) (fun i => nI (p 13 i)) (fun i => nI (p 14 i)) (fun i => nI (p 15 i)) (fun i => nI (p 16 i)) (fun i => nI (p 17 i)) (fun i => nI (p 18 i)) (fun i => nI (p 19 i)) (fun i => nI (p 20 i)) (fun i => nI (p 21 i)) (fun i => nI (p 22 i)) (fun i => nI (p 23 i)) (fun i => nI (tm_f k (p 24 i)))) :
    wX_lastByte_198 post (nI b) 1 (nI (p 0 0)) (nI (p 25 0)) (nI (p 26 0)) (fun i => nI (tm_f k (p 1 i))) (fun i => nI (p 2 i)) (fun i => nI (p 3 i)) (fun i => nI (p 4 i)) (fun i => nI (p 5 i)) (fun i => nI (p 6 i)) (fun i => nI (p 7 i)) (fun i => nI (p 8 i)) (fun i => nI (p 9 i)) (fun i => nI (p 10 i)) (fun i => nI (p 11 i)) (fun i => nI (p 12 i)) (fun i => nI (p 13 i)) (fun i => nI (p 14 i)) (fun i => nI (p 15 i)) (fun i => nI (p 16 i)) (fun i => nI (p 17 i)) (fun i => nI (p 18 i)) (fun i => nI (p 19 i)) (fun i => nI (p 20 i)) (fun i => nI (p 21 i)) (fun i => nI (p 22 i)) (fun i => nI (p 23 i)) (fun i => nI (tm_f k (p 24 i))) := by
  have c := tm_ac h h0
  have hm : m ≤ 99 := by rw [← h23]; exact h.1 23 _
  have ra : tm_I (tm_u p 6 t 0) := tm_Iu h (by show (0 : Nat) ≤ 1; omega) (by omega) (by omega) (by omega)
  refine br_f (by decide) ⟨tm_in h, nm_r (tm_up p 6 t 0 c rfl) ?_⟩
  refine tm_number (k := k) (p := tm_u p 6 t 0) (i := 0) ra h0 (by omega) ?_
  have e : (if (tm_u p 6 t 0) 22 t ≤ 0 then 0 else (tm_u p 6 t 0) 23 (t * 4 + 0)) = m := by
    rw [if_neg (by show ¬ p 22 t ≤ 0; omega)]; exact h23
  rw [e]
  refine pk_eq m 0 (fun z => ?_) (fun z => ?_)
  · rw [show tm_n1 m = 1 by unfold tm_n1; rw [if_pos z]] at H
    exact H
  · rw [show tm_n1 m = m by unfold tm_n1; rw [if_neg z]] at H
    exact H
theorem tm_last {b m t : Nat} {p : tm_P} (hb : 64 ≤ b ∧ b ≤ 72 ∨ 74 ≤ b ∧ b ≤ 77 ∨ b = 80 ∨ b = 83 ∨ b = 84 ∨ b = 88) (h : tm_I p) (h0 : p 0 0 = t) (h21 : p 21 t = 0) (h22 : 1 ≤ p 22 t) (h23 : p 23 (t * 4) = m) :
    ∃ p', (tm_R t p p' ∧ (b = 67 → p' = tm_u (tm_u (tm_u p 6 t 0) 4 t (p 4 t)) 5 t (min (p 5 t + tm_n1 m) 11)) ∧ (b = 68 → p' = tm_u (tm_u (tm_u p 6 t 0) 4 t (p 4 t)) 5 t (p 5 t - tm_n1 m))
      ∧ (b = 72 → p' = tm_u (tm_u (tm_u p 6 t 0) 4 t (min (tm_n1 m - 1) 5)) 5 t (if tm_q p t = 0 then 0 else min (tm_q p t - 1) 11))
      ∧ (b = 75 → m = 0 → p' = tm_E (tm_u p 6 t 0) (tm_l p t (p 4 t)) (p 5 t) 12) ∧ (b = 64 ∨ b = 80 → tm_cc (tm_l p t (p 4 t)) (p 5 t) (tm_u p 6 t 0) p')) ∧
      ∀ (k : Bool) (post : St1 → Prop), post (tm_T k p') → wpX_lastByte post (tm_T k p) (nI b) := by
  have hm : m ≤ 99 := by rw [← h23]; exact h.1 23 _
  have hn := tm_n1_r hm
  have ra : tm_R t p (tm_u p 6 t 0) := tm_Ru t h (by show (0 : Nat) ≤ 1; omega) (by omega) (by omega) (by omega)
  have hi := ra.1
  have h00 : (tm_u p 6 t 0) 0 0 = t := h0
  by_cases cu : b = 69 ∨ b = 70
  · refine ⟨p, ⟨tm_R_r h, by omega, by omega, by omega, by omega, by omega⟩, fun k post hp => tm_last_u cu h h0 h21 hp⟩
  · have kn : 64 ≤ b ∧ b ≤ 68 ∨ b = 71 ∨ b = 72 ∨ 74 ≤ b ∧ b ≤ 77 ∨ b = 80 ∨ b = 83 ∨ b = 84 ∨ b = 88 := by omega
    by_cases ct : b = 65 ∨ b = 66 ∨ b = 67 ∨ b = 68 ∨ b = 71 ∨ b = 72
    · obtain ⟨r, c, hr, hc, s1, s2, s3, run⟩ := tm_travel ct hn.1 hn.2 hi h00
      have r1 : tm_R t (tm_u p 6 t 0) (tm_u (tm_u p 6 t 0) 4 t r) := tm_Ru t hi hr (by omega) (by omega) (by omega)
      have r2 : tm_R t (tm_u (tm_u p 6 t 0) 4 t r) (tm_u (tm_u (tm_u p 6 t 0) 4 t r) 5 t c) := tm_Ru t r1.1 hc (by omega) (by omega) (by omega)
      refine ⟨_, ⟨tm_R_t ra (tm_R_t r1 r2), fun e => ?_, fun e => ?_, fun e => ?_, by omega, by omega⟩, fun k post hp => tm_last_k kn h h0 h21 (tm_last_m h h0 h22 h23 (pk_lt b 65 (fun z => absurd z (by omega)) (fun _ => pk_le b 72 (fun _ => run k _ hp) (fun z => absurd z (by omega)))))⟩
      · rw [(s1 e).1, (s1 e).2]; rfl
      · rw [(s2 e).1, (s2 e).2]; rfl
      · rw [(s3 e).1, (s3 e).2]; rfl
    · by_cases ce : b = 74 ∨ b = 75 ∨ b = 88
      · obtain ⟨p', ⟨e1, e2⟩, run⟩ := tm_erase (m := m) (n := tm_n1 m) ce hm hn.2 hi h00
        refine ⟨p', ⟨tm_R_t ra (tm_ee_R hi e1), by omega, by omega, by omega, fun e3 e4 => e2 e3 e4, by omega⟩, fun k post hp => tm_last_k kn h h0 h21 (tm_last_m h h0 h22 h23 (pk_lt b 65 (fun z => absurd z (by omega)) (fun _ => pk_le b 72 (fun z => absurd z (by omega)) (fun _ => ?_))))⟩
        exact pk_eq b 100 (fun z => absurd z (by omega)) (fun _ => pk_eq b 74 (fun _ => run k _ hp) (fun _ => pk_eq b 75 (fun _ => run k _ hp) (fun _ => pk_eq b 88 (fun _ => run k _ hp) (fun _ => absurd ce (by omega)))))
      · rcases (show b = 64 ∨ b = 80 ∨ b = 76 ∨ b = 77 ∨ b = 83 ∨ b = 84 by omega) with e | e | e | e | e | e
        · subst e
          obtain ⟨p', e1, run⟩ := tm_shiftCells (z := 1) (n := tm_n1 m) (by omega) hn.1 hn.2 hi h00
          refine ⟨p', ⟨tm_R_t ra (tm_cc_R hi e1), by omega, by omega, by omega, by omega, fun _ => e1⟩, fun k post hp => tm_last_k kn h h0 h21 (tm_last_m h h0 h22 h23 (br_t (by decide) ?_))⟩
          exact br_f (by decide) (br_f (by decide) (br_f (by decide) (br_f (by decide) (br_t rfl (br_t rfl (run k _ hp))))))
        · subst e
          obtain ⟨p', e1, run⟩ := tm_shiftCells (z := 0) (n := tm_n1 m) (by omega) hn.1 hn.2 hi h00
          refine ⟨p', ⟨tm_R_t ra (tm_cc_R hi e1), by omega, by omega, by omega, by omega, fun _ => e1⟩, fun k post hp => tm_last_k kn h h0 h21 (tm_last_m h h0 h22 h23 (br_f (by decide) (br_f (by decide) ?_)))⟩
          exact br_f (by decide) (br_f (by decide) (br_f (by decide) (br_f (by decide) (br_f (by decide) (br_t rfl (br_f (by decide) (run k _ hp)))))))
        · subst e
          obtain ⟨p', e1, run⟩ := tm_shiftRows (z := 1) (n := tm_n1 m) (by omega) hn.2 hi h00
          refine ⟨p', ⟨tm_R_t ra e1, by omega, by omega, by omega, by omega, by omega⟩, fun k post hp => tm_last_k kn h h0 h21 (tm_last_m h h0 h22 h23 (br_f (by decide) (br_f (by decide) ?_)))⟩
          exact br_f (by decide) (br_f (by decide) (br_f (by decide) (br_f (by decide) (br_f (by decide) (br_f (by decide) (br_t rfl (br_t rfl (run k _ hp))))))))
        · subst e
          obtain ⟨p', e1, run⟩ := tm_shiftRows (z := 0) (n := tm_n1 m) (by omega) hn.2 hi h00
          refine ⟨p', ⟨tm_R_t ra e1, by omega, by omega, by omega, by omega, by omega⟩, fun k post hp => tm_last_k kn h h0 h21 (tm_last_m h h0 h22 h23 (br_f (by decide) (br_f (by decide) ?_)))⟩
          exact br_f (by decide) (br_f (by decide) (br_f (by decide) (br_f (by decide) (br_f (by decide) (br_f (by decide) (br_f (by decide) (br_t rfl (br_f (by decide) (run k _ hp)))))))))
        · subst e
          obtain ⟨p', e1, run⟩ := tm_scrollUp (n := tm_n1 m) hn.2 hi h00
          refine ⟨p', ⟨tm_R_t ra e1, by omega, by omega, by omega, by omega, by omega⟩, fun k post hp => tm_last_k kn h h0 h21 (tm_last_m h h0 h22 h23 (br_f (by decide) (br_f (by decide) ?_)))⟩
          exact br_f (by decide) (br_f (by decide) (br_f (by decide) (br_f (by decide) (br_f (by decide) (br_f (by decide) (br_f (by decide) (br_f (by decide) (br_t rfl (run k _ hp)))))))))
        · subst e
          obtain ⟨p', e1, run⟩ := tm_scrollDown (n := tm_n1 m) hn.2 hi h00
          refine ⟨p', ⟨tm_R_t ra e1, by omega, by omega, by omega, by omega, by omega⟩, fun k post hp => tm_last_k kn h h0 h21 (tm_last_m h h0 h22 h23 (br_f (by decide) (br_f (by decide) ?_)))⟩
          exact br_f (by decide) (br_f (by decide) (br_f (by decide) (br_f (by decide) (br_f (by decide) (br_f (by decide) (br_f (by decide) (br_f (by decide) (br_f (by decide) (br_t rfl (run k _ hp))))))))))
end
section
/-! what a byte means -/
theorem tm_mn_esc {k : Bool} {p : tm_P} {post : Int32 → Prop} {s : Int32} (hp : post (nI 3)) : wpX_meaning post (tm_T k p) s 27 := br_t rfl hp
theorem tm_mn_sign {k : Bool} {p : tm_P} {post : Int32 → Prop} {b : Nat} (h1 : 32 ≤ b) (h2 : b < 127) (hp : post (nI 1)) : wpX_meaning post (tm_T k p) (nI 0) (nI b) :=
  pk_eq b 27 (fun z => absurd z (by omega)) (fun _ => br_t rfl (pk_lt b 32 (fun z => absurd z (by omega)) (fun _ => pk_le 127 b (fun z => absurd z (by omega)) (fun _ => hp))))
theorem tm_mn_ctl {k : Bool} {p : tm_P} {post : Int32 → Prop} {b : Nat} (h1 : 8 ≤ b) (h2 : b ≤ 13) (hp : post (nI 2)) : wpX_meaning post (tm_T k p) (nI 0) (nI b) :=
  pk_eq b 27 (fun z => absurd z (by omega)) (fun _ => br_t rfl (pk_lt b 32 (fun _ => pk_lt b 8 (fun z => absurd z (by omega)) (fun _ => pk_lt 13 b (fun z => absurd z (by omega)) (fun _ => hp))) (fun z => absurd z (by omega))))
theorem tm_mn_list {k : Bool} {p : tm_P} {post : Int32 → Prop} (hp : post (nI 4)) : wpX_meaning post (tm_T k p) (nI 1) 91 :=
  br_f (by decide) (br_f (by decide) (br_t rfl (br_t rfl hp)))
theorem tm_mn_short {k : Bool} {p : tm_P} {post : Int32 → Prop} {b : Nat} (h1 : b ≠ 27) (h2 : b ≠ 91) (h3 : b < 128) (hp : post (nI 5)) : wpX_meaning post (tm_T k p) (nI 1) (nI b) :=
  pk_eq b 27 (fun z => absurd z h1) (fun _ => br_f (by decide) (br_t rfl (pk_eq b 91 (fun z => absurd z h2) (fun _ => hp))))
theorem tm_mn_digit {k : Bool} {p : tm_P} {post : Int32 → Prop} {s b : Nat} (hs : s = 2 ∨ s = 3) (h1 : 48 ≤ b) (h2 : b ≤ 57) (hp : post (nI 7)) : wpX_meaning post (tm_T k p) (nI s) (nI b) :=
  pk_eq b 27 (fun z => absurd z (by omega)) (fun _ => pk_eq s 0 (fun z => absurd z (by omega)) (fun _ => pk_eq s 1 (fun z => absurd z (by omega)) (fun _ => pk_lt b 48 (fun z => absurd z (by omega)) (fun _ => pk_lt 57 b (fun z => absurd z (by omega)) (fun _ => hp)))))
theorem tm_mn_next {k : Bool} {p : tm_P} {post : Int32 → Prop} {s : Nat} (hs : s = 2 ∨ s = 3) (hp : post (nI 8)) : wpX_meaning post (tm_T k p) (nI s) 59 :=
  br_f (by decide) (pk_eq s 0 (fun z => absurd z (by omega)) (fun _ => pk_eq s 1 (fun z => absurd z (by omega)) (fun _ => br_f (by decide) (br_t (by decide) (br_t rfl hp)))))
theorem tm_mn_last {k : Bool} {p : tm_P} {post : Int32 → Prop} {s b : Nat} (hs : s = 2 ∨ s = 3) (h1 : 64 ≤ b) (h2 : b < 127) (hp : post (nI 9)) : wpX_meaning post (tm_T k p) (nI s) (nI b) :=
  pk_eq b 27 (fun z => absurd z (by omega)) (fun _ => pk_eq s 0 (fun z => absurd z (by omega)) (fun _ => pk_eq s 1 (fun z => absurd z (by omega)) (fun _ => pk_lt b 48 (fun z => absurd z (by omega)) (fun _ => pk_lt 57 b (fun _ => pk_eq b 59 (fun z => absurd z (by omega)) (fun _ => pk_lt b 64 (fun z => absurd z (by omega)) (fun _ => pk_le 127 b (fun z => absurd z (by omega)) (fun _ => hp)))) (fun z => absurd z (by omega))))))
theorem tm_mn_q {k : Bool} {p : tm_P} {post : Int32 → Prop} (hp : post (nI 6)) : wpX_meaning post (tm_T k p) (nI 2) 63 :=
  br_f (by decide) (br_f (by decide) (br_f (by decide) (br_f (by decide) (br_t (by decide) (br_f (by decide) (br_t (by decide) (br_t rfl (br_t rfl hp))))))))
/-- at and the parser's state are set -/
def tm_v (t s : Nat) (p : tm_P) : tm_P := tm_u (tm_u p 0 0 t) 20 t s
theorem tm_v_I {t s : Nat} {p : tm_P} (h : tm_I p) (ht : t ≤ 1) (hs : s ≤ 3) : tm_I (tm_v t s p) :=
  tm_Iu (tm_Iu h ht (by omega) (by omega) (by omega)) hs (by omega) (by omega) (by omega)
theorem tm_in2 {t : Nat} (ht : t ≤ 1) : vp_in (nI t) 2 := vp_in_nI (by omega) (by omega)
theorem tm_rd_sign {t b : Nat} {p p' : tm_P} (ht : t ≤ 1) (h20 : p 20 t = 0) (hb : 32 ≤ b ∧ b ≤ 62)
    (run : ∀ (k : Bool) (post : St1 → Prop), post (tm_T k p') → wpX_putSign post (tm_T k (tm_v t 0 p)) (nI (tm_f k b))) :
    ∀ (k : Bool) (post : St1 → Prop), post (tm_T k p') → wpX_read post (tm_T k p) (nI t) (nI (tm_f k b)) := by
  intro k post hp
  have c : (nI t).toNatClampNeg = t := tm_cl (by omega)
  have hf := tm_f_r (k := k) hb
  have c20 : nI (p 20 (nI t).toNatClampNeg) = nI 0 := by rw [c, h20]
  refine ⟨tm_in2 ht, nm_r c20 ?_⟩
  refine tm_mn_sign (k := k) (p := tm_u p 0 0 t) (by omega) (by omega) ?_
  refine br_f (by decide) (br_f (by decide) (br_t (by decide) ⟨tm_in2 ht, nm_r (tm_up (tm_u p 0 0 t) 20 t 0 c (tm_b8 0 (by omega))) (br_t rfl ?_)⟩))
  exact run k _ hp
theorem tm_rd_ctl {t b : Nat} {p p' : tm_P} (ht : t ≤ 1) (h20 : p 20 t = 0) (h1 : 8 ≤ b) (h2 : b ≤ 13)
    (run : ∀ (k : Bool) (post : St1 → Prop), post (tm_T k p') → wpX_control post (tm_T k (tm_v t 0 p)) (nI b)) :
    ∀ (k : Bool) (post : St1 → Prop), post (tm_T k p') → wpX_read post (tm_T k p) (nI t) (nI b) := by
  intro k post hp
  have c : (nI t).toNatClampNeg = t := tm_cl (by omega)
  have c20 : nI (p 20 (nI t).toNatClampNeg) = nI 0 := by rw [c, h20]
  refine ⟨tm_in2 ht, nm_r c20 ?_⟩
  refine tm_mn_ctl (k := k) (p := tm_u p 0 0 t) h1 h2 ?_
  refine br_f (by decide) (br_f (by decide) (br_t (by decide) ⟨tm_in2 ht, nm_r (tm_up (tm_u p 0 0 t) 20 t 0 c (tm_b8 0 (by omega))) (br_f (by decide) (br_t rfl ?_))⟩))
  exact run k _ hp
theorem tm_rd_short {t b : Nat} {p p' : tm_P} (ht : t ≤ 1) (h20 : p 20 t = 1) (h1 : b ≠ 27) (h2 : b ≠ 91) (h3 : b < 128)
    (run : ∀ (k : Bool) (post : St1 → Prop), post (tm_T k p') → wpX_shortSequence post (tm_T k (tm_v t 0 p)) (nI b)) :
    ∀ (k : Bool) (post : St1 → Prop), post (tm_T k p') → wpX_read post (tm_T k p) (nI t) (nI b) := by
  intro k post hp
  have c : (nI t).toNatClampNeg = t := tm_cl (by omega)
  have c20 : nI (p 20 (nI t).toNatClampNeg) = nI 1 := by rw [c, h20]
  refine ⟨tm_in2 ht, nm_r c20 ?_⟩
  refine tm_mn_short (k := k) (p := tm_u p 0 0 t) h1 h2 h3 ?_
  refine br_f (by decide) (br_f (by decide) (br_t (by decide) ⟨tm_in2 ht, nm_r (tm_up (tm_u p 0 0 t) 20 t 0 c (tm_b8 0 (by omega))) (br_f (by decide) (br_f (by decide) (br_f (by decide) (br_f (by decide) (br_f (by decide) (br_f (by decide) (br_t rfl ?_)))))))⟩))
  exact run k _ hp
theorem tm_rd_last {t b s : Nat} {p p' : tm_P} (ht : t ≤ 1) (hs : s = 2 ∨ s = 3) (h20 : p 20 t = s) (h1 : 64 ≤ b) (h2 : b < 127)
    (run : ∀ (k : Bool) (post : St1 → Prop), post (tm_T k p') → wpX_lastByte post (tm_T k (tm_v t 0 p)) (nI b)) :
    ∀ (k : Bool) (post : St1 → Prop), post (tm_T k p') → wpX_read post (tm_T k p) (nI t) (nI b) := by
  intro k post hp
  have c : (nI t).toNatClampNeg = t := tm_cl (by omega)
  have c20 : nI (p 20 (nI t).toNatClampNeg) = nI s := by rw [c, h20]
  refine ⟨tm_in2 ht, nm_r c20 ?_⟩
  refine tm_mn_last (k := k) (p := tm_u p 0 0 t) hs h1 h2 ?_
  refine br_f (by decide) (br_f (by decide) (br_f (by decide) (br_t (by decide) ⟨tm_in2 ht, nm_r (tm_up (tm_u p 0 0 t) 20 t 0 c (tm_b8 0 (by omega))) (br_f (by decide) (br_f (by decide) (br_f (by decide) (br_f (by decide) (br_f (by decide) (br_f (by decide) (br_f (by decide) (br_t rfl ?_))))))))⟩)))
  exact run k _ hp
theorem tm_rd_esc {t : Nat} {p : tm_P} (ht : t ≤ 1) (k : Bool) (post : St1 → Prop) (hp : post (tm_T k (tm_v t 1 p))) : wpX_read post (tm_T k p) (nI t) 27 := by
  have c : (nI t).toNatClampNeg = t := tm_cl (by omega)
  refine ⟨tm_in2 ht, nm_e ?_⟩
  refine tm_mn_esc (k := k) (p := tm_u p 0 0 t) ?_
  refine br_t rfl ⟨tm_in2 ht, nm_r (tm_up (tm_u p 0 0 t) 20 t 1 c (tm_b8 1 (by omega))) (br_f (by decide) (br_f (by decide) (br_f (by decide) (br_f (by decide) (br_f (by decide) (br_f (by decide) (br_f (by decide) (br_f (by decide) ?_))))))))⟩
  exact hp
/-- a list has begun: state, question, count, first number -/
def tm_pre (t s q c n : Nat) (p : tm_P) : tm_P := tm_u (tm_u (tm_u (tm_v t s p) 21 t q) 22 t c) 23 (t * 4) n
theorem tm_pre_I {t s q c n : Nat} {p : tm_P} (h : tm_I p) (ht : t ≤ 1) (hs : s ≤ 3) (hq : q ≤ 1) (hc : c ≤ 5) (hn : n ≤ 99) : tm_I (tm_pre t s q c n p) :=
  tm_Iu (tm_Iu (tm_Iu (tm_v_I h ht hs) hq (by omega) (by omega) (by omega)) hc (by omega) (by omega) (by omega)) hn (by omega) (by omega) (by omega)
theorem tm_rd_list {t : Nat} {p : tm_P} (ht : t ≤ 1) (h20 : p 20 t = 1) (k : Bool) (post : St1 → Prop) (hp : post (tm_T k (tm_pre t 2 0 1 0 p))) : wpX_read post (tm_T k p) (nI t) 91 := by
  have c : (nI t).toNatClampNeg = t := tm_cl (by omega)
  have c4 : nI t * 4 = nI (t * 4) := pk_mul t 4
  have c20 : nI (p 20 (nI t).toNatClampNeg) = nI 1 := by rw [c, h20]
  refine ⟨tm_in2 ht, nm_r c20 ?_⟩
  refine tm_mn_list (k := k) (p := tm_u p 0 0 t) ?_
  refine br_f (by decide) (br_t rfl ⟨tm_in2 ht, nm_r (tm_up (tm_u p 0 0 t) 20 t 2 c (tm_b8 2 (by omega))) (br_f (by decide) (br_f (by decide) (br_t rfl ⟨tm_in2 ht, nm_r (tm_up (tm_v t 2 p) 21 t 0 c rfl) ⟨tm_in2 ht, nm_r (tm_up (tm_u (tm_v t 2 p) 21 t 0) 22 t 1 c rfl) ⟨?_, nm_r (tm_up (tm_u (tm_u (tm_v t 2 p) 21 t 0) 22 t 1) 23 (t * 4) 0 ?_ rfl) ?_⟩⟩⟩)))⟩)
  · rw [c4]; exact vp_in_nI (by omega) (by omega)
  · rw [c4]; exact tm_cl (by omega)
  · exact hp
theorem tm_rd_q {t : Nat} {p : tm_P} (ht : t ≤ 1) (h20 : p 20 t = 2) (k : Bool) (post : St1 → Prop) (hp : post (tm_T k (tm_u (tm_v t 3 p) 21 t 1))) : wpX_read post (tm_T k p) (nI t) 63 := by
  have c : (nI t).toNatClampNeg = t := tm_cl (by omega)
  have c20 : nI (p 20 (nI t).toNatClampNeg) = nI 2 := by rw [c, h20]
  refine ⟨tm_in2 ht, nm_r c20 ?_⟩
  refine tm_mn_q (k := k) (p := tm_u p 0 0 t) ?_
  refine br_f (by decide) (br_f (by decide) (br_f (by decide) (br_f (by decide) ⟨tm_in2 ht, nm_r (tm_up (tm_u p 0 0 t) 20 t 3 c (tm_b8 3 (by omega))) (br_f (by decide) (br_f (by decide) (br_f (by decide) (br_t rfl ⟨tm_in2 ht, nm_r (tm_up (tm_v t 3 p) 21 t 1 c rfl) ?_⟩))))⟩)))
  exact hp
theorem tm_addDigit {k : Bool} {p : tm_P} {post : St1 → Prop} {t d : Nat} (h : tm_I p) (h0 : p 0 0 = t) (hc : 1 ≤ p 22 t) (hc4 : p 22 t ≤ 4) (hd : d ≤ 9) (hv : 10 * p 23 (t * 4 + p 22 t - 1) + d ≤ 99)
    (hp : post (tm_T k (tm_u p 23 (t * 4 + p 22 t - 1) (10 * p 23 (t * 4 + p 22 t - 1) + d)))) : wpX_addDigit post (tm_T k p) (nI d) := by
  have c := tm_ac h h0
  have ht := tm_at h
  have e3 : nI (p 0 0) * 4 + nI (p 22 t) - 1 = nI (t * 4 + p 22 t - 1) := by
    show nI (p 0 0) * nI 4 + nI (p 22 t) - nI 1 = _
    rw [h0, pk_mul, nI_add, pk_sub (by omega)]
  have cl : (nI (t * 4 + p 22 t - 1)).toNatClampNeg = t * 4 + p 22 t - 1 := tm_cl (by omega)
  have i3 : vp_in (nI (t * 4 + p 22 t - 1)) 8 := vp_in_nI (by omega) (by omega)
  refine ⟨tm_in h, nm_r (e' := nI (p 22 t)) (congrArg (fun j => nI (p 22 j)) c) (pk_lt 4 (p 22 t) (fun z => absurd z (by omega)) (fun _ => nm_r e3 ⟨i3, nm_r (e' := nI (10 * p 23 (t * 4 + p 22 t - 1) + d)) ?_ (pk_le (10 * p 23 (t * 4 + p 22 t - 1) + d) 99 (fun _ => ⟨i3, nm_r (tm_up p 23 (t * 4 + p 22 t - 1) (10 * p 23 (t * 4 + p 22 t - 1) + d) cl (tm_b8 _ (by omega))) hp⟩) (fun z => absurd z (by omega)))⟩))⟩
  show nI 10 * nI (p 23 (nI (t * 4 + p 22 t - 1)).toNatClampNeg) + nI d = _
  rw [cl, pk_mul, nI_add]
theorem tm_rd_digit {t s d : Nat} {p : tm_P} (h : tm_I p) (ht : t ≤ 1) (hs : s = 2 ∨ s = 3) (h20 : p 20 t = s) (hd : d ≤ 9) (hc : 1 ≤ p 22 t) (hc4 : p 22 t ≤ 4) (hv : 10 * p 23 (t * 4 + p 22 t - 1) + d ≤ 99)
    (k : Bool) (post : St1 → Prop) (hp : post (tm_T k (tm_u (tm_v t 3 p) 23 (t * 4 + p 22 t - 1) (10 * p 23 (t * 4 + p 22 t - 1) + d)))) : wpX_read post (tm_T k p) (nI t) (nI (48 + d)) := by
  have c : (nI t).toNatClampNeg = t := tm_cl (by omega)
  have c20 : nI (p 20 (nI t).toNatClampNeg) = nI s := by rw [c, h20]
  refine ⟨tm_in2 ht, nm_r c20 ?_⟩
  refine tm_mn_digit (k := k) (p := tm_u p 0 0 t) hs (by omega) (by omega) ?_
  refine br_f (by decide) (br_f (by decide) (br_f (by decide) (br_f (by decide) ⟨tm_in2 ht, nm_r (tm_up (tm_u p 0 0 t) 20 t 3 c (tm_b8 3 (by omega))) (br_f (by decide) (br_f (by decide) (br_f (by decide) (br_f (by decide) (br_t rfl ?_)))))⟩)))
  rw [show nI (48 + d) - 48 = nI d from by
    show nI (48 + d) - nI 48 = nI d
    rw [pk_sub (by omega), show 48 + d - 48 = d by omega]]
  exact tm_addDigit (k := k) (p := tm_v t 3 p) (tm_v_I h ht (by omega)) rfl hc hc4 hd hv hp
theorem tm_nextNumber {k : Bool} {p : tm_P} {post : St1 → Prop} {t : Nat} (h : tm_I p) (h0 : p 0 0 = t) (hc : 1 ≤ p 22 t) (hc4 : p 22 t ≤ 3)
    (hp : post (tm_T k (tm_u (tm_u p 23 (t * 4 + p 22 t) 0) 22 t (p 22 t + 1)))) : wpX_nextNumber post (tm_T k p) := by
  have c := tm_ac h h0
  have ht := tm_at h
  have e3 : nI (p 0 0) * 4 + nI (p 22 t) = nI (t * 4 + p 22 t) := by
    show nI (p 0 0) * nI 4 + nI (p 22 t) = _
    rw [h0, pk_mul, nI_add]
  refine ⟨tm_in h, nm_r (e' := nI (p 22 t)) (congrArg (fun j => nI (p 22 j)) c) (pk_le 4 (p 22 t) (fun z => absurd z (by omega)) (fun _ => ⟨?_, nm_r (tm_up p 23 (t * 4 + p 22 t) 0 ?_ rfl) (pk_le 5 (p 22 t) (fun z => absurd z (by omega)) (fun _ => ⟨tm_in h, nm_r (tm_up (tm_u p 23 (t * 4 + p 22 t) 0) 22 t (p 22 t + 1) c ?_) hp⟩))⟩))⟩
  · rw [e3]; exact vp_in_nI (by omega) (by omega)
  · rw [e3]; exact tm_cl (by omega)
  · rw [nI_1]; exact tm_b8 _ (by omega)
theorem tm_rd_next {t s : Nat} {p : tm_P} (h : tm_I p) (ht : t ≤ 1) (hs : s = 2 ∨ s = 3) (h20 : p 20 t = s) (hc : 1 ≤ p 22 t) (hc4 : p 22 t ≤ 3)
    (k : Bool) (post : St1 → Prop) (hp : post (tm_T k (tm_u (tm_u (tm_v t 3 p) 23 (t * 4 + p 22 t) 0) 22 t (p 22 t + 1)))) : wpX_read post (tm_T k p) (nI t) 59 := by
  have c : (nI t).toNatClampNeg = t := tm_cl (by omega)
  have c20 : nI (p 20 (nI t).toNatClampNeg) = nI s := by rw [c, h20]
  refine ⟨tm_in2 ht, nm_r c20 ?_⟩
  refine tm_mn_next (k := k) (p := tm_u p 0 0 t) hs ?_
  refine br_f (by decide) (br_f (by decide) (br_f (by decide) (br_f (by decide) ⟨tm_in2 ht, nm_r (tm_up (tm_u p 0 0 t) 20 t 3 c (tm_b8 3 (by omega))) (br_f (by decide) (br_f (by decide) (br_f (by decide) (br_f (by decide) (br_f (by decide) (br_t rfl ?_))))))⟩)))
  exact tm_nextNumber (k := k) (p := tm_v t 3 p) (tm_v_I h ht (by omega)) rfl hc hc4 hp
/-! lists: the pictures between -/
theorem tm_pre_v (t s q c n s' : Nat) (p : tm_P) : tm_pre t 2 0 1 0 (tm_v t s' (tm_pre t s q c n p)) = tm_pre t 2 0 1 0 p := by
  funext g i
  simp only [tm_pre, tm_v, tm_ue]
  grind
theorem tm_pre_v0 (t s' : Nat) (p : tm_P) : tm_pre t 2 0 1 0 (tm_v t s' p) = tm_pre t 2 0 1 0 p := by
  funext g i
  simp only [tm_pre, tm_v, tm_ue]
  grind
theorem tm_pre_d (t s q c n m : Nat) (p : tm_P) : tm_u (tm_v t 3 (tm_pre t s q c n p)) 23 (t * 4) m = tm_pre t 3 q c m p := by
  funext g i
  simp only [tm_pre, tm_v, tm_ue]
  grind
theorem tm_pre_q (t s q c n q' : Nat) (p : tm_P) : tm_u (tm_v t 3 (tm_pre t s q c n p)) 21 t q' = tm_pre t 3 q' c n p := by
  funext g i
  simp only [tm_pre, tm_v, tm_ue]
  grind
end
section
/-- between two acts of the law -/
def tm_L (p : tm_P) : Prop := tm_I p ∧ p 20 0 = 0 ∧ p 20 1 = 0
theorem tm_L_R {p p' q : tm_P} (h : tm_L p) (r : tm_R 0 q p') (h20 : q 20 0 = 0) (h21 : q 20 1 = p 20 1) : tm_L p' :=
  ⟨r.1, (r.2.2.1 20 0 (by omega) (by omega)).trans h20, (r.2.2.1 20 1 (by omega) (by omega)).trans (h21.trans h.2.2)⟩
theorem tm_fed_sign {p : tm_P} {s : Nat} (h : tm_L p) (hs : 32 ≤ s ∧ s ≤ 62) :
    ∃ p', tm_L p' ∧ ∀ (k : Bool) (post : St1 → Prop), post (tm_T k p') → wpX_read post (tm_T k p) (nI 0) (nI (tm_f k s)) := by
  obtain ⟨p', r, run⟩ := tm_putSign hs (tm_v_I h.1 (t := 0) (s := 0) (by omega) (by omega)) (t := 0) rfl
  exact ⟨p', tm_L_R h r rfl rfl, tm_rd_sign (by omega) h.2.1 hs run⟩
theorem tm_fed_ctl {p : tm_P} {b : Nat} (h : tm_L p) (hb : b = 8 ∨ b = 10 ∨ b = 13) :
    ∃ p', tm_L p' ∧ ∀ (k : Bool) (post : St1 → Prop), post (tm_T k p') → wpX_read post (tm_T k p) (nI 0) (nI b) := by
  obtain ⟨p', r, run⟩ := tm_control hb (tm_v_I h.1 (t := 0) (s := 0) (by omega) (by omega)) (t := 0) rfl
  exact ⟨p', tm_L_R h r.1 rfl rfl, tm_rd_ctl (by omega) h.2.1 (by omega) (by omega) run⟩
theorem tm_fed_short {p : tm_P} {b : Nat} (h : tm_L p) (hb : b = 55 ∨ b = 56 ∨ b = 69 ∨ b = 77) :
    ∃ p', tm_L p' ∧ ∀ (k : Bool) (post : St1 → Prop), post (tm_T k p') → wpX_read post (tm_T k (tm_v 0 1 p)) (nI 0) (nI b) := by
  obtain ⟨p', r, run⟩ := tm_short hb (tm_v_I (tm_v_I h.1 (t := 0) (s := 1) (by omega) (by omega)) (t := 0) (s := 0) (by omega) (by omega)) (t := 0) rfl
  exact ⟨p', tm_L_R h r rfl rfl, tm_rd_short (by omega) rfl (by omega) (by omega) (by omega) run⟩
theorem tm_fed_last {p : tm_P} {b n : Nat} (h : tm_L p) (hn : n ≤ 99) (hb : 64 ≤ b ∧ b ≤ 72 ∨ 74 ≤ b ∧ b ≤ 77 ∨ b = 80 ∨ b = 83 ∨ b = 84 ∨ b = 88) :
    ∃ p', tm_L p' ∧ ∀ (k : Bool) (post : St1 → Prop), post (tm_T k p') → wpX_read post (tm_T k (tm_pre 0 3 0 1 n p)) (nI 0) (nI b) := by
  have hi := tm_pre_I (t := 0) (s := 3) (q := 0) (c := 1) (n := n) h.1 (by omega) (by omega) (by omega) (by omega) hn
  obtain ⟨p', r, run⟩ := tm_last (m := n) hb (tm_v_I hi (t := 0) (s := 0) (by omega) (by omega)) (t := 0) rfl rfl (Nat.le_refl 1) rfl
  exact ⟨p', tm_L_R h r.1 rfl rfl, tm_rd_last (s := 3) (by omega) (by omega) rfl (by omega) (by omega) run⟩
theorem tm_fed_lastQ {p : tm_P} {b n : Nat} (h : tm_L p) (hn : n ≤ 99) (hb : b = 104 ∨ b = 108) :
    ∃ p', tm_L p' ∧ ∀ (k : Bool) (post : St1 → Prop), post (tm_T k p') → wpX_read post (tm_T k (tm_pre 0 3 1 1 n p)) (nI 0) (nI b) := by
  have hi := tm_pre_I (t := 0) (s := 3) (q := 1) (c := 1) (n := n) h.1 (by omega) (by omega) (by omega) (by omega) hn
  obtain ⟨p', r, run⟩ := tm_lastQ hb (tm_v_I hi (t := 0) (s := 0) (by omega) (by omega)) rfl rfl
  exact ⟨p', tm_L_R h r rfl rfl, tm_rd_last (s := 3) (by omega) (by omega) rfl (by omega) (by omega) run⟩
theorem tm_fed_digit {p : tm_P} {s q d n : Nat} (h : tm_L p) (hs : s = 2 ∨ s = 3) (hq : q ≤ 1) (hd : d ≤ 9) (hn : 10 * n + d ≤ 99) (k : Bool) (post : St1 → Prop) (hp : post (tm_T k (tm_pre 0 3 q 1 (10 * n + d) p))) :
    wpX_read post (tm_T k (tm_pre 0 s q 1 n p)) (nI 0) (nI (48 + d)) := by
  have hi := tm_pre_I (t := 0) (s := s) (q := q) (c := 1) (n := n) h.1 (by omega) (by omega) (by omega) (by omega) (by omega)
  rw [← tm_pre_d 0 s q 1 n (10 * n + d) p] at hp
  exact tm_rd_digit (t := 0) (s := s) (d := d) hi (by omega) hs rfl hd (Nat.le_refl 1) (by show (1 : Nat) ≤ 4; omega) hn k post hp
/-! feed, feedThree -/
theorem tm_feed {k : Bool} {p p' : tm_P} {b : Nat} (hb : b ≤ 127) (run : ∀ post : St1 → Prop, post (tm_T k p') → wpX_read post (tm_T k p) (nI 0) (nI b)) :
    ∀ post : Int32 → St1 → Prop, post 1 (tm_T k p') → wpX_feed post (tm_T k p) (nI b) := by
  intro post hp
  exact pk_lt b 0 (fun z => absurd z (by omega)) (fun _ => pk_le b 127 (fun _ => run _ hp) (fun z => absurd z (by omega)))
theorem tm_feedThree {k : Bool} {p p1 p2 p3 : tm_P} {x : Int32} {b1 b2 b3 : Nat} (h0 : ¬ x < 0) (h1 : x ≤ 2097151) (e1 : x &&& 127 = nI b1) (e2 : (x >>> ((7 : Int32) &&& 31)) &&& 127 = nI b2) (e3 : x >>> ((14 : Int32) &&& 31) = nI b3)
    (run1 : ∀ post : St1 → Prop, post (tm_T k p1) → wpX_read post (tm_T k p) (nI 0) (nI b1)) (run2 : ∀ post : St1 → Prop, post (tm_T k p2) → wpX_read post (tm_T k p1) (nI 0) (nI b2))
    (run3 : ∀ post : St1 → Prop, post (tm_T k p3) → wpX_read post (tm_T k p2) (nI 0) (nI b3)) :
    ∀ post : Int32 → St1 → Prop, post 1 (tm_T k p3) → wpX_feedThree post (tm_T k p) x := by
  intro post hp
  refine br_f h0 (br_t h1 ?_)
  rw [e1, e2, e3]
  exact run1 _ (run2 _ (run3 _ hp))
/-- ESC [ digit -/
theorem tm_three {k : Bool} {p : tm_P} {d : Nat} {x : Int32} (h : tm_L p) (hd : d ≤ 9) (h0 : ¬ x < 0) (h1 : x ≤ 2097151) (e1 : x &&& 127 = nI 27) (e2 : (x >>> ((7 : Int32) &&& 31)) &&& 127 = nI 91) (e3 : x >>> ((14 : Int32) &&& 31) = nI (48 + d)) :
    ∀ post : Int32 → St1 → Prop, post 1 (tm_T k (tm_pre 0 3 0 1 d p)) → wpX_feedThree post (tm_T k p) x := by
  refine tm_feedThree (p1 := tm_v 0 1 p) (p2 := tm_pre 0 2 0 1 0 p) h0 h1 e1 e2 e3 (fun post hp => tm_rd_esc (t := 0) (by omega) k post hp) (fun post hp => ?_) (fun post hp => ?_)
  · rw [← tm_pre_v0 0 1 p] at hp
    exact tm_rd_list (t := 0) (by omega) rfl k post hp
  · exact tm_fed_digit h (Or.inl rfl) (by omega) hd (by omega) k post (by rw [show 10 * 0 + d = d by omega]; exact hp)
/-- ESC [ digit, behind ESC [ digit -/
theorem tm_three' {k : Bool} {p : tm_P} {d e : Nat} {x : Int32} (h : tm_L p) (hd : d ≤ 9) (h0 : ¬ x < 0) (h1 : x ≤ 2097151) (e1 : x &&& 127 = nI 27) (e2 : (x >>> ((7 : Int32) &&& 31)) &&& 127 = nI 91) (e3 : x >>> ((14 : Int32) &&& 31) = nI (48 + d)) :
    ∀ post : Int32 → St1 → Prop, post 1 (tm_T k (tm_pre 0 3 0 1 d p)) → wpX_feedThree post (tm_T k (tm_pre 0 3 0 1 e p)) x := by
  refine tm_feedThree (p1 := tm_v 0 1 (tm_pre 0 3 0 1 e p)) (p2 := tm_pre 0 2 0 1 0 p) h0 h1 e1 e2 e3 (fun post hp => tm_rd_esc (t := 0) (by omega) k post hp) (fun post hp => ?_) (fun post hp => ?_)
  · rw [← tm_pre_v 0 3 0 1 e 1 p] at hp
    exact tm_rd_list (t := 0) (by omega) rfl k post hp
  · exact tm_fed_digit h (Or.inl rfl) (by omega) hd (by omega) k post (by rw [show 10 * 0 + d = d by omega]; exact hp)
/-- ESC [ ? -/
theorem tm_threeQ {k : Bool} {p : tm_P} :
    ∀ post : Int32 → St1 → Prop, post 1 (tm_T k (tm_pre 0 3 1 1 0 p)) → wpX_feedThree post (tm_T k p) 1043867 := by
  refine tm_feedThree (b1 := 27) (b2 := 91) (b3 := 63) (p1 := tm_v 0 1 p) (p2 := tm_pre 0 2 0 1 0 p) (by decide) (by decide) (by decide) (by decide) (by decide) (fun post hp => tm_rd_esc (t := 0) (by omega) k post hp) (fun post hp => ?_) (fun post hp => ?_)
  · rw [← tm_pre_v0 0 1 p] at hp
    exact tm_rd_list (t := 0) (by omega) rfl k post hp
  · rw [← tm_pre_q 0 2 0 1 0 1 p] at hp
    exact tm_rd_q (t := 0) (by omega) rfl k post hp
theorem tm_b3 : ∀ n, n < 8 → ¬ ((11675 : Int32) + 16384 * (48 + nI n) < 0) ∧ (11675 : Int32) + 16384 * (48 + nI n) ≤ 2097151 ∧ ((11675 : Int32) + 16384 * (48 + nI n)) &&& 127 = nI 27 ∧ (((11675 : Int32) + 16384 * (48 + nI n)) >>> ((7 : Int32) &&& 31)) &&& 127 = nI 91 ∧ ((11675 : Int32) + 16384 * (48 + nI n)) >>> ((14 : Int32) &&& 31) = nI (48 + n) := by decide +kernel
/-! both objects -/
def tm_T2 (p q : tm_P) : St3 := ((nI (p 0 0)), (nI (p 25 0)), (nI (p 26 0)), (fun i => nI (tm_f false (p 1 i))), (fun i => nI (p 2 i)), (fun i => nI (p 3 i)), (fun i => nI (p 4 i)), (fun i => nI (p 5 i)), (fun i => nI (p 6 i)), (fun i => nI (p 7 i)), (fun i => nI (p 8 i)), (fun i => nI (p 9 i)), (fun i => nI (p 10 i)), (fun i => nI (p 11 i)), (fun i => nI (p 12 i)), (fun i => nI (p 13 i)), (fun i => nI (p 14 i)), (fun i => nI (p 15 i)), (fun i => nI (p 16 i)), (fun i => nI (p 17 i)), (fun i => nI (p 18 i)), (fun i => nI (p 19 i)), (fun i => nI (p 20 i)), (fun i => nI (p 21 i)), (fun i => nI (p 22 i)), (fun i => nI (p 23 i)), (fun i => nI (tm_f false (p 24 i))), (nI (q 0 0)), (nI (q 25 0)), (nI (q 26 0)), (fun i => nI (tm_f true (q 1 i))), (fun i => nI (q 2 i)), (fun i => nI (q 3 i)), (fun i => nI (q 4 i)), (fun i => nI (q 5 i)), (fun i => nI (q 6 i)), (fun i => nI (q 7 i)), (fun i => nI (q 8 i)), (fun i => nI (q 9 i)), (fun i => nI (q 10 i)), (fun i => nI (q 11 i)), (fun i => nI (q 12 i)), (fun i => nI (q 13 i)), (fun i => nI (q 14 i)), (fun i => nI (q 15 i)), (fun i => nI (q 16 i)), (fun i => nI (q 17 i)), (fun i => nI (q 18 i)), (fun i => nI (q 19 i)), (fun i => nI (q 20 i)), (fun i => nI (q 21 i)), (fun i => nI (q 22 i)), (fun i => nI (q 23 i)), (fun i => nI (tm_f true (q 24 i))))
theorem tm_seq {p : tm_P} {n b z : Nat} (h : tm_L p) (hn : n ≤ 7) (hb : 64 ≤ b ∧ b ≤ 72 ∨ 74 ≤ b ∧ b ≤ 77 ∨ b = 80 ∨ b = 83 ∨ b = 84 ∨ b = 88) (hz : z ≤ 1) :
    ∃ p', tm_L p' ∧ ∀ post : St3 → Prop, post (tm_T2 p' p') → wpL_sequence post (tm_T2 p p) (nI n) (nI b) (nI z) := by
  obtain ⟨p', r, run⟩ := tm_fed_last (n := n) h (by omega) hb
  refine ⟨p', r, fun post hp => ?_⟩
  have B := tm_b3 n (by omega)
  have q35 : ∀ p0 : tm_P, (p0 = p ∨ p0 = tm_pre 0 3 0 1 9 p) → wL_sequence_35 post (nI n) (nI b) (nI (p' 0 0)) (nI (p' 25 0)) (nI (p' 26 0)) (fun i => nI (tm_f false (p' 1 i))) (fun i => nI (p' 2 i)) (fun i => nI (p' 3 i)) (fun i => nI (p' 4 i)) (fun i => nI (p' 5 i)) (fun i => nI (p' 6 i)) (fun i => nI (p' 7 i)) (fun i => nI (p' 8 i)) (fun i => nI (p' 9 i)) (fun i => nI (p' 10 i)) (fun i => nI (p' 11 i)) (fun i => nI (p' 12 i)) (fun i => nI (p' 13 i)) (fun i => nI (p' 14 i)) (fun i => nI (p' 15 i)) (fun i => nI (p' 16 i)) (fun i => nI (p' 17 i)) (fun i => nI (p' 18 i)) (fun i => nI (p' 19 i)) (fun i => nI (p' 20 i)) (fun i => nI (p' 21 i)) (fun i => nI (p' 22 i)) (fun i => nI (p' 23 i)) (fun i => nI (tm_f false (p' 24 i))) (nI (p0 0 0)) (nI (p0 25 0)) (nI (p0 26 0)) (fun i => nI (tm_f true (p0 1 i))) (fun i => nI (p0 2 i)) (fun i => nI (p0 3 i)) (fun i => nI (p0 4 i)) (fun i => nI (p0 5 i)) (fun i => nI (p0 6 i)) (fun i => nI (p0 7 i)) (fun i => nI (p0 8 i)) (fun i => nI (p0 9 i)) (fun i => nI (p0 10 i)) (fun i => nI (p0 11 i)) (fun i => nI (p0 12 i)) (fun i => nI (p0 13 i)) (fun i => nI (p0 14 i)) (fun i => nI (p0 15 i)) (fun i => nI (p0 16 i)) (fun i => nI (p0 17 i)) (fun i => nI (p0 18 i)) (fun i => nI (p0 19 i)) (fun i => nI (p0 20 i)) (fun i => nI (p0 21 i)) (fun i => nI (p0 22 i)) (fun i => nI (p0 23 i)) (fun i => nI (tm_f true (p0 24 i))) := by
    intro p0 hp0
    have three : ∀ post : Int32 → St1 → Prop, post 1 (tm_T true (tm_pre 0 3 0 1 0 p)) → wpX_feedThree post (tm_T true p0) 798107 := by
      rcases hp0 with e | e
      · subst e; exact tm_three (d := 0) h (by omega) (by decide) (by decide) (by decide) (by decide) (by decide)
      · subst e; exact tm_three' (d := 0) h (by omega) (by decide) (by decide) (by decide) (by decide) (by decide)
    refine three _ ?_
    show wpX_feed _ (tm_T true (tm_pre 0 3 0 1 0 p)) (nI 48 + nI n)
    rw [nI_add]
    refine tm_feed (p' := tm_pre 0 3 0 1 n p) (by omega) (fun post hp => tm_fed_digit h (Or.inr rfl) (by omega) (by omega) (by omega) true post (by rw [show 10 * 0 + n = n by omega]; exact hp)) _ ?_
    exact tm_feed (by omega) (run true) _ hp
  unfold wpL_sequence tm_T2
  dsimp only
  refine tm_three (k := false) (p := p) (d := n) h (by omega) B.1 B.2.1 B.2.2.1 B.2.2.2.1 B.2.2.2.2 _ ?_
  refine tm_feed (k := false) (by omega) (run false) _ ?_
  refine pk_eq z 0 (fun _ => q35 p (Or.inl rfl)) (fun _ => ?_)
  exact tm_three (k := true) (p := p) (d := 9) h (by omega) (by decide) (by decide) (by decide) (by decide) (by decide) _ (q35 _ (Or.inr rfl))
end
section
/-! terminal 1 is sent bytes -/
theorem tm_send {k : Bool} {p p' : tm_P} {x : Int32} (run : ∀ post : St1 → Prop, post (tm_T k p') → wpX_read post (tm_T k p) (nI 1) x) : ∀ post : St1 → Prop, post (tm_T k p') → wpX_send post (tm_T k p) x := by
  intro post hp
  exact run _ hp
theorem tm_vv (x : tm_P) (j a b : Nat) : tm_u (tm_v 1 3 (tm_u (tm_v 1 3 x) 23 j a)) 23 j b = tm_u (tm_v 1 3 x) 23 j b := by
  funext g i
  simp only [tm_v, tm_ue]
  grind
theorem tm_sendDigit {k : Bool} {x : tm_P} {s d j v : Nat} (h : tm_I x) (hs : s = 2 ∨ s = 3) (h20 : x 20 1 = s) (hc : 1 ≤ x 22 1) (hc4 : x 22 1 ≤ 4) (hj : 1 * 4 + x 22 1 - 1 = j) (hd : d ≤ 9) (hv : 10 * x 23 j + d = v) (hv9 : v ≤ 99) :
    ∀ post : St1 → Prop, post (tm_T k (tm_u (tm_v 1 3 x) 23 j v)) → wpX_send post (tm_T k x) (nI (48 + d)) := by
  subst hv; subst hj
  exact tm_send (fun post hp => tm_rd_digit (t := 1) h (by omega) hs h20 hd hc hc4 hv9 k post hp)
theorem tm_sendNumber {k : Bool} {x : tm_P} {s n j : Nat} (h : tm_I x) (hs : s = 2 ∨ s = 3) (h20 : x 20 1 = s) (hc : 1 ≤ x 22 1) (hc4 : x 22 1 ≤ 4) (hj : 1 * 4 + x 22 1 - 1 = j) (hz : x 23 j = 0) (hn : n ≤ 99) :
    ∀ post : St1 → Prop, post (tm_T k (tm_u (tm_v 1 3 x) 23 j n)) → wpX_sendNumber post (tm_T k x) (nI n) := by
  intro post hp
  have er : nI n - nI n / 10 * 10 = nI (n % 10) := pk_rem (d := 10) (by omega) (by omega) (by omega)
  have ed : nI n / 10 = nI (n / 10) := pk_div (d := 10) (by omega) (by omega) (by omega)
  refine pk_lt n 10 (fun z => ⟨by decide, ?_⟩) (fun z => ⟨by decide, ?_⟩)
  · show wpX_send _ (tm_T k x) (nI 48 + (nI n - nI n / 10 * 10))
    rw [er, nI_add]
    exact tm_sendDigit h hs h20 hc hc4 hj (by omega) (by rw [hz]; omega) hn _ hp
  · show wpX_send _ (tm_T k x) (nI 48 + nI n / 10)
    rw [ed, nI_add]
    refine tm_sendDigit (v := n / 10) h hs h20 hc hc4 hj (by omega) (by rw [hz]; omega) (by omega) _ ?_
    have hI : tm_I (tm_u (tm_v 1 3 x) 23 j (n / 10)) := tm_Iu (tm_v_I h (by omega) (by omega)) (by show n / 10 ≤ 99; omega) (by omega) (by omega) (by omega)
    refine ⟨by decide, ?_⟩
    show wpX_send _ (tm_T k (tm_u (tm_v 1 3 x) 23 j (n / 10))) (nI 48 + (nI n - nI n / 10 * 10))
    rw [er, nI_add]
    refine tm_sendDigit (s := 3) (j := j) (v := n) hI (by omega) rfl hc hc4 hj (by omega) ?_ hn _ ?_
    · rw [tm_uS]; omega
    · rw [tm_vv]; exact hp
/-- ESC [ -/
theorem tm_sendE {k : Bool} {p : tm_P} : ∀ post : St1 → Prop, post (tm_T k (tm_v 1 1 p)) → wpX_send post (tm_T k p) 27 :=
  tm_send (fun post hp => tm_rd_esc (t := 1) (by omega) k post hp)
theorem tm_sendB {k : Bool} {p : tm_P} : ∀ post : St1 → Prop, post (tm_T k (tm_pre 1 2 0 1 0 p)) → wpX_send post (tm_T k (tm_v 1 1 p)) 91 := by
  refine tm_send (fun post hp => ?_)
  rw [← tm_pre_v0 1 1 p] at hp
  exact tm_rd_list (t := 1) (by omega) rfl k post hp
/-- terminal 1 is at rest, terminal 0 as it was -/
def tm_S (p p' : tm_P) : Prop := tm_I p' ∧ p' 20 1 = 0 ∧ tm_Z p p'
theorem tm_S_t {p q r : tm_P} (h : tm_S p q) (g : tm_S q r) : tm_S p r := ⟨g.1, g.2.1, tm_Z_t h.2.2 g.2.2⟩
theorem tm_S_r {p : tm_P} (h : tm_I p) (h20 : p 20 1 = 0) : tm_S p p := ⟨h, h20, tm_Z_r p⟩
/-- .. and only its cursor moved -/
def tm_M (p p' : tm_P) (r c : Nat) : Prop := tm_S p p' ∧ (∀ i, p' 1 i = p 1 i) ∧ (∀ i, p' 3 i = p 3 i) ∧ p' 12 1 = p 12 1 ∧ p' 4 1 = r ∧ p' 5 1 = c ∧ p' 6 1 = 0
/-- a sequence with one number -/
theorem tm_sendOne {p : tm_P} {n b : Nat} (h : tm_I p) (h1 : 1 ≤ n) (h2 : n ≤ 99) (hb : 64 ≤ b ∧ b ≤ 72 ∨ 74 ≤ b ∧ b ≤ 77 ∨ b = 80 ∨ b = 83 ∨ b = 84 ∨ b = 88) :
    ∃ p', (tm_S p p' ∧ (b = 67 → tm_M p p' (p 4 1) (min (p 5 1 + n) 11)) ∧ (b = 68 → tm_M p p' (p 4 1) (p 5 1 - n))
      ∧ (b = 64 ∨ b = 80 → (∀ i, ¬ (tm_l p 1 (p 4 1) + p 5 1 ≤ i ∧ i < tm_l p 1 (p 4 1) + 12) → p' 1 i = p 1 i) ∧ (∀ i, p' 3 i = p 3 i) ∧ p' 12 1 = p 12 1)) ∧
      ∀ (k : Bool) (post : St1 → Prop), post (tm_T k p') → wpX_sendOne post (tm_T k p) (nI n) (nI b) := by
  by_cases e1 : n = 1
  · have hA := tm_pre_I (t := 1) (s := 2) (q := 0) (c := 1) (n := 0) h (by omega) (by omega) (by omega) (by omega) (by omega)
    obtain ⟨p', ⟨r, s67, s68, s72, s75, s64⟩, run⟩ := tm_last (b := b) (m := 0) hb (tm_v_I hA (t := 1) (s := 0) (by omega) (by omega)) (t := 1) rfl rfl (Nat.le_refl 1) rfl
    have hn1 : tm_n1 0 = n := by unfold tm_n1; rw [if_pos rfl, e1]
    have hS : tm_S p p' := ⟨r.1, r.2.2.1 20 1 (by omega) (by omega), r.2.2.2 rfl⟩
    refine ⟨p', ⟨hS, fun e => ?_, fun e => ?_, fun e => ?_⟩, fun k post hp => ?_⟩
    · have := s67 e
      rw [hn1] at this
      subst this
      exact ⟨hS, fun i => rfl, fun i => rfl, rfl, rfl, rfl, rfl⟩
    · have := s68 e
      rw [hn1] at this
      subst this
      exact ⟨hS, fun i => rfl, fun i => rfl, rfl, rfl, rfl, rfl⟩
    · have := s64 e
      exact ⟨fun i hi => this.2 1 i (fun z => hi z.2), fun i => this.2 3 i (by omega), this.2 12 1 (by omega)⟩
    · unfold wpX_sendOne tm_T
      dsimp only
      refine tm_sendE (k := k) (p := p) _ ?_
      refine tm_sendB (k := k) (p := p) _ ?_
      refine pk_eq n 1 (fun _ => ?_) (fun z => absurd e1 z)
      exact tm_send (fun post hp => tm_rd_last (t := 1) (s := 2) (by omega) (by omega) rfl (by omega) (by omega) run k post hp) _ hp
  · have hA := tm_pre_I (t := 1) (s := 3) (q := 0) (c := 1) (n := n) h (by omega) (by omega) (by omega) (by omega) (by omega)
    have hO := tm_pre_I (t := 1) (s := 2) (q := 0) (c := 1) (n := 0) h (by omega) (by omega) (by omega) (by omega) (by omega)
    obtain ⟨p', ⟨r, s67, s68, s72, s75, s64⟩, run⟩ := tm_last (b := b) (m := n) hb (tm_v_I hA (t := 1) (s := 0) (by omega) (by omega)) (t := 1) rfl rfl (Nat.le_refl 1) rfl
    have hn1 : tm_n1 n = n := by unfold tm_n1; rw [if_neg (by omega)]
    have hS : tm_S p p' := ⟨r.1, r.2.2.1 20 1 (by omega) (by omega), r.2.2.2 rfl⟩
    refine ⟨p', ⟨hS, fun e => ?_, fun e => ?_, fun e => ?_⟩, fun k post hp => ?_⟩
    · have := s67 e
      rw [hn1] at this
      subst this
      exact ⟨hS, fun i => rfl, fun i => rfl, rfl, rfl, rfl, rfl⟩
    · have := s68 e
      rw [hn1] at this
      subst this
      exact ⟨hS, fun i => rfl, fun i => rfl, rfl, rfl, rfl, rfl⟩
    · have := s64 e
      exact ⟨fun i hi => this.2 1 i (fun z => hi z.2), fun i => this.2 3 i (by omega), this.2 12 1 (by omega)⟩
    · unfold wpX_sendOne tm_T
      dsimp only
      refine tm_sendE (k := k) (p := p) _ ?_
      refine tm_sendB (k := k) (p := p) _ ?_
      refine pk_eq n 1 (fun z => absurd z e1) (fun _ => ?_)
      refine tm_sendNumber (k := k) (x := tm_pre 1 2 0 1 0 p) (s := 2) (n := n) (j := 4) hO (by omega) rfl (Nat.le_refl 1) (by show (1 : Nat) ≤ 4; omega) rfl rfl h2 _ ?_
      rw [show tm_u (tm_v 1 3 (tm_pre 1 2 0 1 0 p)) 23 4 n = tm_pre 1 3 0 1 n p from tm_pre_d 1 2 0 1 0 n p]
      exact tm_send (fun post hp => tm_rd_last (t := 1) (s := 3) (by omega) (by omega) rfl (by omega) (by omega) run k post hp) _ hp
/-- ESC [ row ; column H -/
theorem tm_sendH {p : tm_P} {r c : Nat} (h : tm_I p) (hr : r ≤ 5) (hc : c ≤ 11) :
    ∃ p', tm_M p p' r c ∧ ∀ (k : Bool) (x1 x2 x3 : Int32) (post : St1 → Prop), x1 = nI r → x2 = nI c → post (tm_T k p') → wX_sendMove_105 post x1 x2 x3 0 (nI (p 0 0)) (nI (p 25 0)) (nI (p 26 0)) (fun i => nI (tm_f k (p 1 i))) (fun i => nI (p 2 i)) (fun i => nI (p 3 i)) (fun i => nI (p 4 i)) (fun i => nI (p 5 i)) (fun i => nI (p 6 i)) (fun i => nI (p 7 i)) (fun i => nI (p 8 i)) (fun i => nI (p 9 i)) (fun i => nI (p 10 i)) (fun i => nI (p 11 i)) (fun i => nI (p 12 i)) (fun i => nI (p 13 i)) (fun i => nI (p 14 i)) (fun i => nI (p 15 i)) (fun i => nI (p 16 i)) (fun i => nI (p 17 i)) (fun i => nI (p 18 i)) (fun i => nI (p 19 i)) (fun i => nI (p 20 i)) (fun i => nI (p 21 i)) (fun i => nI (p 22 i)) (fun i => nI (p 23 i)) (fun i => nI (tm_f k (p 24 i))) := by
  have hA := tm_pre_I (t := 1) (s := 2) (q := 0) (c := 1) (n := 0) h (by omega) (by omega) (by omega) (by omega) (by omega)
  have hB := tm_pre_I (t := 1) (s := 3) (q := 0) (c := 1) (n := r + 1) h (by omega) (by omega) (by omega) (by omega) (by omega)
  have hC : tm_I (tm_u (tm_u (tm_v 1 3 (tm_pre 1 3 0 1 (r + 1) p)) 23 5 0) 22 1 2) := tm_Iu (tm_Iu (tm_v_I hB (by omega) (by omega)) (by show (0 : Nat) ≤ 99; omega) (by omega) (by omega) (by omega)) (by show (2 : Nat) ≤ 5; omega) (by omega) (by omega) (by omega)
  have hD : tm_I (tm_u (tm_v 1 3 (tm_u (tm_u (tm_v 1 3 (tm_pre 1 3 0 1 (r + 1) p)) 23 5 0) 22 1 2)) 23 5 (c + 1)) := tm_Iu (tm_v_I hC (by omega) (by omega)) (by show c + 1 ≤ 99; omega) (by omega) (by omega) (by omega)
  obtain ⟨p', ⟨R, s67, s68, s72, s75, s64⟩, run⟩ := tm_last (b := 72) (m := r + 1) (by omega) (tm_v_I hD (t := 1) (s := 0) (by omega) (by omega)) (t := 1) rfl rfl (show 1 ≤ 2 by omega) rfl
  have hS : tm_S p p' := ⟨R.1, R.2.2.1 20 1 (by omega) (by omega), R.2.2.2 rfl⟩
  have e := s72 rfl
  have en : min (tm_n1 (r + 1) - 1) 5 = r := by unfold tm_n1; rw [if_neg (by omega)]; omega
  have eq : tm_q (tm_v 1 0 (tm_u (tm_v 1 3 (tm_u (tm_u (tm_v 1 3 (tm_pre 1 3 0 1 (r + 1) p)) 23 5 0) 22 1 2)) 23 5 (c + 1))) 1 = c + 1 := rfl
  rw [en, eq, if_neg (by omega), show min (c + 1 - 1) 11 = c by omega] at e
  refine ⟨p', ⟨hS, ?_⟩, fun k x1 x2 x3 post ex1 ex2 hp => ?_⟩
  · subst e
    exact ⟨fun i => rfl, fun i => rfl, rfl, rfl, rfl, rfl⟩
  · subst ex1; subst ex2
    refine br_t rfl ?_
    refine tm_sendE (k := k) (p := p) _ ?_
    refine tm_sendB (k := k) (p := p) _ ?_
    show wpX_sendNumber _ (tm_T k (tm_pre 1 2 0 1 0 p)) (nI r + 1)
    rw [nI_1 r]
    refine tm_sendNumber (k := k) (x := tm_pre 1 2 0 1 0 p) (s := 2) (n := r + 1) (j := 4) hA (by omega) rfl (Nat.le_refl 1) (by show (1 : Nat) ≤ 4; omega) rfl rfl (by omega) _ ?_
    rw [show tm_u (tm_v 1 3 (tm_pre 1 2 0 1 0 p)) 23 4 (r + 1) = tm_pre 1 3 0 1 (r + 1) p from tm_pre_d 1 2 0 1 0 (r + 1) p]
    refine tm_send (k := k) (p := tm_pre 1 3 0 1 (r + 1) p) (p' := tm_u (tm_u (tm_v 1 3 (tm_pre 1 3 0 1 (r + 1) p)) 23 5 0) 22 1 2) (fun post hp => tm_rd_next (t := 1) (s := 3) hB (by omega) (by omega) rfl (Nat.le_refl 1) (by show (1 : Nat) ≤ 3; omega) k post hp) _ ?_
    show wpX_sendNumber _ (tm_T k (tm_u (tm_u (tm_v 1 3 (tm_pre 1 3 0 1 (r + 1) p)) 23 5 0) 22 1 2)) (nI c + 1)
    rw [nI_1 c]
    refine tm_sendNumber (k := k) (x := tm_u (tm_u (tm_v 1 3 (tm_pre 1 3 0 1 (r + 1) p)) 23 5 0) 22 1 2) (s := 3) (n := c + 1) (j := 5) hC (by omega) rfl (by show (1 : Nat) ≤ 2; omega) (by show (2 : Nat) ≤ 4; omega) rfl rfl (by omega) _ ?_
    exact tm_send (fun post hp => tm_rd_last (t := 1) (s := 3) (b := 72) (by omega) (by omega) rfl (by omega) (by omega) run k post hp) _ hp
theorem tm_sendCtl {p : tm_P} {b : Nat} (h : tm_I p) (h20 : p 20 1 = 0) (hb : b = 8 ∨ b = 13) :
    ∃ p', tm_M p p' (p 4 1) (if b = 8 then p 5 1 - 1 else 0) ∧ ∀ (k : Bool) (post : St1 → Prop), post (tm_T k p') → wpX_send post (tm_T k p) (nI b) := by
  obtain ⟨p', ⟨r, e⟩, run⟩ := tm_control (b := b) (by omega) (tm_v_I h (t := 1) (s := 0) (by omega) (by omega)) (t := 1) rfl
  have hS : tm_S p p' := ⟨r.1, r.2.2.1 20 1 (by omega) (by omega), r.2.2.2 rfl⟩
  have e' := e (by omega)
  refine ⟨p', ⟨hS, ?_⟩, fun k => tm_send (fun post hp => tm_rd_ctl (by omega) h20 (by omega) (by omega) run k post hp)⟩
  subst e'
  exact ⟨fun i => rfl, fun i => rfl, rfl, rfl, rfl, rfl⟩
theorem tm_sendMove {p : tm_P} {r c : Nat} (h : tm_I p) (h20 : p 20 1 = 0) (hr : r ≤ 5) (hc : c ≤ 11) :
    ∃ p', tm_M p p' r c ∧ ∀ (k : Bool) (post : St1 → Prop), post (tm_T k p') → wpX_sendMove post (tm_T k p) (nI r) (nI c) := by
  have h4 : p 4 1 ≤ 5 := h.1 4 1
  have h5 : p 5 1 ≤ 11 := h.1 5 1
  have h6 : p 6 1 ≤ 1 := h.1 6 1
  by_cases same : p 4 1 = r ∧ p 6 1 = 0
  · obtain ⟨s1, s2⟩ := same
    have opn : ∀ (k : Bool) (post : St1 → Prop), wX_sendMove_31 post (nI r) (nI c) (nI (p 5 1)) 1 (nI (p 0 0)) (nI (p 25 0)) (nI (p 26 0)) (fun i => nI (tm_f k (p 1 i))) (fun i => nI (p 2 i)) (fun i => nI (p 3 i)) (fun i => nI (p 4 i)) (fun i => nI (p 5 i)) (fun i => nI (p 6 i)) (fun i => nI (p 7 i)) (fun i => nI (p 8 i)) (fun i => nI (p 9 i)) (fun i => nI (p 10 i)) (fun i => nI (p 11 i)) (fun i => nI (p 12 i)) (fun i => nI (p 13 i)) (fun i => nI (p 14 i)) (fun i => nI (p 15 i)) (fun i => nI (p 16 i)) (fun i => nI (p 17 i)) (fun i => nI (p 18 i)) (fun i => nI (p 19 i)) (fun i => nI (p 20 i)) (fun i => nI (p 21 i)) (fun i => nI (p 22 i)) (fun i => nI (p 23 i)) (fun i => nI (tm_f k (p 24 i))) → wpX_sendMove post (tm_T k p) (nI r) (nI c) := by
      intro k post H
      exact nm_e (pk_eq (p 4 1) r (fun _ => pk_eq (p 6 1) 0 (fun _ => H) (fun z => absurd s2 z)) (fun z => absurd s1 z))
    by_cases c1 : p 5 1 = c
    · refine ⟨p, ⟨tm_S_r h h20, fun _ => rfl, fun _ => rfl, rfl, s1, c1, s2⟩, fun k post hp => opn k post (br_f (by decide) (pk_eq (p 5 1) c (fun _ => hp) (fun z => absurd c1 z)))⟩
    · by_cases c2 : c = 0
      · obtain ⟨p', m, run⟩ := tm_sendCtl (b := 13) h h20 (by omega)
        rw [if_neg (by omega), s1] at m
        subst c2
        exact ⟨p', m, fun k post hp => opn k post (br_f (by decide) (pk_eq (p 5 1) 0 (fun z => absurd z c1) (fun _ => br_f (by decide) (br_t rfl (run k _ hp)))))⟩
      · have sub1 : c ≤ p 5 1 → (nI (p 5 1) - 1 = nI (p 5 1 - 1)) := fun z => pk_sub (b := 1) (by omega)
        by_cases c3 : c + 1 = p 5 1
        · obtain ⟨p', m, run⟩ := tm_sendCtl (b := 8) h h20 (by omega)
          rw [if_pos rfl, s1, show p 5 1 - 1 = c by omega] at m
          refine ⟨p', m, fun k post hp => opn k post (br_f (by decide) (pk_eq (p 5 1) c (fun z => absurd z c1) (fun _ => br_f (by decide) (pk_eq c 0 (fun z => absurd z c2) (fun _ => br_f (by decide) (br_t ?_ (run k _ hp)))))))⟩
          rw [sub1 (by omega), show p 5 1 - 1 = c by omega]
        · have n3 : ¬ nI c = nI (p 5 1) - 1 := by
            intro e
            by_cases z : 1 ≤ p 5 1
            · rw [show nI (p 5 1) - 1 = nI (p 5 1 - 1) from pk_sub (b := 1) z, nI_eq (by omega) (by omega)] at e
              omega
            · rw [show p 5 1 = 0 by omega] at e
              have := congrArg Int32.toInt e
              rw [nI_toInt (by omega)] at this
              have e2 : (nI 0 - 1 : Int32).toInt = -1 := by decide
              rw [e2] at this
              omega
          by_cases c4 : p 5 1 < c
          · obtain ⟨p', ⟨_, m, _, _⟩, run⟩ := tm_sendOne (b := 67) (n := c - p 5 1) h (by omega) (by omega) (by omega)
            have m' := m rfl
            rw [s1, show min (p 5 1 + (c - p 5 1)) 11 = c by omega] at m'
            refine ⟨p', m', fun k post hp => opn k post (br_f (by decide) (pk_eq (p 5 1) c (fun z => absurd z c1) (fun _ => br_f (by decide) (pk_eq c 0 (fun z => absurd z c2) (fun _ => br_f (by decide) (br_f n3 (br_f (by decide) (pk_le c (p 5 1) (fun z => absurd z (by omega)) (fun _ => ?_)))))))))⟩
            rw [pk_sub (by omega)]
            exact run k _ hp
          · obtain ⟨p', ⟨_, _, m, _⟩, run⟩ := tm_sendOne (b := 68) (n := p 5 1 - c) h (by omega) (by omega) (by omega)
            have m' := m rfl
            rw [s1, show p 5 1 - (p 5 1 - c) = c by omega] at m'
            refine ⟨p', m', fun k post hp => opn k post (br_f (by decide) (pk_eq (p 5 1) c (fun z => absurd z c1) (fun _ => br_f (by decide) (pk_eq c 0 (fun z => absurd z c2) (fun _ => br_f (by decide) (br_f n3 (br_f (by decide) (pk_le c (p 5 1) (fun _ => br_f (by decide) ?_) (fun z => absurd z (by omega))))))))))⟩
            rw [pk_sub (by omega)]
            exact run k _ hp
  · obtain ⟨p', m, run⟩ := tm_sendH h hr hc
    refine ⟨p', m, fun k post hp => ?_⟩
    have fin : wX_sendMove_30 post (nI r) (nI c) (nI (p 5 1)) (nI (p 0 0)) (nI (p 25 0)) (nI (p 26 0)) (fun i => nI (tm_f k (p 1 i))) (fun i => nI (p 2 i)) (fun i => nI (p 3 i)) (fun i => nI (p 4 i)) (fun i => nI (p 5 i)) (fun i => nI (p 6 i)) (fun i => nI (p 7 i)) (fun i => nI (p 8 i)) (fun i => nI (p 9 i)) (fun i => nI (p 10 i)) (fun i => nI (p 11 i)) (fun i => nI (p 12 i)) (fun i => nI (p 13 i)) (fun i => nI (p 14 i)) (fun i => nI (p 15 i)) (fun i => nI (p 16 i)) (fun i => nI (p 17 i)) (fun i => nI (p 18 i)) (fun i => nI (p 19 i)) (fun i => nI (p 20 i)) (fun i => nI (p 21 i)) (fun i => nI (p 22 i)) (fun i => nI (p 23 i)) (fun i => nI (tm_f k (p 24 i))) := br_t rfl (br_t rfl (br_t rfl (br_t rfl (run k _ _ _ post rfl rfl hp))))
    exact nm_e (pk_eq (p 4 1) r (fun z => pk_eq (p 6 1) 0 (fun z2 => absurd ⟨z, z2⟩ same) (fun _ => fin)) (fun _ => fin))
end
section
/-! comparing cells -/
theorem tm_same {k : Bool} {p : tm_P} {post : Int32 → Prop} {x y : Nat} (h : tm_I p) (hx : x < 288) (hy : y < 288) (h1 : p 1 x = p 1 y → post 1) (h0 : p 1 x ≠ p 1 y → post 0) : wpX_sameCells post (tm_T k p) (nI x) (nI y) := by
  have ix : vp_in (nI x) 288 := vp_in_nI hx (by omega)
  have iy : vp_in (nI y) 288 := vp_in_nI hy (by omega)
  have cx : (nI x).toNatClampNeg = x := tm_cl (by omega)
  have cy : (nI y).toNatClampNeg = y := tm_cl (by omega)
  have sx : 32 ≤ p 1 x ∧ p 1 x ≤ 62 := h.1 1 x hx
  have sy : 32 ≤ p 1 y ∧ p 1 y ≤ 62 := h.1 1 y hy
  have fx := tm_f_r (k := k) sx
  have fy := tm_f_r (k := k) sy
  have zx : p 2 x = 0 := h.1 2 x
  have zy : p 2 y = 0 := h.1 2 y
  refine ⟨ix, iy, ek_if (d := p 1 x = p 1 y) ?_ (fun e => ⟨ix, iy, br_t ?_ (h1 e)⟩) h0⟩
  · show nI (tm_f k (p 1 (nI x).toNatClampNeg)) = nI (tm_f k (p 1 (nI y).toNatClampNeg)) ↔ _
    rw [cx, cy, nI_eq (by omega) (by omega)]
    exact tm_f_inj sx sy
  · show nI (p 2 (nI x).toNatClampNeg) = nI (p 2 (nI y).toNatClampNeg)
    rw [cx, cy, zx, zy]
theorem tm_isEmpty {k : Bool} {p : tm_P} {post : Int32 → Prop} {x : Nat} (h : tm_I p) (hx : x < 288) (h1 : p 1 x = 32 → post 1) (h0 : p 1 x ≠ 32 → post 0) : wpX_isEmpty post (tm_T k p) (nI x) := by
  have ix : vp_in (nI x) 288 := vp_in_nI hx (by omega)
  have cx : (nI x).toNatClampNeg = x := tm_cl (by omega)
  have sx : 32 ≤ p 1 x ∧ p 1 x ≤ 62 := h.1 1 x hx
  have fx := tm_f_r (k := k) sx
  have zx : p 2 x = 0 := h.1 2 x
  refine ⟨ix, ek_if (d := p 1 x = 32) ?_ (fun e => ⟨ix, br_t ?_ (h1 e)⟩) h0⟩
  · show nI (tm_f k (p 1 (nI x).toNatClampNeg)) = nI 32 ↔ _
    rw [cx, nI_eq (by omega) (by omega)]
    exact tm_f_em sx
  · show nI (p 2 (nI x).toNatClampNeg) = nI 0
    rw [cx, zx]
theorem tm_l_288 {p : tm_P} (h : tm_I p) {t r c : Nat} (ht : t ≤ 1) (hc : c < 12) : tm_l p t r + c < 288 := by
  have := tm_l_lt h t r
  omega
theorem tm_l_144 {p : tm_P} (h : tm_I p) {r c : Nat} (hc : c < 12) : tm_l p 0 r + c < 144 := by
  have := tm_l_lt h 0 r
  omega
/-- the shown cell is right -/
def tm_X (p : tm_P) (r c : Nat) : Prop := p 1 (tm_l p 0 r + c) = p 1 (tm_l p 1 r + c)
def tm_d (p : tm_P) (r c : Nat) : Nat := if p 1 (tm_l p 0 r + c) = p 1 (tm_l p 1 r + c) then 0 else 1
def tm_dr (p : tm_P) (r : Nat) : Nat → Nat
  | 0 => 0
  | c + 1 => tm_dr p r c + tm_d p r c
def tm_ds (p : tm_P) : Nat → Nat
  | 0 => 0
  | r + 1 => tm_ds p r + tm_dr p r 12
theorem tm_dr_le (p : tm_P) (r : Nat) : ∀ c, tm_dr p r c ≤ c := by
  intro c
  induction c with
  | zero => exact Nat.le_refl 0
  | succ c ih =>
    have : tm_d p r c ≤ 1 := by unfold tm_d; split <;> omega
    show tm_dr p r c + tm_d p r c ≤ c + 1
    omega
theorem tm_ds_le (p : tm_P) : ∀ r, tm_ds p r ≤ r * 12 := by
  intro r
  induction r with
  | zero => exact Nat.le_refl 0
  | succ r ih =>
    have := tm_dr_le p r 12
    show tm_ds p r + tm_dr p r 12 ≤ (r + 1) * 12
    omega
theorem tm_dr_0 {p : tm_P} {r : Nat} : ∀ n, (∀ c, c < n → tm_X p r c) → tm_dr p r n = 0 := by
  intro n
  induction n with
  | zero => intro _; rfl
  | succ n ih =>
    intro h
    show tm_dr p r n + tm_d p r n = 0
    have e : tm_d p r n = 0 := if_pos (h n (by omega))
    rw [ih (fun c hc => h c (by omega)), e]
theorem tm_ds_0 {p : tm_P} : ∀ n, (∀ r, r < n → ∀ c, c < 12 → tm_X p r c) → tm_ds p n = 0 := by
  intro n
  induction n with
  | zero => intro _; rfl
  | succ n ih =>
    intro h
    show tm_ds p n + tm_dr p n 12 = 0
    rw [ih (fun r hr => h r (by omega)), tm_dr_0 12 (h n (by omega))]
theorem tm_staleIn_l {k : Bool} {p : tm_P} {post : Int32 → Prop} {r : Nat} (h : tm_I p) (hp : post (nI (tm_dr p r 12))) : ∀ d c : Nat, c + d = 12 → ∃ fu, wX_staleIn_20 post (nI (tm_l p 0 r)) (nI (tm_l p 1 r)) (nI (p 0 0)) (nI (p 25 0)) (nI (p 26 0)) (fun i => nI (tm_f k (p 1 i))) (fun i => nI (p 2 i)) (fun i => nI (p 3 i)) (fun i => nI (p 4 i)) (fun i => nI (p 5 i)) (fun i => nI (p 6 i)) (fun i => nI (p 7 i)) (fun i => nI (p 8 i)) (fun i => nI (p 9 i)) (fun i => nI (p 10 i)) (fun i => nI (p 11 i)) (fun i => nI (p 12 i)) (fun i => nI (p 13 i)) (fun i => nI (p 14 i)) (fun i => nI (p 15 i)) (fun i => nI (p 16 i)) (fun i => nI (p 17 i)) (fun i => nI (p 18 i)) (fun i => nI (p 19 i)) (fun i => nI (p 20 i)) (fun i => nI (p 21 i)) (fun i => nI (p 22 i)) (fun i => nI (p 23 i)) (fun i => nI (tm_f k (p 24 i))) fu (nI (tm_dr p r c)) (nI c) := by
  intro d
  induction d with
  | zero =>
    intro c hc
    have e : c = 12 := by omega
    subst e
    exact ⟨1, pk_le 12 12 (fun _ => hp) (fun z => absurd z (by omega))⟩
  | succ d ih =>
    intro c hc
    obtain ⟨fu, hf⟩ := ih (c + 1) (by omega)
    have hle := tm_dr_le p r c
    refine ⟨fu + 1, pk_le 12 c (fun z => absurd z (by omega)) (fun _ => ?_)⟩
    rw [nI_add, nI_add]
    refine tm_same (k := k) (p := p) h (tm_l_288 h (by omega) (by omega)) (tm_l_288 h (by omega) (by omega)) (fun e => ?_) (fun e => ?_)
    · refine br_f (by decide) (nm_r (e' := nI (tm_dr p r (c + 1))) ?_ (nm_r (nI_1 c) hf))
      show nI (tm_dr p r c) + nI 0 = _
      rw [nI_add]
      show _ = nI (tm_dr p r c + tm_d p r c)
      rw [show tm_d p r c = 0 from if_pos e]
    · refine br_t rfl (nm_r (e' := nI (tm_dr p r (c + 1))) ?_ (nm_r (nI_1 c) hf))
      rw [nI_1]
      show _ = nI (tm_dr p r c + tm_d p r c)
      rw [show tm_d p r c = 1 from if_neg e]
theorem tm_staleIn {k : Bool} {p : tm_P} {post : Int32 → Prop} {r : Nat} (h : tm_I p) (hr : r ≤ 5) (hp : post (nI (tm_dr p r 12))) : wpX_staleIn post (tm_T k p) (nI r) := by
  have := tm_staleIn_l (k := k) h hp 12 0 (by omega)
  unfold wpX_staleIn tm_T
  dsimp only
  exact tm_lineOf (k := k) (p := p) (t := 0) h (by omega) hr (tm_lineOf (k := k) (p := p) (t := 1) h (by omega) hr this)
theorem tm_stale_l {k : Bool} {p : tm_P} {post : Int32 → Prop} (h : tm_I p) (hp : post (nI (tm_ds p 6))) : ∀ d r : Nat, r + d = 6 → ∃ fu, wX_stale_4 post (nI (p 0 0)) (nI (p 25 0)) (nI (p 26 0)) (fun i => nI (tm_f k (p 1 i))) (fun i => nI (p 2 i)) (fun i => nI (p 3 i)) (fun i => nI (p 4 i)) (fun i => nI (p 5 i)) (fun i => nI (p 6 i)) (fun i => nI (p 7 i)) (fun i => nI (p 8 i)) (fun i => nI (p 9 i)) (fun i => nI (p 10 i)) (fun i => nI (p 11 i)) (fun i => nI (p 12 i)) (fun i => nI (p 13 i)) (fun i => nI (p 14 i)) (fun i => nI (p 15 i)) (fun i => nI (p 16 i)) (fun i => nI (p 17 i)) (fun i => nI (p 18 i)) (fun i => nI (p 19 i)) (fun i => nI (p 20 i)) (fun i => nI (p 21 i)) (fun i => nI (p 22 i)) (fun i => nI (p 23 i)) (fun i => nI (tm_f k (p 24 i))) fu (nI (tm_ds p r)) (nI r) := by
  intro d
  induction d with
  | zero =>
    intro r hr
    have e : r = 6 := by omega
    subst e
    exact ⟨1, pk_le 6 6 (fun _ => hp) (fun z => absurd z (by omega))⟩
  | succ d ih =>
    intro r hr
    obtain ⟨fu, hf⟩ := ih (r + 1) (by omega)
    refine ⟨fu + 1, pk_le 6 r (fun z => absurd z (by omega)) (fun _ => ?_)⟩
    refine tm_staleIn (k := k) (p := p) h (by omega) ?_
    exact nm_r (nI_add _ _) (nm_r (nI_1 r) hf)
theorem tm_stale {k : Bool} {p : tm_P} {post : Int32 → Prop} (h : tm_I p) (hp : post (nI (tm_ds p 6))) : wpX_stale post (tm_T k p) :=
  tm_stale_l (k := k) h hp 6 0 (by omega)
theorem tm_firstStale_l {k : Bool} {p : tm_P} {post : Int32 → Prop} {r : Nat} (h : tm_I p) (hp : ∀ c, c ≤ 12 → (∀ j, j < c → tm_X p r j) → post (nI c)) : ∀ d c : Nat, c + d = 12 → (∀ j, j < c → tm_X p r j) → ∃ fu, wX_firstStale_17 post (nI (tm_l p 0 r)) (nI (tm_l p 1 r)) (nI (p 0 0)) (nI (p 25 0)) (nI (p 26 0)) (fun i => nI (tm_f k (p 1 i))) (fun i => nI (p 2 i)) (fun i => nI (p 3 i)) (fun i => nI (p 4 i)) (fun i => nI (p 5 i)) (fun i => nI (p 6 i)) (fun i => nI (p 7 i)) (fun i => nI (p 8 i)) (fun i => nI (p 9 i)) (fun i => nI (p 10 i)) (fun i => nI (p 11 i)) (fun i => nI (p 12 i)) (fun i => nI (p 13 i)) (fun i => nI (p 14 i)) (fun i => nI (p 15 i)) (fun i => nI (p 16 i)) (fun i => nI (p 17 i)) (fun i => nI (p 18 i)) (fun i => nI (p 19 i)) (fun i => nI (p 20 i)) (fun i => nI (p 21 i)) (fun i => nI (p 22 i)) (fun i => nI (p 23 i)) (fun i => nI (tm_f k (p 24 i))) fu (nI c) := by
  intro d
  induction d with
  | zero =>
    intro c hc hx
    exact ⟨1, pk_le 12 c (fun _ => hp c (by omega) hx) (fun z => absurd z (by omega))⟩
  | succ d ih =>
    intro c hc hx
    by_cases e : tm_X p r c
    · obtain ⟨fu, hf⟩ := ih (c + 1) (by omega) (fun j hj => by
        by_cases z : j = c
        · rw [z]; exact e
        · exact hx j (by omega))
      refine ⟨fu + 1, pk_le 12 c (fun z => absurd z (by omega)) (fun _ => ?_)⟩
      rw [nI_add, nI_add]
      exact tm_same (k := k) (p := p) h (tm_l_288 h (by omega) (by omega)) (tm_l_288 h (by omega) (by omega)) (fun _ => br_f (by decide) (nm_r (nI_1 c) hf)) (fun z => absurd e z)
    · refine ⟨1, pk_le 12 c (fun z => absurd z (by omega)) (fun _ => ?_)⟩
      rw [nI_add, nI_add]
      exact tm_same (k := k) (p := p) h (tm_l_288 h (by omega) (by omega)) (tm_l_288 h (by omega) (by omega)) (fun z => absurd z e) (fun _ => br_t rfl (hp c (by omega) hx))
theorem tm_firstStale {k : Bool} {p : tm_P} {post : Int32 → Prop} {r : Nat} (h : tm_I p) (hr : r ≤ 5) (hp : ∀ c, c ≤ 12 → (∀ j, j < c → tm_X p r j) → post (nI c)) : wpX_firstStale post (tm_T k p) (nI r) := by
  have := tm_firstStale_l (k := k) h hp 12 0 (by omega) (fun j hj => absurd hj (by omega))
  unfold wpX_firstStale tm_T
  dsimp only
  exact tm_lineOf (k := k) (p := p) (t := 0) h (by omega) hr (tm_lineOf (k := k) (p := p) (t := 1) h (by omega) hr this)
/-! how far a shift would help: any answer will do -/
theorem tm_rightCells_l {k : Bool} {p : tm_P} {post : Int32 → Prop} {r f : Nat} {x : Int32} (h : tm_I p) (hf : f ≤ 12) (hp : ∀ v, post v) : ∀ d c : Nat, ∀ v : Int32, c + d = 12 → ∃ fu, wX_rightCells_22 post (nI f) x (nI (tm_l p 0 r)) (nI (tm_l p 1 r)) (nI (p 0 0)) (nI (p 25 0)) (nI (p 26 0)) (fun i => nI (tm_f k (p 1 i))) (fun i => nI (p 2 i)) (fun i => nI (p 3 i)) (fun i => nI (p 4 i)) (fun i => nI (p 5 i)) (fun i => nI (p 6 i)) (fun i => nI (p 7 i)) (fun i => nI (p 8 i)) (fun i => nI (p 9 i)) (fun i => nI (p 10 i)) (fun i => nI (p 11 i)) (fun i => nI (p 12 i)) (fun i => nI (p 13 i)) (fun i => nI (p 14 i)) (fun i => nI (p 15 i)) (fun i => nI (p 16 i)) (fun i => nI (p 17 i)) (fun i => nI (p 18 i)) (fun i => nI (p 19 i)) (fun i => nI (p 20 i)) (fun i => nI (p 21 i)) (fun i => nI (p 22 i)) (fun i => nI (p 23 i)) (fun i => nI (tm_f k (p 24 i))) fu v (nI c) := by
  intro d
  induction d with
  | zero =>
    intro c v hc
    exact ⟨1, pk_le 12 c (fun _ => hp v) (fun z => absurd z (by omega))⟩
  | succ d ih =>
    intro c v hc
    obtain ⟨f0, h0⟩ := ih (c + 1) (v + 0) (by omega)
    obtain ⟨f1, h1⟩ := ih (c + 1) (v + 1) (by omega)
    by_cases c1 : nI c + x < nI f
    · exact ⟨f0 + 1, pk_le 12 c (fun z => absurd z (by omega)) (fun _ => nm_e (br_t c1 (br_t rfl (nm_e (nm_r (nI_1 c) h0)))))⟩
    · by_cases c2 : (12 : Int32) ≤ nI c + x
      · exact ⟨f0 + 1, pk_le 12 c (fun z => absurd z (by omega)) (fun _ => nm_e (br_f c1 (br_t c2 (br_t rfl (nm_e (nm_r (nI_1 c) h0))))))⟩
      · have n0 : ¬ nI c + x < 0 := by
          intro z
          apply c1
          have : (0 : Int32) ≤ nI f := nI_pos' (by omega)
          exact Int32.lt_of_lt_of_le z this
        obtain ⟨j, j1, j2⟩ := nI_of n0
        have j12 : j < 12 := by
          rcases Nat.lt_or_ge j 12 with z | z
          · exact z
          · exact absurd (show (12 : Int32) ≤ nI c + x from by rw [j2]; exact nI_le z j1) c2
        by_cases e : p 1 (tm_l p 0 r + c) = p 1 (tm_l p 1 r + j)
        · refine ⟨f1 + 1, pk_le 12 c (fun z => absurd z (by omega)) (fun _ => nm_e (br_f c1 (br_f c2 (br_f (by decide) ?_))))⟩
          rw [j2, nI_add, nI_add]
          exact tm_same (k := k) (p := p) h (tm_l_288 h (by omega) (by omega)) (tm_l_288 h (by omega) (by omega)) (fun _ => br_f (by decide) (nm_e (nm_r (nI_1 c) h1))) (fun z => absurd e z)
        · refine ⟨f0 + 1, pk_le 12 c (fun z => absurd z (by omega)) (fun _ => nm_e (br_f c1 (br_f c2 (br_f (by decide) ?_))))⟩
          rw [j2, nI_add, nI_add]
          exact tm_same (k := k) (p := p) h (tm_l_288 h (by omega) (by omega)) (tm_l_288 h (by omega) (by omega)) (fun z => absurd z e) (fun _ => br_t rfl (nm_e (nm_r (nI_1 c) h0)))
theorem tm_rightCells {k : Bool} {p : tm_P} {post : Int32 → Prop} {r f : Nat} {x : Int32} (h : tm_I p) (hr : r ≤ 5) (hf : f ≤ 12) (hp : ∀ v, post v) : wpX_rightCells post (tm_T k p) (nI r) (nI f) x := by
  have := tm_rightCells_l (k := k) (x := x) (r := r) h hf hp (12 - f) f 0 (by omega)
  unfold wpX_rightCells tm_T
  dsimp only
  exact tm_lineOf (k := k) (p := p) (t := 0) h (by omega) hr (tm_lineOf (k := k) (p := p) (t := 1) h (by omega) hr this)
theorem tm_rightAfter_50 {k : Bool} {p : tm_P} {post : Int32 → Prop} {J : Int32 → Int32 → Prop} {r s : Nat} {x1 v w : Int32} (h : tm_I p) (h0 : J (v + 0) (w + 1)) (h1 : J (v + 1) (w + 1)) : ∀ d c : Nat, ∀ y : Int32, c + d = 12 → ∃ fu, wX_rightAfter_50 post J x1 v w (nI (tm_l p 0 r)) (nI (tm_l p 1 s)) (nI (p 0 0)) (nI (p 25 0)) (nI (p 26 0)) (fun i => nI (tm_f k (p 1 i))) (fun i => nI (p 2 i)) (fun i => nI (p 3 i)) (fun i => nI (p 4 i)) (fun i => nI (p 5 i)) (fun i => nI (p 6 i)) (fun i => nI (p 7 i)) (fun i => nI (p 8 i)) (fun i => nI (p 9 i)) (fun i => nI (p 10 i)) (fun i => nI (p 11 i)) (fun i => nI (p 12 i)) (fun i => nI (p 13 i)) (fun i => nI (p 14 i)) (fun i => nI (p 15 i)) (fun i => nI (p 16 i)) (fun i => nI (p 17 i)) (fun i => nI (p 18 i)) (fun i => nI (p 19 i)) (fun i => nI (p 20 i)) (fun i => nI (p 21 i)) (fun i => nI (p 22 i)) (fun i => nI (p 23 i)) (fun i => nI (tm_f k (p 24 i))) fu y (nI c) := by
  have fin : ∀ y : Int32, wX_rightAfter_84 post J x1 v w y (nI (p 0 0)) (nI (p 25 0)) (nI (p 26 0)) (fun i => nI (tm_f k (p 1 i))) (fun i => nI (p 2 i)) (fun i => nI (p 3 i)) (fun i => nI (p 4 i)) (fun i => nI (p 5 i)) (fun i => nI (p 6 i)) (fun i => nI (p 7 i)) (fun i => nI (p 8 i)) (fun i => nI (p 9 i)) (fun i => nI (p 10 i)) (fun i => nI (p 11 i)) (fun i => nI (p 12 i)) (fun i => nI (p 13 i)) (fun i => nI (p 14 i)) (fun i => nI (p 15 i)) (fun i => nI (p 16 i)) (fun i => nI (p 17 i)) (fun i => nI (p 18 i)) (fun i => nI (p 19 i)) (fun i => nI (p 20 i)) (fun i => nI (p 21 i)) (fun i => nI (p 22 i)) (fun i => nI (p 23 i)) (fun i => nI (tm_f k (p 24 i))) := fun y => br_c (fun _ => nm_e (nm_e h0)) (fun _ => nm_e (nm_e h1))
  intro d
  induction d with
  | zero =>
    intro c y hc
    exact ⟨1, pk_le 12 c (fun _ => fin y) (fun z => absurd z (by omega))⟩
  | succ d ih =>
    intro c y hc
    obtain ⟨g0, k0⟩ := ih (c + 1) 0 (by omega)
    obtain ⟨g1, k1⟩ := ih (c + 1) 1 (by omega)
    by_cases e : p 1 (tm_l p 0 r + c) = p 1 (tm_l p 1 s + c)
    · refine ⟨g1 + 1, pk_le 12 c (fun z => absurd z (by omega)) (fun _ => br_c (fun _ => fin y) (fun _ => ?_))⟩
      rw [nI_add, nI_add]
      exact tm_same (k := k) (p := p) h (tm_l_288 h (by omega) (by omega)) (tm_l_288 h (by omega) (by omega)) (fun _ => nm_r (nI_1 c) k1) (fun z => absurd e z)
    · refine ⟨g0 + 1, pk_le 12 c (fun z => absurd z (by omega)) (fun _ => br_c (fun _ => fin y) (fun _ => ?_))⟩
      rw [nI_add, nI_add]
      exact tm_same (k := k) (p := p) h (tm_l_288 h (by omega) (by omega)) (tm_l_288 h (by omega) (by omega)) (fun z => absurd z e) (fun _ => nm_r (nI_1 c) k0)
theorem tm_rightAfter_l {k : Bool} {p : tm_P} {post : Int32 → Prop} {x1 : Int32} (h : tm_I p) (hp : ∀ v, post v) : ∀ (n r : Nat) (v : Int32), r ≤ 6 → 6 - r < n → wX_rightAfter_4 post x1 (nI (p 0 0)) (nI (p 25 0)) (nI (p 26 0)) (fun i => nI (tm_f k (p 1 i))) (fun i => nI (p 2 i)) (fun i => nI (p 3 i)) (fun i => nI (p 4 i)) (fun i => nI (p 5 i)) (fun i => nI (p 6 i)) (fun i => nI (p 7 i)) (fun i => nI (p 8 i)) (fun i => nI (p 9 i)) (fun i => nI (p 10 i)) (fun i => nI (p 11 i)) (fun i => nI (p 12 i)) (fun i => nI (p 13 i)) (fun i => nI (p 14 i)) (fun i => nI (p 15 i)) (fun i => nI (p 16 i)) (fun i => nI (p 17 i)) (fun i => nI (p 18 i)) (fun i => nI (p 19 i)) (fun i => nI (p 20 i)) (fun i => nI (p 21 i)) (fun i => nI (p 22 i)) (fun i => nI (p 23 i)) (fun i => nI (tm_f k (p 24 i))) n v (nI r) := by
  intro n
  induction n with
  | zero => intro r v hr hn; exact absurd hn (by omega)
  | succ n ih =>
    intro r v hr hn
    refine pk_le 6 r (fun _ => hp v) (fun z => nm_e (br_c (fun _ => nm_r (nI_1 r) (ih (r + 1) v (by omega) (by omega))) (fun c1 => br_c (fun _ => nm_r (nI_1 r) (ih (r + 1) v (by omega) (by omega))) (fun c2 => ?_))))
    obtain ⟨j, j1, j2⟩ := nI_of c1
    have j6 : j < 6 := by
      rcases Nat.lt_or_ge j 6 with z | z
      · exact z
      · exact absurd (show (6 : Int32) ≤ nI r + x1 from by rw [j2]; exact nI_le z j1) c2
    rw [j2]
    refine tm_lineOf (k := k) (p := p) (t := 0) h (by omega) (by omega) (tm_lineOf (k := k) (p := p) (t := 1) h (by omega) (by omega) ?_)
    exact tm_rightAfter_50 h (by rw [nI_1]; exact ih (r + 1) _ (by omega) (by omega)) (by rw [nI_1]; exact ih (r + 1) _ (by omega) (by omega)) 12 0 1 (by omega)
theorem tm_rightAfter {k : Bool} {p : tm_P} {post : Int32 → Prop} {x1 : Int32} (h : tm_I p) (hp : ∀ v, post v) : wpX_rightAfter post (tm_T k p) x1 :=
  ⟨7, tm_rightAfter_l h hp 7 0 0 (by omega) (by omega)⟩
end
section
/-! moving the shown rows -/
def tm_y (j : Nat) : Int32 := nI j - nI 5
def tm_z (j : Nat) : Int32 := nI j - nI 11
theorem tm_y_a : ∀ j, j < 11 → (¬ (6 : Int32) ≤ tm_y j) ∧ tm_y j + 1 = tm_y (j + 1) ∧ (j ≤ 5 → tm_y j ≤ 0 ∧ -(tm_y j) = nI (5 - j)) ∧ (5 < j → ¬ tm_y j ≤ 0 ∧ tm_y j = nI (j - 5)) ∧ (j = 5 → 0 ≤ tm_y j) ∧ (j < 5 → ¬ 0 ≤ tm_y j) := by decide +kernel
theorem tm_z_a : ∀ j, j < 23 → (¬ (12 : Int32) ≤ tm_z j) ∧ tm_z j + 1 = tm_z (j + 1) ∧ (j ≤ 11 → tm_z j ≤ 0 ∧ -(tm_z j) = nI (11 - j)) ∧ (11 < j → ¬ tm_z j ≤ 0 ∧ tm_z j = nI (j - 11)) ∧ (j = 11 → tm_z j = 0) ∧ (j ≠ 11 → ¬ tm_z j = 0) := by decide +kernel
theorem tm_scroll_l {k : Bool} {p : tm_P} {post : St1 → Prop} (h : tm_I p) (h20 : p 20 1 = 0) (hp : ∀ p', tm_S p p' → post (tm_T k p')) : ∀ (n j a : Nat) (m : Int32), j ≤ 11 → 11 - j < n → a ≤ 10 → wX_sendScroll_13 post (nI (p 0 0)) (nI (p 25 0)) (nI (p 26 0)) (fun i => nI (tm_f k (p 1 i))) (fun i => nI (p 2 i)) (fun i => nI (p 3 i)) (fun i => nI (p 4 i)) (fun i => nI (p 5 i)) (fun i => nI (p 6 i)) (fun i => nI (p 7 i)) (fun i => nI (p 8 i)) (fun i => nI (p 9 i)) (fun i => nI (p 10 i)) (fun i => nI (p 11 i)) (fun i => nI (p 12 i)) (fun i => nI (p 13 i)) (fun i => nI (p 14 i)) (fun i => nI (p 15 i)) (fun i => nI (p 16 i)) (fun i => nI (p 17 i)) (fun i => nI (p 18 i)) (fun i => nI (p 19 i)) (fun i => nI (p 20 i)) (fun i => nI (p 21 i)) (fun i => nI (p 22 i)) (fun i => nI (p 23 i)) (fun i => nI (tm_f k (p 24 i))) n (tm_y a) m (tm_y j) := by
  intro n
  induction n with
  | zero => intro j a m hj hn; exact absurd hn (by omega)
  | succ n ih =>
    intro j a m hj hn ha
    by_cases e : j = 11
    · subst e
      refine br_t (by decide) ?_
      have A := tm_y_a a (by omega)
      by_cases a5 : a ≤ 5
      · refine br_t (A.2.2.1 a5).1 ?_
        by_cases a5' : a = 5
        · exact br_t (A.2.2.2.2.1 a5') (hp p (tm_S_r h h20))
        · refine br_f (A.2.2.2.2.2 (by omega)) ?_
          obtain ⟨p', ⟨s, _⟩, run⟩ := tm_sendOne (b := 84) (n := 5 - a) h (by omega) (by omega) (by omega)
          rw [(A.2.2.1 a5).2]
          exact run k _ (hp p' s)
      · refine br_f (A.2.2.2.1 (by omega)).1 ?_
        obtain ⟨p', ⟨s, _⟩, run⟩ := tm_sendOne (b := 83) (n := a - 5) h (by omega) (by omega) (by omega)
        rw [(A.2.2.2.1 (by omega)).2]
        exact run k _ (hp p' s)
    · have J := tm_y_a j (by omega)
      refine br_f J.1 (tm_rightAfter (k := k) (p := p) h (fun v => br_c (fun _ => nm_r J.2.1 (ih (j + 1) a m (by omega) (by omega) ha)) (fun _ => nm_r J.2.1 (ih (j + 1) j v (by omega) (by omega) (by omega)))))
theorem tm_sendScroll {k : Bool} {p : tm_P} {post : St1 → Prop} (h : tm_I p) (h20 : p 20 1 = 0) (hp : ∀ p', tm_S p p' → post (tm_T k p')) : wpX_sendScroll post (tm_T k p) := by
  unfold wpX_sendScroll tm_T
  dsimp only
  exact tm_rightAfter (k := k) (p := p) h (fun v => nm_e ⟨12, tm_scroll_l h h20 hp 12 0 5 (v + 1) (by omega) (by omega) (by omega)⟩)
/-- the slots of terminal 1 are kept -/
def tm_3 (p p' : tm_P) : Prop := tm_S p p' ∧ (∀ i, p' 3 i = p 3 i) ∧ p' 12 1 = p 12 1
theorem tm_3_t {p q r : tm_P} (h : tm_3 p q) (g : tm_3 q r) : tm_3 p r := ⟨tm_S_t h.1 g.1, fun i => (g.2.1 i).trans (h.2.1 i), g.2.2.trans h.2.2⟩
theorem tm_3_l {p q : tm_P} (h : tm_3 p q) {t : Nat} (ht : t ≤ 1) (r : Nat) : tm_l q t r = tm_l p t r := by
  refine tm_l_e t r h.2.1 ?_
  rcases (show t = 0 ∨ t = 1 by omega) with e | e
  · subst e; exact h.1.2.2.2.2
  · subst e; exact h.2.2
theorem tm_3_M {p q : tm_P} {r c : Nat} (h : tm_M p q r c) : tm_3 p q := ⟨h.1, h.2.2.1, h.2.2.2.1⟩
/-- a fed cell is as it was -/
theorem tm_3_f {p q : tm_P} (h : tm_I p) (g : tm_3 p q) {r c : Nat} (hc : c < 12) : q 1 (tm_l q 0 r + c) = p 1 (tm_l p 0 r + c) := by
  rw [tm_3_l g (by omega)]
  exact g.1.2.2.1 _ (tm_l_144 h hc)
/-- some cells of a shown row were made right, and no others changed -/
def tm_imp (r : Nat) (p p' : tm_P) : Prop := tm_3 p p' ∧ ∀ i, p' 1 i = p 1 i ∨ ∃ c, c < 12 ∧ i = tm_l p 1 r + c ∧ p' 1 i = p 1 (tm_l p 0 r + c)
theorem tm_imp_t {s : Nat} {p q r : tm_P} (hI : tm_I p) (h : tm_imp s p q) (g : tm_imp s q r) : tm_imp s p r := by
  refine ⟨tm_3_t h.1 g.1, fun i => ?_⟩
  rcases g.2 i with e | ⟨c, c1, c2, c3⟩
  · rcases h.2 i with f | ⟨c, c1, c2, c3⟩
    · exact Or.inl (e.trans f)
    · exact Or.inr ⟨c, c1, c2, e.trans c3⟩
  · refine Or.inr ⟨c, c1, c2.trans (by rw [tm_3_l h.1 (by omega)]), c3.trans (tm_3_f hI h.1 c1)⟩
theorem tm_imp_M {s : Nat} {p q : tm_P} {r c : Nat} (h : tm_M p q r c) : tm_imp s p q := ⟨tm_3_M h, fun i => Or.inl (h.2.1 i)⟩
theorem tm_imp_r {s : Nat} {p : tm_P} (h : tm_I p) (h20 : p 20 1 = 0) : tm_imp s p p := ⟨⟨tm_S_r h h20, fun _ => rfl, rfl⟩, fun _ => Or.inl rfl⟩
/-- shown rows don't meet -/
theorem tm_sep {p : tm_P} (h : tm_I p) {r s c d : Nat} (hr : r < 6) (hs : s < 6) (hc : c < 12) (hd : d < 12) (e : tm_l p 1 r + c = tm_l p 1 s + d) : r = s ∧ c = d := by
  have o : p 12 1 = 0 := (h.1 12 1).2 rfl
  unfold tm_l at e
  rw [o] at e
  have e3 : p 3 (12 + r) = p 3 (12 + s) := by
    rw [show 12 + r = (1 * 2 + 0) * 6 + r by omega, show 12 + s = (1 * 2 + 0) * 6 + s by omega]
    omega
  exact ⟨h.2.1 r s hr hs e3, by rw [h.2.1 r s hr hs e3] at e; omega⟩
theorem tm_imp_X {s : Nat} {p q : tm_P} (hI : tm_I p) (h : tm_imp s p q) (hs : s < 6) {r c : Nat} (hr : r < 6) (hc : c < 12) (hx : tm_X p r c) : tm_X q r c := by
  unfold tm_X
  rw [tm_3_f hI h.1 hc, tm_3_l h.1 (by omega)]
  rcases h.2 (tm_l p 1 r + c) with e | ⟨d, d1, d2, d3⟩
  · rw [e]; exact hx
  · obtain ⟨e1, e2⟩ := tm_sep hI hr hs hc d1 d2
    subst e1; subst e2
    exact d3.symm
/-- a sign is sent -/
theorem tm_sendSign {p : tm_P} {r c : Nat} (h : tm_I p) (h20 : p 20 1 = 0) (h4 : p 4 1 = r) (h5 : p 5 1 = c) (h6 : p 6 1 = 0) (hc : c < 12) :
    ∃ p', (tm_imp r p p' ∧ tm_X p' r c ∧ p' 4 1 = r ∧ (c < 11 → p' 5 1 = c + 1 ∧ p' 6 1 = 0)) ∧ ∀ (k : Bool) (post : St1 → Prop), post (tm_T k p') → wpX_send post (tm_T k p) (nI (tm_f k (p 1 (tm_l p 0 r + c)))) := by
  have hs : 32 ≤ p 1 (tm_l p 0 r + c) ∧ p 1 (tm_l p 0 r + c) ≤ 62 := h.1 1 _ (tm_l_288 h (by omega) hc)
  obtain ⟨p', ⟨R, s1, s3, s12, s4, s5⟩, run⟩ := tm_putSign0 hs (tm_v_I h (t := 1) (s := 0) (by omega) (by omega)) (t := 1) rfl h6
  have hS : tm_S p p' := ⟨R.1, R.2.2.1 20 1 (by omega) (by omega), R.2.2.2 rfl⟩
  have s1' : ∀ i, p' 1 i = if i = tm_l p 1 r + c then p 1 (tm_l p 0 r + c) else p 1 i := by
    intro i
    subst h4; subst h5
    exact s1 i
  have h3 : tm_3 p p' := ⟨hS, s3, s12 1⟩
  refine ⟨p', ⟨⟨h3, fun i => ?_⟩, ?_, s4.trans h4, fun z => ?_⟩, fun k => tm_send (fun post hp => tm_rd_sign (by omega) h20 hs run k post hp)⟩
  · by_cases e : i = tm_l p 1 r + c
    · exact Or.inr ⟨c, hc, e, by rw [s1', if_pos e]⟩
    · exact Or.inl (by rw [s1', if_neg e])
  · unfold tm_X
    rw [tm_3_f h h3 hc, tm_3_l h3 (by omega), s1', if_pos rfl]
  · have z' : p 5 1 < 11 := by omega
    exact ⟨(s5 z').1.trans (by show p 5 1 + 1 = c + 1; omega), (s5 z').2.trans h6⟩
theorem tm_sendPen {k : Bool} {p : tm_P} {post : St1 → Prop} (h : tm_I p) (hp : post (tm_T k p)) : wpX_sendPen post (tm_T k p) (nI 0) := by
  have h7 : p 7 1 = 0 := h.1 7 1
  refine nm_e (br_t ?_ hp)
  show nI (p 7 1) = nI 0
  rw [h7]
/-! shifting the shown cells -/
theorem tm_shift_l {k : Bool} {p : tm_P} {post : St1 → Prop} {r f : Nat} (h : tm_I p) (h20 : p 20 1 = 0) (hr : r ≤ 5) (hf : f ≤ 11)
    (hp : ∀ p', tm_3 p p' → (∀ i, ¬ (tm_l p 1 r + f ≤ i ∧ i < tm_l p 1 r + 12) → p' 1 i = p 1 i) → post (tm_T k p')) : ∀ (n j a : Nat) (m : Int32), j ≤ 23 → 23 - j < n → a ≤ 22 → wX_sendShift_17 post (nI r) (nI f) (nI (p 0 0)) (nI (p 25 0)) (nI (p 26 0)) (fun i => nI (tm_f k (p 1 i))) (fun i => nI (p 2 i)) (fun i => nI (p 3 i)) (fun i => nI (p 4 i)) (fun i => nI (p 5 i)) (fun i => nI (p 6 i)) (fun i => nI (p 7 i)) (fun i => nI (p 8 i)) (fun i => nI (p 9 i)) (fun i => nI (p 10 i)) (fun i => nI (p 11 i)) (fun i => nI (p 12 i)) (fun i => nI (p 13 i)) (fun i => nI (p 14 i)) (fun i => nI (p 15 i)) (fun i => nI (p 16 i)) (fun i => nI (p 17 i)) (fun i => nI (p 18 i)) (fun i => nI (p 19 i)) (fun i => nI (p 20 i)) (fun i => nI (p 21 i)) (fun i => nI (p 22 i)) (fun i => nI (p 23 i)) (fun i => nI (tm_f k (p 24 i))) n (tm_z a) m (tm_z j) := by
  intro n
  induction n with
  | zero => intro j a m hj hn; exact absurd hn (by omega)
  | succ n ih =>
    intro j a m hj hn ha
    by_cases e : j = 23
    · subst e
      refine br_t (by decide) ?_
      have A := tm_z_a a (by omega)
      by_cases a11 : a = 11
      · exact br_t (A.2.2.2.2.1 a11) (hp p ⟨tm_S_r h h20, fun _ => rfl, rfl⟩ (fun _ _ => rfl))
      · refine br_f (A.2.2.2.2.2 a11) ?_
        obtain ⟨p1, M, run1⟩ := tm_sendMove h h20 hr hf
        have h1I := M.1.1
        have key : ∀ p', (tm_S p1 p' ∧ ((∀ i, ¬ (tm_l p1 1 (p1 4 1) + p1 5 1 ≤ i ∧ i < tm_l p1 1 (p1 4 1) + 12) → p' 1 i = p1 1 i) ∧ (∀ i, p' 3 i = p1 3 i) ∧ p' 12 1 = p1 12 1)) → post (tm_T k p') := by
          intro p' s
          have g3 : tm_3 p1 p' := ⟨s.1, s.2.2.1, s.2.2.2⟩
          refine hp p' (tm_3_t (tm_3_M M) g3) (fun i hi => ?_)
          have hl := tm_3_l (tm_3_M M) (t := 1) (by omega) r
          rw [s.2.1 i (by rw [M.2.2.2.2.1, M.2.2.2.2.2.1, hl]; exact hi)]
          exact M.2.1 i
        refine run1 k _ ?_
        by_cases a5 : a ≤ 11
        · refine br_t (A.2.2.1 a5).1 ?_
          obtain ⟨p', ⟨s, _, _, s2⟩, run⟩ := tm_sendOne (b := 64) (n := 11 - a) h1I (by omega) (by omega) (by omega)
          rw [(A.2.2.1 a5).2]
          exact run k _ (key p' ⟨s, s2 (Or.inl rfl)⟩)
        · refine br_f (A.2.2.2.1 (by omega)).1 ?_
          obtain ⟨p', ⟨s, _, _, s2⟩, run⟩ := tm_sendOne (b := 80) (n := a - 11) h1I (by omega) (by omega) (by omega)
          rw [(A.2.2.2.1 (by omega)).2]
          exact run k _ (key p' ⟨s, s2 (Or.inr rfl)⟩)
    · have J := tm_z_a j (by omega)
      refine br_f J.1 (tm_rightCells (k := k) (p := p) h hr (by omega) (fun v => br_c (fun _ => nm_r J.2.1 (ih (j + 1) a m (by omega) (by omega) ha)) (fun _ => nm_r J.2.1 (ih (j + 1) j v (by omega) (by omega) (by omega)))))
theorem tm_sendShift {k : Bool} {p : tm_P} {post : St1 → Prop} {r f : Nat} (h : tm_I p) (h20 : p 20 1 = 0) (hr : r ≤ 5) (hf : f ≤ 11)
    (hp : ∀ p', tm_3 p p' → (∀ i, ¬ (tm_l p 1 r + f ≤ i ∧ i < tm_l p 1 r + 12) → p' 1 i = p 1 i) → post (tm_T k p')) : wpX_sendShift post (tm_T k p) (nI r) (nI f) := by
  unfold wpX_sendShift tm_T
  dsimp only
  exact tm_rightCells (k := k) (p := p) h hr (by omega) (fun v => nm_e ⟨24, tm_shift_l h h20 hr hf hp 24 0 11 (v + 3) (by omega) (by omega) (by omega)⟩)
/-! the end of a row -/
theorem tm_sendK {p : tm_P} {r f : Nat} (h : tm_I p) (h20 : p 20 1 = 0) (hr : r ≤ 5) (hf : f ≤ 11) (he : ∀ c, f ≤ c → c < 12 → p 1 (tm_l p 0 r + c) = 32) :
    ∃ p', tm_imp r p p' ∧ ∀ (k : Bool) (x5 : Int32) (post : St1 → Prop), ¬ x5 < 3 → post (tm_T k p') → wX_sendEnd_66 post (nI r) (nI f) x5 (nI (p 0 0)) (nI (p 25 0)) (nI (p 26 0)) (fun i => nI (tm_f k (p 1 i))) (fun i => nI (p 2 i)) (fun i => nI (p 3 i)) (fun i => nI (p 4 i)) (fun i => nI (p 5 i)) (fun i => nI (p 6 i)) (fun i => nI (p 7 i)) (fun i => nI (p 8 i)) (fun i => nI (p 9 i)) (fun i => nI (p 10 i)) (fun i => nI (p 11 i)) (fun i => nI (p 12 i)) (fun i => nI (p 13 i)) (fun i => nI (p 14 i)) (fun i => nI (p 15 i)) (fun i => nI (p 16 i)) (fun i => nI (p 17 i)) (fun i => nI (p 18 i)) (fun i => nI (p 19 i)) (fun i => nI (p 20 i)) (fun i => nI (p 21 i)) (fun i => nI (p 22 i)) (fun i => nI (p 23 i)) (fun i => nI (tm_f k (p 24 i))) := by
  obtain ⟨p1, M, run1⟩ := tm_sendMove h h20 hr hf
  have hA := tm_pre_I (t := 1) (s := 2) (q := 0) (c := 1) (n := 0) M.1.1 (by omega) (by omega) (by omega) (by omega) (by omega)
  obtain ⟨p', ⟨R, s67, s68, s72, s75, s64⟩, run⟩ := tm_last (b := 75) (m := 0) (by omega) (tm_v_I hA (t := 1) (s := 0) (by omega) (by omega)) (t := 1) rfl rfl (Nat.le_refl 1) rfl
  have hS : tm_S p1 p' := ⟨R.1, R.2.2.1 20 1 (by omega) (by omega), R.2.2.2 rfl⟩
  have e := s75 rfl rfl
  have hl := tm_3_l (tm_3_M M) (t := 1) (by omega) r
  have e1 : ∀ g i, p' g i = tm_E (tm_u (tm_v 1 0 (tm_pre 1 2 0 1 0 p1)) 6 1 0) (tm_l p 1 r) f 12 g i := by
    intro g i
    rw [e]
    show tm_E _ (tm_l p1 1 (p1 4 1)) (p1 5 1) 12 g i = _
    rw [M.2.2.2.2.1, M.2.2.2.2.2.1, hl]
  have g3 : tm_3 p1 p' := ⟨hS, fun i => (e1 3 i).trans (tm_E_o _ _ _ _ _ _ (by omega)), (e1 12 1).trans (tm_E_o _ _ _ _ _ _ (by omega))⟩
  refine ⟨p', ⟨tm_3_t (tm_3_M M) g3, fun i => ?_⟩, fun k x5 post h5 hp => br_f h5 ?_⟩
  · by_cases q : tm_l p 1 r + f ≤ i ∧ i < tm_l p 1 r + 12
    · refine Or.inr ⟨i - tm_l p 1 r, by omega, by omega, ?_⟩
      rw [e1, tm_E_i _ _ _ _ _ q]
      exact (he _ (by omega) (by omega)).symm
    · refine Or.inl ?_
      rw [e1, tm_E_o _ _ _ _ _ _ (by omega)]
      exact M.2.1 i
  · refine run1 k _ ?_
    refine tm_sendE (k := k) (p := p1) _ ?_
    refine tm_sendB (k := k) (p := p1) _ ?_
    exact tm_send (fun post hp => tm_rd_last (t := 1) (s := 2) (b := 75) (by omega) (by omega) rfl (by omega) (by omega) run k post hp) _ hp
theorem tm_end_l {k : Bool} {p : tm_P} {post : St1 → Prop} {r : Nat} (h : tm_I p) (h20 : p 20 1 = 0) (hr : r ≤ 5) (hp : ∀ p', tm_imp r p p' → post (tm_T k p')) :
    ∀ (f w : Nat), f + w ≤ 12 → (∀ c, f ≤ c → c < 12 → p 1 (tm_l p 0 r + c) = 32) → ∃ fu, wX_sendEnd_21 post (nI r) (nI (tm_l p 0 r)) (nI (tm_l p 1 r)) (nI (p 0 0)) (nI (p 25 0)) (nI (p 26 0)) (fun i => nI (tm_f k (p 1 i))) (fun i => nI (p 2 i)) (fun i => nI (p 3 i)) (fun i => nI (p 4 i)) (fun i => nI (p 5 i)) (fun i => nI (p 6 i)) (fun i => nI (p 7 i)) (fun i => nI (p 8 i)) (fun i => nI (p 9 i)) (fun i => nI (p 10 i)) (fun i => nI (p 11 i)) (fun i => nI (p 12 i)) (fun i => nI (p 13 i)) (fun i => nI (p 14 i)) (fun i => nI (p 15 i)) (fun i => nI (p 16 i)) (fun i => nI (p 17 i)) (fun i => nI (p 18 i)) (fun i => nI (p 19 i)) (fun i => nI (p 20 i)) (fun i => nI (p 21 i)) (fun i => nI (p 22 i)) (fun i => nI (p 23 i)) (fun i => nI (tm_f k (p 24 i))) fu (nI f) (nI w) := by
  have fin : ∀ (f w : Nat), f + w ≤ 12 → (∀ c, f ≤ c → c < 12 → p 1 (tm_l p 0 r + c) = 32) → wX_sendEnd_66 post (nI r) (nI f) (nI w) (nI (p 0 0)) (nI (p 25 0)) (nI (p 26 0)) (fun i => nI (tm_f k (p 1 i))) (fun i => nI (p 2 i)) (fun i => nI (p 3 i)) (fun i => nI (p 4 i)) (fun i => nI (p 5 i)) (fun i => nI (p 6 i)) (fun i => nI (p 7 i)) (fun i => nI (p 8 i)) (fun i => nI (p 9 i)) (fun i => nI (p 10 i)) (fun i => nI (p 11 i)) (fun i => nI (p 12 i)) (fun i => nI (p 13 i)) (fun i => nI (p 14 i)) (fun i => nI (p 15 i)) (fun i => nI (p 16 i)) (fun i => nI (p 17 i)) (fun i => nI (p 18 i)) (fun i => nI (p 19 i)) (fun i => nI (p 20 i)) (fun i => nI (p 21 i)) (fun i => nI (p 22 i)) (fun i => nI (p 23 i)) (fun i => nI (tm_f k (p 24 i))) := by
    intro f w hw he
    by_cases w3 : w < 3
    · exact br_t (nI_lt (b := 3) w3 (by omega)) (hp p (tm_imp_r h h20))
    · obtain ⟨p', i, run⟩ := tm_sendK h h20 hr (f := f) (by omega) he
      exact run k _ post (nI_nlt (b := 3) (by omega) (by omega)) (hp p' i)
  intro f
  induction f with
  | zero =>
    intro w hw he
    exact ⟨1, pk_le 0 0 (fun _ => fin 0 w hw he) (fun z => absurd z (by omega))⟩
  | succ f ih =>
    intro w hw he
    have e1 : nI (tm_l p 0 r) + nI (f + 1) - 1 = nI (tm_l p 0 r + f) := by
      rw [nI_add]; exact nI_pred (tm_l p 0 r + f)
    by_cases e : p 1 (tm_l p 0 r + f) = 32
    · have he' : ∀ c, f ≤ c → c < 12 → p 1 (tm_l p 0 r + c) = 32 := by
        intro c c1 c2
        by_cases z : c = f
        · rw [z]; exact e
        · exact he c (by omega) c2
      obtain ⟨f0, k0⟩ := ih w (by omega) he'
      obtain ⟨f1, k1⟩ := ih (w + 1) (by omega) he'
      by_cases e2 : p 1 (tm_l p 1 r + f) = 32
      · refine ⟨f0 + 1, pk_le (f + 1) 0 (fun z => absurd z (by omega)) (fun _ => ?_)⟩
        rw [e1]
        refine tm_isEmpty (k := k) (p := p) h (tm_l_288 h (by omega) (by omega)) (fun _ => br_f (by decide) (nm_r (pk_m1 f) ?_)) (fun z => absurd e z)
        rw [nI_add]
        refine tm_isEmpty (k := k) (p := p) h (tm_l_288 h (by omega) (by omega)) (fun _ => br_f (by decide) (nm_r (e' := nI w) ?_ k0)) (fun z => absurd e2 z)
        exact nI_add w 0
      · refine ⟨f1 + 1, pk_le (f + 1) 0 (fun z => absurd z (by omega)) (fun _ => ?_)⟩
        rw [e1]
        refine tm_isEmpty (k := k) (p := p) h (tm_l_288 h (by omega) (by omega)) (fun _ => br_f (by decide) (nm_r (pk_m1 f) ?_)) (fun z => absurd e z)
        rw [nI_add]
        exact tm_isEmpty (k := k) (p := p) h (tm_l_288 h (by omega) (by omega)) (fun z => absurd z e2) (fun _ => br_t rfl (nm_r (nI_1 w) k1))
    · refine ⟨1, pk_le (f + 1) 0 (fun z => absurd z (by omega)) (fun _ => ?_)⟩
      rw [e1]
      exact tm_isEmpty (k := k) (p := p) h (tm_l_288 h (by omega) (by omega)) (fun z => absurd z e) (fun _ => br_t rfl (fin (f + 1) w hw he))
theorem tm_sendEnd {k : Bool} {p : tm_P} {post : St1 → Prop} {r : Nat} (h : tm_I p) (h20 : p 20 1 = 0) (hr : r ≤ 5) (hp : ∀ p', tm_imp r p p' → post (tm_T k p')) : wpX_sendEnd post (tm_T k p) (nI r) := by
  have := tm_end_l h h20 hr hp 12 0 (by omega) (fun c c1 c2 => absurd c1 (by omega))
  unfold wpX_sendEnd tm_T
  dsimp only
  exact tm_lineOf (k := k) (p := p) (t := 0) h (by omega) hr (tm_lineOf (k := k) (p := p) (t := 1) h (by omega) hr this)
/-! a bridge -/
theorem tm_bridge_l {k : Bool} {post : St1 → Prop} {r col l : Nat} (hc : col ≤ 11) : ∀ (d c : Nat) (p : tm_P), c + d = col → tm_I p → p 20 1 = 0 → p 4 1 = r → p 5 1 = c → p 6 1 = 0 → tm_l p 0 r = l → (∀ p', tm_imp r p p' → post (tm_T k p')) →
    ∃ fu, wX_sendBridge_105 post (nI col) (nI l) 1 fu (nI c) (nI (p 0 0)) (nI (p 25 0)) (nI (p 26 0)) (fun i => nI (tm_f k (p 1 i))) (fun i => nI (p 2 i)) (fun i => nI (p 3 i)) (fun i => nI (p 4 i)) (fun i => nI (p 5 i)) (fun i => nI (p 6 i)) (fun i => nI (p 7 i)) (fun i => nI (p 8 i)) (fun i => nI (p 9 i)) (fun i => nI (p 10 i)) (fun i => nI (p 11 i)) (fun i => nI (p 12 i)) (fun i => nI (p 13 i)) (fun i => nI (p 14 i)) (fun i => nI (p 15 i)) (fun i => nI (p 16 i)) (fun i => nI (p 17 i)) (fun i => nI (p 18 i)) (fun i => nI (p 19 i)) (fun i => nI (p 20 i)) (fun i => nI (p 21 i)) (fun i => nI (p 22 i)) (fun i => nI (p 23 i)) (fun i => nI (tm_f k (p 24 i))) := by
  intro d
  induction d with
  | zero =>
    intro c p hd h h20 h4 h5 h6 hl hp
    exact ⟨1, pk_le col c (fun _ => hp p (tm_imp_r h h20)) (fun z => absurd z (by omega))⟩
  | succ d ih =>
    intro c p hd h h20 h4 h5 h6 hl hp
    obtain ⟨p1, ⟨i1, _, q4, q5⟩, run1⟩ := tm_sendSign h h20 h4 h5 h6 (by omega)
    obtain ⟨q5, q6⟩ := q5 (by omega)
    obtain ⟨fu, hf⟩ := ih (c + 1) p1 (by omega) i1.1.1.1 i1.1.1.2.1 q4 q5 q6 ((tm_3_l i1.1 (by omega) r).trans hl) (fun p' i2 => hp p' (tm_imp_t h i1 i2))
    have hL := tm_l_288 h (t := 0) (r := r) (c := c) (by omega) (by omega)
    subst hl
    have e : nI (tm_l p 0 r) + nI c = nI (tm_l p 0 r + c) := nI_add _ _
    refine ⟨fu + 1, pk_le col c (fun z => absurd z (by omega)) (fun _ => br_f (by decide) ⟨?_, ?_⟩)⟩
    · rw [e]; exact vp_in_nI hL (by omega)
    · show wpX_send _ (tm_T k p) (nI (tm_f k (p 1 (nI (tm_l p 0 r) + nI c).toNatClampNeg)))
      rw [e, tm_cl (by omega)]
      exact run1 k _ (nm_r (nI_1 c) hf)
theorem tm_near_l {k : Bool} {p : tm_P} {post : St1 → Prop} {col there l : Nat} (h : tm_I p) (hc : col ≤ 11) (hl : l ≤ 276) (H : ∃ fu, wX_sendBridge_105 post (nI col) (nI l) 1 fu (nI there) (nI (p 0 0)) (nI (p 25 0)) (nI (p 26 0)) (fun i => nI (tm_f k (p 1 i))) (fun i => nI (p 2 i)) (fun i => nI (p 3 i)) (fun i => nI (p 4 i)) (fun i => nI (p 5 i)) (fun i => nI (p 6 i)) (fun i => nI (p 7 i)) (fun i => nI (p 8 i)) (fun i => nI (p 9 i)) (fun i => nI (p 10 i)) (fun i => nI (p 11 i)) (fun i => nI (p 12 i)) (fun i => nI (p 13 i)) (fun i => nI (p 14 i)) (fun i => nI (p 15 i)) (fun i => nI (p 16 i)) (fun i => nI (p 17 i)) (fun i => nI (p 18 i)) (fun i => nI (p 19 i)) (fun i => nI (p 20 i)) (fun i => nI (p 21 i)) (fun i => nI (p 22 i)) (fun i => nI (p 23 i)) (fun i => nI (tm_f k (p 24 i)))) : ∀ (d c : Nat), c + d = col → ∃ fu, wX_sendBridge_59 post (nI col) (nI l) (nI there) (nI (p 0 0)) (nI (p 25 0)) (nI (p 26 0)) (fun i => nI (tm_f k (p 1 i))) (fun i => nI (p 2 i)) (fun i => nI (p 3 i)) (fun i => nI (p 4 i)) (fun i => nI (p 5 i)) (fun i => nI (p 6 i)) (fun i => nI (p 7 i)) (fun i => nI (p 8 i)) (fun i => nI (p 9 i)) (fun i => nI (p 10 i)) (fun i => nI (p 11 i)) (fun i => nI (p 12 i)) (fun i => nI (p 13 i)) (fun i => nI (p 14 i)) (fun i => nI (p 15 i)) (fun i => nI (p 16 i)) (fun i => nI (p 17 i)) (fun i => nI (p 18 i)) (fun i => nI (p 19 i)) (fun i => nI (p 20 i)) (fun i => nI (p 21 i)) (fun i => nI (p 22 i)) (fun i => nI (p 23 i)) (fun i => nI (tm_f k (p 24 i))) fu 1 (nI c) := by
  intro d
  induction d with
  | zero =>
    intro c hd
    exact ⟨1, pk_le col c (fun _ => H) (fun z => absurd z (by omega))⟩
  | succ d ih =>
    intro c hd
    obtain ⟨fu, hf⟩ := ih (c + 1) (by omega)
    have e : nI l + nI c = nI (l + c) := nI_add _ _
    have z2 : p 2 (l + c) = 0 := h.1 2 _
    have z7 : p 7 1 = 0 := h.1 7 1
    refine ⟨fu + 1, pk_le col c (fun z => absurd z (by omega)) (fun _ => br_f (by decide) ⟨?_, br_t ?_ (nm_r (nI_1 c) hf)⟩)⟩
    · rw [e]; exact vp_in_nI (by omega) (by omega)
    · show nI (p 2 (nI l + nI c).toNatClampNeg) = nI (p 7 1)
      rw [e, tm_cl (by omega), z2, z7]
theorem tm_sendBridge {k : Bool} {p : tm_P} {post : St1 → Prop} {r col : Nat} (h : tm_I p) (h20 : p 20 1 = 0) (hr : r ≤ 5) (hc : col ≤ 11) (hp : ∀ p', tm_imp r p p' → post (tm_T k p')) : wpX_sendBridge post (tm_T k p) (nI r) (nI col) := by
  have h5 : p 5 1 ≤ 11 := h.1 5 1
  have h4 : p 4 1 ≤ 5 := h.1 4 1
  have h6 : p 6 1 ≤ 1 := h.1 6 1
  have hl := tm_l_lt h 0 r
  have far : ∃ fu, wX_sendBridge_59 post (nI col) (nI (tm_l p 0 r)) (nI (p 5 1)) (nI (p 0 0)) (nI (p 25 0)) (nI (p 26 0)) (fun i => nI (tm_f k (p 1 i))) (fun i => nI (p 2 i)) (fun i => nI (p 3 i)) (fun i => nI (p 4 i)) (fun i => nI (p 5 i)) (fun i => nI (p 6 i)) (fun i => nI (p 7 i)) (fun i => nI (p 8 i)) (fun i => nI (p 9 i)) (fun i => nI (p 10 i)) (fun i => nI (p 11 i)) (fun i => nI (p 12 i)) (fun i => nI (p 13 i)) (fun i => nI (p 14 i)) (fun i => nI (p 15 i)) (fun i => nI (p 16 i)) (fun i => nI (p 17 i)) (fun i => nI (p 18 i)) (fun i => nI (p 19 i)) (fun i => nI (p 20 i)) (fun i => nI (p 21 i)) (fun i => nI (p 22 i)) (fun i => nI (p 23 i)) (fun i => nI (tm_f k (p 24 i))) fu 0 (nI (p 5 1)) := by
    have f105 : ∃ fu, wX_sendBridge_105 post (nI col) (nI (tm_l p 0 r)) 0 fu (nI (p 5 1)) (nI (p 0 0)) (nI (p 25 0)) (nI (p 26 0)) (fun i => nI (tm_f k (p 1 i))) (fun i => nI (p 2 i)) (fun i => nI (p 3 i)) (fun i => nI (p 4 i)) (fun i => nI (p 5 i)) (fun i => nI (p 6 i)) (fun i => nI (p 7 i)) (fun i => nI (p 8 i)) (fun i => nI (p 9 i)) (fun i => nI (p 10 i)) (fun i => nI (p 11 i)) (fun i => nI (p 12 i)) (fun i => nI (p 13 i)) (fun i => nI (p 14 i)) (fun i => nI (p 15 i)) (fun i => nI (p 16 i)) (fun i => nI (p 17 i)) (fun i => nI (p 18 i)) (fun i => nI (p 19 i)) (fun i => nI (p 20 i)) (fun i => nI (p 21 i)) (fun i => nI (p 22 i)) (fun i => nI (p 23 i)) (fun i => nI (tm_f k (p 24 i))) := ⟨1, br_c (fun _ => hp p (tm_imp_r h h20)) (fun _ => br_t rfl (hp p (tm_imp_r h h20)))⟩
    exact ⟨1, br_c (fun _ => f105) (fun _ => br_t rfl f105)⟩
  unfold wpX_sendBridge tm_T
  dsimp only
  refine tm_lineOf (k := k) (p := p) (t := 0) h (by omega) hr (nm_e (pk_eq (p 4 1) r (fun e4 => pk_eq (p 6 1) 0 (fun e6 => pk_le col (p 5 1) (fun _ => far) (fun lt => br_c (fun _ => far) (fun _ => ?_))) (fun _ => far)) (fun _ => far)))
  exact tm_near_l h hc (by omega) (tm_bridge_l hc (col - p 5 1) (p 5 1) p (by omega) h h20 e4 rfl e6 rfl hp) (col - p 5 1) (p 5 1) (by omega)
/-! one row, all rows -/
theorem tm_row_l {k : Bool} {post : St1 → Prop} {r l : Nat} (hr : r ≤ 5) : ∀ (n c : Nat) (p : tm_P), c ≤ 12 → 12 - c < n → tm_I p → p 20 1 = 0 → tm_l p 0 r = l → (∀ j, j < c → tm_X p r j) → (∀ p', tm_imp r p p' → (∀ j, j < 12 → tm_X p' r j) → post (tm_T k p')) →
    wX_sendRow_34 post (nI r) (nI l) n (nI c) (nI (p 0 0)) (nI (p 25 0)) (nI (p 26 0)) (fun i => nI (tm_f k (p 1 i))) (fun i => nI (p 2 i)) (fun i => nI (p 3 i)) (fun i => nI (p 4 i)) (fun i => nI (p 5 i)) (fun i => nI (p 6 i)) (fun i => nI (p 7 i)) (fun i => nI (p 8 i)) (fun i => nI (p 9 i)) (fun i => nI (p 10 i)) (fun i => nI (p 11 i)) (fun i => nI (p 12 i)) (fun i => nI (p 13 i)) (fun i => nI (p 14 i)) (fun i => nI (p 15 i)) (fun i => nI (p 16 i)) (fun i => nI (p 17 i)) (fun i => nI (p 18 i)) (fun i => nI (p 19 i)) (fun i => nI (p 20 i)) (fun i => nI (p 21 i)) (fun i => nI (p 22 i)) (fun i => nI (p 23 i)) (fun i => nI (tm_f k (p 24 i))) := by
  intro n
  induction n with
  | zero => intro c p hc hn; exact absurd hn (by omega)
  | succ n ih =>
    intro c p hc hn h h20 hl hx hp
    refine pk_le 12 c (fun z => hp p (tm_imp_r h h20) (fun j hj => hx j (by omega))) (fun c12 => ?_)
    have hL := tm_l_288 h (t := 0) (r := r) (c := c) (by omega) (by omega)
    refine tm_lineOf (k := k) (p := p) (t := 1) h (by omega) hr ?_
    subst hl
    have e : nI (tm_l p 0 r) + nI c = nI (tm_l p 0 r + c) := nI_add _ _
    have ei : vp_in (nI (tm_l p 0 r + c)) 288 := vp_in_nI hL (by omega)
    have ec : (nI (tm_l p 0 r + c)).toNatClampNeg = tm_l p 0 r + c := tm_cl (by omega)
    show wpX_sameCells _ (tm_T k p) (nI (tm_l p 0 r) + nI c) (nI (tm_l p 1 r) + nI c)
    rw [show nI (tm_l p 1 r) + nI c = nI (tm_l p 1 r + c) from nI_add _ _, e]
    refine tm_same (k := k) (p := p) h hL (tm_l_288 h (by omega) (by omega)) (fun x => br_f (by decide) (nm_r (nI_1 c) ?_)) (fun x => br_t rfl ?_)
    · exact ih (c + 1) p (by omega) (by omega) h h20 rfl (fun j hj => by
        by_cases z : j = c
        · rw [z]; exact x
        · exact hx j (by omega)) hp
    · refine tm_sendBridge (k := k) (p := p) h h20 hr (by omega) (fun p1 i1 => ?_)
      have I1 := i1.1.1.1
      obtain ⟨p2, M, run2⟩ := tm_sendMove I1 i1.1.1.2.1 hr (show c ≤ 11 by omega)
      have i2 : tm_imp r p p2 := tm_imp_t h i1 (tm_imp_M M)
      have I2 := i2.1.1.1
      have l2 := tm_3_l i2.1 (t := 0) (by omega) r
      obtain ⟨p3, ⟨i3, x3, _, _⟩, run3⟩ := tm_sendSign (r := r) (c := c) I2 i2.1.1.2.1 M.2.2.2.2.1 M.2.2.2.2.2.1 M.2.2.2.2.2.2 (by omega)
      rw [l2] at run3
      refine run2 k _ ⟨ei, ?_⟩
      show wpX_sendPen _ (tm_T k p2) (nI (p2 2 (nI (tm_l p 0 r + c)).toNatClampNeg))
      rw [show p2 2 (nI (tm_l p 0 r + c)).toNatClampNeg = 0 from I2.1 2 _]
      refine tm_sendPen (k := k) I2 ⟨ei, ?_⟩
      show wpX_send _ (tm_T k p2) (nI (tm_f k (p2 1 (nI (tm_l p 0 r + c)).toNatClampNeg)))
      rw [ec]
      refine run3 k _ (nm_r (nI_1 c) ?_)
      have i4 : tm_imp r p p3 := tm_imp_t h i2 i3
      refine ih (c + 1) p3 (by omega) (by omega) i4.1.1.1 i4.1.1.2.1 (tm_3_l i4.1 (by omega) r) (fun j hj => ?_) (fun p' i5 => hp p' (tm_imp_t h i4 i5))
      by_cases z : j = c
      · rw [z]; exact x3
      · exact tm_imp_X h i4 (by omega) (by omega) (by omega) (hx j (by omega))
theorem tm_sendRow {k : Bool} {p : tm_P} {post : St1 → Prop} {r : Nat} (h : tm_I p) (h20 : p 20 1 = 0) (hr : r ≤ 5)
    (hp : ∀ p', tm_S p p' → (∀ c, c < 12 → tm_X p' r c) → (∀ s c, s < 6 → s ≠ r → c < 12 → tm_X p s c → tm_X p' s c) → post (tm_T k p')) : wpX_sendRow post (tm_T k p) (nI r) := by
  unfold wpX_sendRow tm_T
  dsimp only
  refine tm_firstStale (k := k) (p := p) h hr (fun f hf hx => pk_eq f 12 (fun e => hp p (tm_S_r h h20) (fun c hc => hx c (by omega)) (fun s c _ _ _ x => x)) (fun e => ?_))
  refine tm_sendShift (k := k) (p := p) h h20 hr (by omega) (fun p1 t1 c1 => ?_)
  have I1 := t1.1.1
  -- what the shift leaves right
  have x1 : ∀ s c, s < 6 → c < 12 → (s ≠ r ∨ c < f) → tm_X p s c → tm_X p1 s c := by
    intro s c hs hc hd hX
    unfold tm_X
    rw [tm_3_f h t1 hc, tm_3_l t1 (by omega), c1 _ ?_]
    · exact hX
    · intro z
      have sp := tm_sep h (r := s) (s := r) (c := c) (d := tm_l p 1 s + c - tm_l p 1 r) hs (by omega) hc (by omega) (by omega)
      omega
  refine tm_sendEnd (k := k) (p := p1) I1 t1.1.2.1 hr (fun p2 i2 => ?_)
  have I2 := i2.1.1.1
  refine tm_lineOf (k := k) (p := p2) (t := 0) I2 (by omega) hr ⟨13, ?_⟩
  refine tm_row_l hr 13 f p2 hf (by omega) I2 i2.1.1.2.1 rfl (fun j hj => tm_imp_X I1 i2 (by omega) (by omega) (by omega) (x1 r j (by omega) (by omega) (Or.inr hj) (hx j hj))) (fun p3 i3 x3 => ?_)
  have i4 := tm_imp_t I1 i2 i3
  exact hp p3 (tm_S_t t1.1 i4.1.1) x3 (fun s c hs hsr hc hX => tm_imp_X I1 i4 (by omega) hs hc (x1 s c hs hc (Or.inl hsr) hX))
theorem tm_refresh_l {k : Bool} {post : Int32 → St1 → Prop} {x : Int32} (hp : ∀ p', tm_I p' → (∀ r c, r < 6 → c < 12 → tm_X p' r c) → post x (tm_T k p')) : ∀ (n r : Nat) (p : tm_P), r ≤ 6 → 6 - r < n → tm_I p → p 20 1 = 0 → (∀ s c, s < r → c < 12 → tm_X p s c) →
    wX_refresh_15 post x n (nI r) (nI (p 0 0)) (nI (p 25 0)) (nI (p 26 0)) (fun i => nI (tm_f k (p 1 i))) (fun i => nI (p 2 i)) (fun i => nI (p 3 i)) (fun i => nI (p 4 i)) (fun i => nI (p 5 i)) (fun i => nI (p 6 i)) (fun i => nI (p 7 i)) (fun i => nI (p 8 i)) (fun i => nI (p 9 i)) (fun i => nI (p 10 i)) (fun i => nI (p 11 i)) (fun i => nI (p 12 i)) (fun i => nI (p 13 i)) (fun i => nI (p 14 i)) (fun i => nI (p 15 i)) (fun i => nI (p 16 i)) (fun i => nI (p 17 i)) (fun i => nI (p 18 i)) (fun i => nI (p 19 i)) (fun i => nI (p 20 i)) (fun i => nI (p 21 i)) (fun i => nI (p 22 i)) (fun i => nI (p 23 i)) (fun i => nI (tm_f k (p 24 i))) := by
  intro n
  induction n with
  | zero => intro r p hr hn; exact absurd hn (by omega)
  | succ n ih =>
    intro r p hr hn h h20 hx
    refine pk_le 6 r (fun z => ?_) (fun z => ?_)
    · have hI : tm_I (tm_u p 0 0 0) := tm_Iu h (by show (0 : Nat) ≤ 1; omega) (by omega) (by omega) (by omega)
      exact hp (tm_u p 0 0 0) hI (fun s c hs hc => hx s c (by omega) hc)
    · refine tm_sendRow (k := k) (p := p) h h20 (by omega) (fun p' s x1 x2 => nm_r (nI_1 r) (ih (r + 1) p' (by omega) (by omega) s.1 s.2.1 (fun a c ha hc => ?_)))
      by_cases e : a = r
      · rw [e]; exact x1 c hc
      · exact x2 a c (by omega) e hc (hx a c (by omega) hc)
theorem tm_refresh {k : Bool} {p : tm_P} {post : Int32 → St1 → Prop} (h : tm_L p) (hp : ∀ p', tm_I p' → (∀ r c, r < 6 → c < 12 → tm_X p' r c) → post (nI (tm_ds p 6)) (tm_T k p')) : wpX_refresh post (tm_T k p) := by
  have hd := tm_ds_le p 6
  unfold wpX_refresh tm_T
  dsimp only
  refine tm_stale (k := k) (p := p) h.1 (pk_le (tm_ds p 6) 0 (fun _ => ⟨7, ?_⟩) (fun _ => ?_))
  · exact tm_refresh_l hp 7 0 p (by omega) (by omega) h.1 h.2.2 (fun s c hs => absurd hs (by omega))
  · refine tm_sendScroll (k := k) (p := p) h.1 h.2.2 (fun p' s => ⟨7, ?_⟩)
    exact tm_refresh_l hp 7 0 p' (by omega) (by omega) s.1 s.2.1 (fun s c hs => absurd hs (by omega))
end
section
/-! a new object -/
def tm_sl (p : tm_P) (t m : Nat) : tm_P := fun g i => bif Nat.beq g 3 then (if 12 * t ≤ i ∧ i < 12 * t + m then i - 12 * t else p 3 i) else p g i
theorem tm_sl_3 (p : tm_P) (t m i : Nat) : tm_sl p t m 3 i = if 12 * t ≤ i ∧ i < 12 * t + m then i - 12 * t else p 3 i := rfl
theorem tm_sl_o (p : tm_P) (t m : Nat) {g : Nat} (i : Nat) (h : g ≠ 3) : tm_sl p t m g i = p g i := by
  unfold tm_sl
  cases e : Nat.beq g 3 with
  | true => exact absurd (Nat.eq_of_beq_eq_true e) h
  | false => rfl
theorem tm_sl_0 (p : tm_P) (t : Nat) : tm_sl p t 0 = p := by
  funext g i
  by_cases e : g = 3
  · subst e; rw [tm_sl_3, if_neg (by omega)]
  · rw [tm_sl_o _ _ _ _ e]
theorem tm_sl_s (p : tm_P) (t m : Nat) : tm_u (tm_sl p t m) 3 (12 * t + m) m = tm_sl p t (m + 1) := by
  funext g i
  rw [tm_ue]
  by_cases g3 : g = 3
  · subst g3
    rw [tm_sl_3, tm_sl_3]
    by_cases e : i = 12 * t + m
    · rw [if_pos ⟨rfl, e⟩, if_pos (by omega)]; omega
    · rw [if_neg (fun z => e z.2)]
      by_cases z : 12 * t ≤ i ∧ i < 12 * t + m
      · rw [if_pos z, if_pos (by omega)]
      · rw [if_neg z, if_neg (by omega)]
  · rw [if_neg (fun z => g3 z.1), tm_sl_o _ _ _ _ g3, tm_sl_o _ _ _ _ g3]
theorem tm_sl_W {p : tm_P} (h : tm_W p) (t m : Nat) (hm : m ≤ 12) : tm_W (tm_sl p t m) := by
  refine ⟨h.1, h.2.1, fun i => ?_⟩
  rw [tm_sl_3]
  by_cases z : 12 * t ≤ i ∧ i < 12 * t + m
  · rw [if_pos z]; omega
  · rw [if_neg z]; exact h.2.2 i
theorem tm_W12 {p : tm_P} (h : tm_W p) {i v : Nat} (hv : v ≤ 1) : tm_W (tm_u p 12 i v) := by
  refine ⟨h.1, fun j => ?_, h.2.2⟩
  rw [tm_ue]
  split
  · exact hv
  · exact h.2.1 j
theorem tm_clear9 {k : Bool} {post : St1 → Prop} {J : Int32 → (Nat → Int32) → (Nat → Int32) → (Nat → Int32) → (Nat → Int32) → (Nat → Int32) → (Nat → Int32) → (Nat → Int32) → (Nat → Int32) → (Nat → Int32) → (Nat → Int32) → (Nat → Int32) → (Nat → Int32) → (Nat → Int32) → (Nat → Int32) → (Nat → Int32) → (Nat → Int32) → (Nat → Int32) → (Nat → Int32) → (Nat → Int32) → (Nat → Int32) → (Nat → Int32) → (Nat → Int32) → (Nat → Int32) → (Nat → Int32) → Prop} {p : tm_P} {t kk : Nat} {at_ kc kn : Int32} (hat : at_ = nI t) (ht : t ≤ 1) (hk : kk ≤ 1) (hJ : J (nI (kk + 1)) (fun i => nI (tm_f k ((tm_sl p t (6 * kk + 6)) 1 i))) (fun i => nI ((tm_sl p t (6 * kk + 6)) 2 i)) (fun i => nI ((tm_sl p t (6 * kk + 6)) 3 i)) (fun i => nI ((tm_sl p t (6 * kk + 6)) 4 i)) (fun i => nI ((tm_sl p t (6 * kk + 6)) 5 i)) (fun i => nI ((tm_sl p t (6 * kk + 6)) 6 i)) (fun i => nI ((tm_sl p t (6 * kk + 6)) 7 i)) (fun i => nI ((tm_sl p t (6 * kk + 6)) 8 i)) (fun i => nI ((tm_sl p t (6 * kk + 6)) 9 i)) (fun i => nI ((tm_sl p t (6 * kk + 6)) 10 i)) (fun i => nI ((tm_sl p t (6 * kk + 6)) 11 i)) (fun i => nI ((tm_sl p t (6 * kk + 6)) 12 i)) (fun i => nI ((tm_sl p t (6 * kk + 6)) 13 i)) (fun i => nI ((tm_sl p t (6 * kk + 6)) 14 i)) (fun i => nI ((tm_sl p t (6 * kk + 6)) 15 i)) (fun i => nI ((tm_sl p t (6 * kk + 6)) 16 i)) (fun i => nI ((tm_sl p t (6 * kk + 6)) 17 i)) (fun i => nI ((tm_sl p t (6 * kk + 6)) 18 i)) (fun i => nI ((tm_sl p t (6 * kk + 6)) 19 i)) (fun i => nI ((tm_sl p t (6 * kk + 6)) 20 i)) (fun i => nI ((tm_sl p t (6 * kk + 6)) 21 i)) (fun i => nI ((tm_sl p t (6 * kk + 6)) 22 i)) (fun i => nI ((tm_sl p t (6 * kk + 6)) 23 i)) (fun i => nI (tm_f k ((tm_sl p t (6 * kk + 6)) 24 i)))) :
    ∀ d r : Nat, r + d = 6 → ∃ fu, wX_clearAll_9 post J (nI kk) at_ kc kn fu (nI r) (fun i => nI (tm_f k ((tm_sl p t (6 * kk + r)) 1 i))) (fun i => nI ((tm_sl p t (6 * kk + r)) 2 i)) (fun i => nI ((tm_sl p t (6 * kk + r)) 3 i)) (fun i => nI ((tm_sl p t (6 * kk + r)) 4 i)) (fun i => nI ((tm_sl p t (6 * kk + r)) 5 i)) (fun i => nI ((tm_sl p t (6 * kk + r)) 6 i)) (fun i => nI ((tm_sl p t (6 * kk + r)) 7 i)) (fun i => nI ((tm_sl p t (6 * kk + r)) 8 i)) (fun i => nI ((tm_sl p t (6 * kk + r)) 9 i)) (fun i => nI ((tm_sl p t (6 * kk + r)) 10 i)) (fun i => nI ((tm_sl p t (6 * kk + r)) 11 i)) (fun i => nI ((tm_sl p t (6 * kk + r)) 12 i)) (fun i => nI ((tm_sl p t (6 * kk + r)) 13 i)) (fun i => nI ((tm_sl p t (6 * kk + r)) 14 i)) (fun i => nI ((tm_sl p t (6 * kk + r)) 15 i)) (fun i => nI ((tm_sl p t (6 * kk + r)) 16 i)) (fun i => nI ((tm_sl p t (6 * kk + r)) 17 i)) (fun i => nI ((tm_sl p t (6 * kk + r)) 18 i)) (fun i => nI ((tm_sl p t (6 * kk + r)) 19 i)) (fun i => nI ((tm_sl p t (6 * kk + r)) 20 i)) (fun i => nI ((tm_sl p t (6 * kk + r)) 21 i)) (fun i => nI ((tm_sl p t (6 * kk + r)) 22 i)) (fun i => nI ((tm_sl p t (6 * kk + r)) 23 i)) (fun i => nI (tm_f k ((tm_sl p t (6 * kk + r)) 24 i))) := by
  intro d
  induction d with
  | zero =>
    intro r hr
    have e : r = 6 := by omega
    subst e
    exact ⟨1, pk_le 6 6 (fun _ => nm_r (nI_1 kk) hJ) (fun z => absurd z (by omega))⟩
  | succ d ih =>
    intro r hr
    obtain ⟨fu, hf⟩ := ih (r + 1) (by omega)
    have e : (at_ * 2 + nI kk) * 6 + nI r = nI (12 * t + (6 * kk + r)) := by
      rw [hat]
      show (nI t * nI 2 + nI kk) * nI 6 + nI r = _
      rw [pk_mul, nI_add, pk_mul, nI_add, show (t * 2 + kk) * 6 + r = 12 * t + (6 * kk + r) by omega]
    have e2 : nI kk * 6 + nI r = nI (6 * kk + r) := by
      show nI kk * nI 6 + nI r = _
      rw [pk_mul, nI_add, show kk * 6 + r = 6 * kk + r by omega]
    have u : upd (fun i => nI (tm_sl p t (6 * kk + r) 3 i)) ((at_ * 2 + nI kk) * 6 + nI r).toNatClampNeg (nI kk * 6 + nI r).toInt8.toInt32 = fun i => nI (tm_sl p t (6 * kk + (r + 1)) 3 i) := by
      rw [tm_up (tm_sl p t (6 * kk + r)) 3 (12 * t + (6 * kk + r)) (6 * kk + r) (by rw [e]; exact tm_cl (by omega)) (by rw [e2]; exact tm_b8 _ (by omega)), tm_sl_s]
      rfl
    refine ⟨fu + 1, pk_le 6 r (fun z => absurd z (by omega)) (fun _ => ⟨?_, nm_r u (nm_r (nI_1 r) ?_)⟩)⟩
    · rw [e]; exact vp_in_nI (by omega) (by omega)
    · exact hf
def tm_c0 (g : Nat) : Nat := if g = 9 then 5 else if g = 11 then 1 else 0
/-- what clearAll leaves -/
def tm_K (t : Nat) (p p' : tm_P) : Prop :=
  (∀ i, p' 0 i = p 0 i) ∧ (∀ i, p' 1 i = p 1 i ∨ p' 1 i = 32) ∧ (∀ i, 144 * t ≤ i → i < 144 * t + 144 → p' 1 i = 32) ∧ (∀ i, p' 2 i = p 2 i ∨ p' 2 i = 0)
  ∧ (∀ i, p' 3 i = if 12 * t ≤ i ∧ i < 12 * t + 12 then i - 12 * t else p 3 i) ∧ (∀ g i, 4 ≤ g → p' g i = p g i ∨ p' g i = tm_c0 g) ∧ p' 9 t = 5 ∧ (∀ i, i ≠ t → p' 9 i = p 9 i)
/-- a written place that is one of clearAll's -/
theorem tm_K_u {p q : tm_P} {g0 i0 v : Nat} (h0 : v = tm_c0 g0) (h : ∀ g i, 4 ≤ g → q g i = p g i ∨ q g i = tm_c0 g) : ∀ g i, 4 ≤ g → tm_u q g0 i0 v g i = p g i ∨ tm_u q g0 i0 v g i = tm_c0 g := by
  intro g i hg
  rw [tm_ue]
  by_cases e : g = g0 ∧ i = i0
  · rw [if_pos e, h0, e.1]; exact Or.inr rfl
  · rw [if_neg e]; exact h g i hg
theorem tm_clearAll {p : tm_P} {t : Nat} (h : tm_W p) (h0 : p 0 0 = t) : ∃ p', tm_K t p p' ∧ p' 12 t = 0 ∧ ∀ (k : Bool) (post : St1 → Prop), post (tm_T k p') → wpX_clearAll post (tm_T k p) := by
  have ht := h.1
  rw [h0] at ht
  have c := tm_acW h h0
  have W1 := tm_W12 (i := t) (v := 1) (tm_sl_W h t 12 (by omega)) (by omega)
  obtain ⟨p2, ⟨e2, c2⟩, run2⟩ := tm_emptyRows (t := t) (a := 0) (b := 6) (by omega) (by omega) W1 h0
  have W2 := tm_W12 (i := t) (v := 0) (tm_ee_W W1 e2) (by omega)
  have h20 : p2 0 0 = t := (tm_ee_o e2 0 (by omega) (by omega)).trans h0
  obtain ⟨p3, ⟨e3, c3⟩, run3⟩ := tm_emptyRows (t := t) (a := 0) (b := 6) (by omega) (by omega) W2 h20
  have W3 := tm_ee_W W2 e3
  have h30 : p3 0 0 = t := (tm_ee_o e3 0 (by omega) (by omega)).trans h20
  have cc2 := tm_acW (tm_ee_W W1 e2) h20
  have cc3 := tm_acW W3 h30
  -- the chain of single places
  let q1 := tm_u (tm_u p3 4 t 0) 5 t 0
  let q2 := tm_u (tm_u q1 8 t 0) 9 t 5
  let q3 := tm_u (tm_u (tm_u (tm_u q2 6 t 0) 7 t 0) 10 t 0) 11 t 1
  let q4 := tm_u (tm_u (tm_u (tm_u q3 13 t 0) 14 t 0) 15 t 0) 20 t 0
  let q5 := tm_u (tm_u q4 25 0 0) 26 0 0
  have A4 : ∀ g i, 4 ≤ g → p3 g i = p g i ∨ p3 g i = tm_c0 g := by
    intro g i hg
    rw [tm_ee_o e3 _ (by omega) (by omega), tm_ue]
    by_cases z : g = 12 ∧ i = t
    · rw [if_pos z, z.1]; exact Or.inr rfl
    · rw [if_neg z, tm_ee_o e2 _ (by omega) (by omega), tm_uN _ _ _ _ (by omega), tm_sl_o _ _ _ _ (by omega)]
      exact Or.inl rfl
  have A4' : ∀ g i, 4 ≤ g → q4 g i = p g i ∨ q4 g i = tm_c0 g := tm_K_u rfl (tm_K_u rfl (tm_K_u rfl (tm_K_u rfl (tm_K_u rfl (tm_K_u rfl (tm_K_u rfl (tm_K_u rfl (tm_K_u rfl (tm_K_u rfl (tm_K_u rfl (tm_K_u rfl A4)))))))))))
  have A5 : ∀ g i, 4 ≤ g → q5 g i = p g i ∨ q5 g i = tm_c0 g := tm_K_u rfl (tm_K_u rfl A4')
  have B1 : ∀ i, q4 1 i = p3 1 i := fun i => rfl
  have B0 : ∀ i, q4 0 i = p 0 i := fun i => by
    show p3 0 i = p 0 i
    rw [tm_ee_o e3 _ (by omega) (by omega)]
    show p2 0 i = p 0 i
    rw [tm_ee_o e2 _ (by omega) (by omega)]
    rfl
  have C1 : ∀ i, p3 1 i = p 1 i ∨ p3 1 i = 32 := by
    intro i
    rcases e3 1 i with z | z
    · rcases e2 1 i with y | y
      · exact Or.inl (z.trans y)
      · exact Or.inr (z.trans (show p2 1 i = 32 by omega))
    · exact Or.inr (by omega)
  have C2 : ∀ i, p3 2 i = p 2 i ∨ p3 2 i = 0 := by
    intro i
    rcases e3 2 i with z | z
    · rcases e2 2 i with y | y
      · exact Or.inl (z.trans y)
      · exact Or.inr (z.trans (show p2 2 i = 0 by omega))
    · exact Or.inr (by omega)
  have C3 : ∀ i, p3 3 i = if 12 * t ≤ i ∧ i < 12 * t + 12 then i - 12 * t else p 3 i := by
    intro i
    rw [tm_ee_o e3 _ (by omega) (by omega)]
    show p2 3 i = _
    rw [tm_ee_o e2 _ (by omega) (by omega)]
    exact tm_sl_3 p t 12 i
  have D1 : ∀ i, 144 * t ≤ i → i < 144 * t + 144 → p3 1 i = 32 := by
    intro i i1 i2
    have la : ∀ s, s < 6 → tm_l (tm_u (tm_sl p t 12) 12 t 1) t s = (12 * t + 6 + s) * 12 := by
      intro s hs
      unfold tm_l
      rw [tm_uS, show tm_u (tm_sl p t 12) 12 t 1 3 ((t * 2 + 1) * 6 + s) = tm_sl p t 12 3 ((t * 2 + 1) * 6 + s) from rfl, tm_sl_3, if_pos (by omega)]
      omega
    have lb : ∀ s, s < 6 → tm_l (tm_u p2 12 t 0) t s = (12 * t + s) * 12 := by
      intro s hs
      unfold tm_l
      rw [tm_uS, show tm_u p2 12 t 0 3 ((t * 2 + 0) * 6 + s) = p2 3 ((t * 2 + 0) * 6 + s) from rfl, tm_ee_o e2 _ (by omega) (by omega), show tm_u (tm_sl p t 12) 12 t 1 3 ((t * 2 + 0) * 6 + s) = tm_sl p t 12 3 ((t * 2 + 0) * 6 + s) from rfl, tm_sl_3, if_pos (by omega)]
      omega
    by_cases z : i < 144 * t + 72
    · have hs : (i - 144 * t) / 12 < 6 := by omega
      exact c3 i ((i - 144 * t) / 12) (by omega) hs (by rw [lb _ hs]; omega) (by rw [lb _ hs]; omega)
    · have hs : (i - 144 * t) / 12 - 6 < 6 := by omega
      have a := c2 i ((i - 144 * t) / 12 - 6) (by omega) hs (by rw [la _ hs]; omega) (by rw [la _ hs]; omega)
      rcases e3 1 i with y | y
      · exact y.trans a
      · omega
  have D9 : ∀ i, i ≠ t → q4 9 i = p 9 i := by
    intro i hi
    show q2 9 i = p 9 i
    show tm_u (tm_u q1 8 t 0) 9 t 5 9 i = p 9 i
    rw [tm_uN _ _ _ _ (Or.inr hi)]
    show p3 9 i = p 9 i
    rw [tm_ee_o e3 _ (by omega) (by omega)]
    show p2 9 i = p 9 i
    rw [tm_ee_o e2 _ (by omega) (by omega)]
    rfl
  have D12 : p3 12 t = 0 := by
    rw [tm_ee_o e3 _ (by omega) (by omega), tm_uS]
  have K4 : tm_K t p q4 := ⟨B0, C1, D1, C2, C3, A4', tm_uS _ _ _ _, D9⟩
  have K5 : tm_K t p q5 := ⟨B0, C1, D1, C2, C3, A5, tm_uS _ _ _ _, D9⟩
  -- the walk
  have walk : ∀ (k : Bool) (post : St1 → Prop), ((nI (p3 0 0) = 0 → post (tm_T k q5)) ∧ (¬ nI (p3 0 0) = 0 → post (tm_T k q4))) → wpX_clearAll post (tm_T k p) := by
    intro k post H
    have J1 : wX_clearAll_2 post (nI (p 0 0)) (nI (p 25 0)) (nI (p 26 0)) 1 (nI (1 + 1)) (fun i => nI (tm_f k ((tm_sl p t (6 * 1 + 6)) 1 i))) (fun i => nI ((tm_sl p t (6 * 1 + 6)) 2 i)) (fun i => nI ((tm_sl p t (6 * 1 + 6)) 3 i)) (fun i => nI ((tm_sl p t (6 * 1 + 6)) 4 i)) (fun i => nI ((tm_sl p t (6 * 1 + 6)) 5 i)) (fun i => nI ((tm_sl p t (6 * 1 + 6)) 6 i)) (fun i => nI ((tm_sl p t (6 * 1 + 6)) 7 i)) (fun i => nI ((tm_sl p t (6 * 1 + 6)) 8 i)) (fun i => nI ((tm_sl p t (6 * 1 + 6)) 9 i)) (fun i => nI ((tm_sl p t (6 * 1 + 6)) 10 i)) (fun i => nI ((tm_sl p t (6 * 1 + 6)) 11 i)) (fun i => nI ((tm_sl p t (6 * 1 + 6)) 12 i)) (fun i => nI ((tm_sl p t (6 * 1 + 6)) 13 i)) (fun i => nI ((tm_sl p t (6 * 1 + 6)) 14 i)) (fun i => nI ((tm_sl p t (6 * 1 + 6)) 15 i)) (fun i => nI ((tm_sl p t (6 * 1 + 6)) 16 i)) (fun i => nI ((tm_sl p t (6 * 1 + 6)) 17 i)) (fun i => nI ((tm_sl p t (6 * 1 + 6)) 18 i)) (fun i => nI ((tm_sl p t (6 * 1 + 6)) 19 i)) (fun i => nI ((tm_sl p t (6 * 1 + 6)) 20 i)) (fun i => nI ((tm_sl p t (6 * 1 + 6)) 21 i)) (fun i => nI ((tm_sl p t (6 * 1 + 6)) 22 i)) (fun i => nI ((tm_sl p t (6 * 1 + 6)) 23 i)) (fun i => nI (tm_f k ((tm_sl p t (6 * 1 + 6)) 24 i))) := by
      refine br_t (by decide) ⟨tm_inW h, nm_r (tm_up (tm_sl p t 12) 12 t 1 c rfl) ?_⟩
      refine run2 k _ ⟨tm_inW (tm_ee_W W1 e2), nm_r (tm_up p2 12 t 0 cc2 rfl) ?_⟩
      refine run3 k _ ?_
      refine tm_moveTo (k := k) (p := p3) (r := 0) (c := 0) W3 h30 (by omega) (by omega) ?_
      refine ⟨tm_inW W3, nm_r (tm_up q1 8 t 0 cc3 rfl) ⟨tm_inW W3, nm_r (tm_up (tm_u q1 8 t 0) 9 t 5 cc3 rfl) ?_⟩⟩
      refine ⟨tm_inW W3, nm_r (tm_up q2 6 t 0 cc3 rfl) ⟨tm_inW W3, nm_r (tm_up (tm_u q2 6 t 0) 7 t 0 cc3 rfl) ⟨tm_inW W3, nm_r (tm_up (tm_u (tm_u q2 6 t 0) 7 t 0) 10 t 0 cc3 rfl) ⟨tm_inW W3, nm_r (tm_up (tm_u (tm_u (tm_u q2 6 t 0) 7 t 0) 10 t 0) 11 t 1 cc3 rfl) ?_⟩⟩⟩⟩
      refine ⟨tm_inW W3, nm_r (tm_up q3 13 t 0 cc3 rfl) ⟨tm_inW W3, nm_r (tm_up (tm_u q3 13 t 0) 14 t 0 cc3 rfl) ⟨tm_inW W3, nm_r (tm_up (tm_u (tm_u q3 13 t 0) 14 t 0) 15 t 0 cc3 rfl) ⟨tm_inW W3, nm_r (tm_up (tm_u (tm_u (tm_u q3 13 t 0) 14 t 0) 15 t 0) 20 t 0 cc3 rfl) ?_⟩⟩⟩⟩
      exact H
    have J0 : wX_clearAll_2 post (nI (p 0 0)) (nI (p 25 0)) (nI (p 26 0)) 2 (nI (0 + 1)) (fun i => nI (tm_f k ((tm_sl p t (6 * 0 + 6)) 1 i))) (fun i => nI ((tm_sl p t (6 * 0 + 6)) 2 i)) (fun i => nI ((tm_sl p t (6 * 0 + 6)) 3 i)) (fun i => nI ((tm_sl p t (6 * 0 + 6)) 4 i)) (fun i => nI ((tm_sl p t (6 * 0 + 6)) 5 i)) (fun i => nI ((tm_sl p t (6 * 0 + 6)) 6 i)) (fun i => nI ((tm_sl p t (6 * 0 + 6)) 7 i)) (fun i => nI ((tm_sl p t (6 * 0 + 6)) 8 i)) (fun i => nI ((tm_sl p t (6 * 0 + 6)) 9 i)) (fun i => nI ((tm_sl p t (6 * 0 + 6)) 10 i)) (fun i => nI ((tm_sl p t (6 * 0 + 6)) 11 i)) (fun i => nI ((tm_sl p t (6 * 0 + 6)) 12 i)) (fun i => nI ((tm_sl p t (6 * 0 + 6)) 13 i)) (fun i => nI ((tm_sl p t (6 * 0 + 6)) 14 i)) (fun i => nI ((tm_sl p t (6 * 0 + 6)) 15 i)) (fun i => nI ((tm_sl p t (6 * 0 + 6)) 16 i)) (fun i => nI ((tm_sl p t (6 * 0 + 6)) 17 i)) (fun i => nI ((tm_sl p t (6 * 0 + 6)) 18 i)) (fun i => nI ((tm_sl p t (6 * 0 + 6)) 19 i)) (fun i => nI ((tm_sl p t (6 * 0 + 6)) 20 i)) (fun i => nI ((tm_sl p t (6 * 0 + 6)) 21 i)) (fun i => nI ((tm_sl p t (6 * 0 + 6)) 22 i)) (fun i => nI ((tm_sl p t (6 * 0 + 6)) 23 i)) (fun i => nI (tm_f k ((tm_sl p t (6 * 0 + 6)) 24 i))) :=
      br_f (by decide) (tm_clear9 (kk := 1) (p := p) (congrArg nI h0) ht (by omega) J1 6 0 (by omega))
    have I0 := tm_clear9 (kk := 0) (p := p) (post := post) (kc := nI (p 25 0)) (kn := nI (p 26 0)) (congrArg nI h0) ht (by omega) J0 6 0 (by omega)
    rw [show tm_sl p t (6 * 0 + 0) = p from tm_sl_0 p t] at I0
    exact ⟨3, br_f (by decide) I0⟩
  by_cases t0 : t = 0
  · refine ⟨q5, K5, D12, fun k post hp => walk k post (br_t ?_ hp)⟩
    rw [h30, t0]; rfl
  · refine ⟨q4, K4, D12, fun k post hp => walk k post (br_f ?_ hp)⟩
    rw [h30, show t = 1 by omega]; decide
theorem tm_init : ∃ p', tm_L p' ∧ ∀ (k : Bool) (post : St1 → Prop), post (tm_T k p') → wpX_init post 24 742 (0, 0, 0) := by
  have W0 : tm_W (tm_u (fun _ _ => 0) 0 0 1) := ⟨Nat.le_refl 1, fun i => Nat.zero_le 1, fun i => Nat.zero_le 11⟩
  obtain ⟨p1, K1, z1, run1⟩ := tm_clearAll (t := 1) W0 rfl
  have W1 : tm_W (tm_u p1 0 0 0) := by
    refine ⟨Nat.zero_le 1, fun i => ?_, fun i => ?_⟩
    · show p1 12 i ≤ 1
      rcases K1.2.2.2.2.2.1 12 i (by omega) with z | z
      · rw [z]; exact Nat.zero_le 1
      · rw [z]; exact Nat.zero_le 1
    · show p1 3 i ≤ 11
      rw [K1.2.2.2.2.1]
      split
      · omega
      · exact Nat.zero_le 11
  obtain ⟨p2, K2, z2, run2⟩ := tm_clearAll (t := 0) W1 rfl
  have v1 : ∀ g i, 4 ≤ g → p1 g i = 0 ∨ p1 g i = tm_c0 g := by
    intro g i hg
    rcases K1.2.2.2.2.2.1 g i hg with z | z
    · left; rw [z, tm_uN _ _ _ _ (by omega)]
    · exact Or.inr z
  have v2 : ∀ g i, 4 ≤ g → p2 g i = 0 ∨ p2 g i = tm_c0 g := by
    intro g i hg
    rcases K2.2.2.2.2.2.1 g i hg with z | z
    · rw [z, tm_uN _ _ _ _ (by omega)]; exact v1 g i hg
    · exact Or.inr z
  have v12 : ∀ i, p2 12 i = 0 := by
    intro i
    rcases v2 12 i (by omega) with z | z
    · exact z
    · exact z
  have v20 : ∀ i, p2 20 i = 0 := by
    intro i
    rcases v2 20 i (by omega) with z | z
    · exact z
    · exact z
  have s3 : ∀ i, p2 3 i = if i < 12 then i else if i < 24 then i - 12 else 0 := by
    intro i
    rw [K2.2.2.2.2.1]
    by_cases a : i < 12
    · rw [if_pos (by omega), if_pos a]; omega
    · rw [if_neg (by omega), if_neg a]
      show p1 3 i = _
      rw [K1.2.2.2.2.1]
      by_cases b : i < 24
      · rw [if_pos (by omega), if_pos b]
      · rw [if_neg (by omega), if_neg b]; rfl
  have hI : tm_I p2 := by
    refine ⟨fun g i => ?_, fun r s hr hs e => ?_, fun e => ?_⟩
    · by_cases g4 : 4 ≤ g
      · by_cases g9 : g = 9
        · subst g9
          intro hi
          rcases (show i = 0 ∨ i = 1 by omega) with e | e
          · subst e; exact K2.2.2.2.2.2.2.1
          · subst e; exact (K2.2.2.2.2.2.2.2 1 (by omega)).trans K1.2.2.2.2.2.2.1
        · have vz : p2 g i = 0 ∨ (g = 11 ∧ p2 g i = 1) := by
            rcases v2 g i g4 with z | z
            · exact Or.inl z
            · unfold tm_c0 at z
              rw [if_neg g9] at z
              by_cases g11 : g = 11
              · rw [if_pos g11] at z; exact Or.inr ⟨g11, z⟩
              · rw [if_neg g11] at z; exact Or.inl z
          rcases vz with z | z
          · rw [z]
            by_cases g26 : g ≤ 26
            · have zz : ∀ g, g ≤ 26 → 4 ≤ g → g ≠ 9 → tm_ok g i 0 := by
                intro g h1 h2 h3
                rcases (show g = 4 ∨ g = 5 ∨ g = 6 ∨ g = 7 ∨ g = 8 ∨ g = 10 ∨ g = 11 ∨ g = 12 ∨ g = 13 ∨ g = 14 ∨ g = 15 ∨ g = 16 ∨ g = 17 ∨ g = 18 ∨ g = 19 ∨ g = 20 ∨ g = 21 ∨ g = 22 ∨ g = 23 ∨ g = 24 ∨ g = 25 ∨ g = 26 by omega) with e | e | e | e | e | e | e | e | e | e | e | e | e | e | e | e | e | e | e | e | e | e <;> subst e <;>
                first
                | exact Nat.zero_le _
                | exact rfl
                | exact ⟨Nat.zero_le _, fun _ => rfl⟩
              exact zz g g26 g4 g9
            · obtain ⟨n, rfl⟩ : ∃ n, g = n + 27 := ⟨g - 27, by omega⟩
              exact trivial
          · rw [z.2, z.1]; exact Nat.le_refl 1
      · rcases (show g = 0 ∨ g = 1 ∨ g = 2 ∨ g = 3 by omega) with e | e | e | e
        · subst e
          rw [K2.1]
          show tm_u p1 0 0 0 0 i ≤ 1
          rw [tm_ue]
          split
          · omega
          · rw [K1.1, tm_ue]
            split <;> omega
        · subst e
          intro hi
          have : p2 1 i = 32 := by
            by_cases z : i < 144
            · exact K2.2.2.1 i (by omega) (by omega)
            · rcases K2.2.1 i with y | y
              · rw [y]
                exact K1.2.2.1 i (by omega) (by omega)
              · exact y
          omega
        · subst e
          show p2 2 i = 0
          rcases K2.2.2.2.1 i with y | y
          · rw [y]
            show p1 2 i = 0
            rcases K1.2.2.2.1 i with x | x
            · rw [x]; rfl
            · exact x
          · exact y
        · subst e
          show p2 3 i ≤ 11
          rw [s3]
          split
          · omega
          · split <;> omega
    · rw [s3, s3, if_neg (by omega), if_pos (by omega), if_neg (by omega), if_pos (by omega)] at e
      omega
    · rw [v12] at e; exact absurd e (by omega)
  refine ⟨p2, ⟨hI, v20 0, v20 1⟩, fun k post hp => ?_⟩
  have f0 : (fun _ : Nat => (0 : Int32)) = fun i => nI (tm_f k (tm_u (fun _ _ => 0) 0 0 1 1 i)) := by
    funext i
    show nI 0 = nI (tm_f k 0)
    rw [tm_f_out k (by omega)]
  have f24 : (fun _ : Nat => (0 : Int32)) = fun i => nI (tm_f k (tm_u (fun _ _ => 0) 0 0 1 24 i)) := by
    funext i
    show nI 0 = nI (tm_f k 0)
    rw [tm_f_out k (by omega)]
  have big : wpX_clearAll (fun u => match u with | (a, b, c, d1, d2, d3, d4, d5, d6, d7, d8, d9, d10, d11, d12, d13, d14, d15, d16, d17, d18, d19, d20, d21, d22, d23, d24) => wpX_clearAll post (0, b, c, d1, d2, d3, d4, d5, d6, d7, d8, d9, d10, d11, d12, d13, d14, d15, d16, d17, d18, d19, d20, d21, d22, d23, d24)) (tm_T k (tm_u (fun _ _ => 0) 0 0 1)) := run1 k _ (run2 k _ hp)
  have tup : tm_T k (tm_u (fun _ _ => 0) 0 0 1) = (1, 0, 0, (fun _ => 0), (fun _ => 0), (fun _ => 0), (fun _ => 0), (fun _ => 0), (fun _ => 0), (fun _ => 0), (fun _ => 0), (fun _ => 0), (fun _ => 0), (fun _ => 0), (fun _ => 0), (fun _ => 0), (fun _ => 0), (fun _ => 0), (fun _ => 0), (fun _ => 0), (fun _ => 0), (fun _ => 0), (fun _ => 0), (fun _ => 0), (fun _ => 0), (fun _ => 0), (fun _ => 0)) := by
    unfold tm_T
    rw [← f0, ← f24]
    rfl
  rw [tup] at big
  unfold wpX_init
  dsimp only
  refine ⟨by omega, by omega, by omega, by omega, by omega, by omega, by omega, by omega, by omega, by omega, by omega, by omega, by omega, by omega, by omega, by omega, by omega, by omega, by omega, by omega, by omega, by omega, by omega, by omega, by omega, by omega, by omega, by omega, by omega, by omega, by omega, by omega, by omega, by omega, by omega, by omega, by omega, by omega, by omega, by omega, by omega, by omega, by omega, by omega, by omega, by omega, by omega, by omega, ?_⟩
  exact big
end
section
theorem tm_turned {post : Int32 → Prop} {a : Nat} (ha : a ≤ 127) (hp : post (nI (tm_f true a))) : wpL_turned post () (nI a) := by
  rw [tm_f_T] at hp
  refine pk_lt a 33 (fun z => ?_) (fun z => pk_lt 62 a (fun z2 => ?_) (fun z2 => ?_))
  · rw [if_neg (by omega)] at hp; exact hp
  · rw [if_neg (by omega)] at hp; exact hp
  · rw [if_pos ⟨z, z2⟩] at hp
    show post (nI 95 - nI a)
    rw [pk_sub (by omega)]; exact hp
/-- one answer of both objects: the second one's is the first one's, turned -/
def tm_both (A B : (Int32 → Prop) → Prop) : Prop := ∃ v w : Int32, (∀ post : Int32 → Prop, post v → A post) ∧ (∀ post : Int32 → Prop, post w → B post) ∧ (∀ post : Int32 → Prop, post w → wpL_turned post () v)
theorem tm_both_x {A : Bool → (Int32 → Prop) → Prop} {x : Nat} (hx : x ≤ 127) (h : ∀ k post, post (nI (tm_f k x)) → A k post) : tm_both (A false) (A true) :=
  ⟨nI x, nI (tm_f true x), fun post hp => h false post (by rw [tm_f_F]; exact hp), h true, fun post hp => tm_turned hx hp⟩
theorem tm_both_m {A : Bool → (Int32 → Prop) → Prop} (h : ∀ k post, post (-1) → A k post) : tm_both (A false) (A true) :=
  ⟨-1, -1, h false, h true, fun post hp => br_t (by decide) hp⟩
theorem tm_sign {p : tm_P} {r c : Nat} (h : tm_I p) (hr : r < 8) (hc : c < 12) : tm_both (fun post => wpX_sign post (tm_T false p) (nI r) (nI c)) (fun post => wpX_sign post (tm_T true p) (nI r) (nI c)) := by
  by_cases e : r < 6
  · have hL := tm_l_288 h (t := 0) (r := r) (c := c) (by omega) hc
    have hs : 32 ≤ p 1 (tm_l p 0 r + c) ∧ p 1 (tm_l p 0 r + c) ≤ 62 := h.1 1 _ hL
    refine tm_both_x (A := fun k post => wpX_sign post (tm_T k p) (nI r) (nI c)) (x := p 1 (tm_l p 0 r + c)) (by omega) (fun k post hp => ?_)
    refine pk_lt r 0 (fun z => absurd z (by omega)) (fun _ => pk_le 6 r (fun z => absurd z (by omega)) (fun _ => pk_lt c 0 (fun z => absurd z (by omega)) (fun _ => pk_le 12 c (fun z => absurd z (by omega)) (fun _ => br_f (by decide) ?_))))
    refine tm_lineOf (k := k) (p := p) (t := 0) h (by omega) (by omega) ?_
    show vp_in (nI (tm_l p 0 r) + nI c) 288 ∧ post (nI (tm_f k (p 1 (nI (tm_l p 0 r) + nI c).toNatClampNeg)))
    rw [nI_add, tm_cl (by omega)]
    exact ⟨vp_in_nI hL (by omega), hp⟩
  · refine tm_both_m (A := fun k post => wpX_sign post (tm_T k p) (nI r) (nI c)) (fun k post hp => ?_)
    exact pk_lt r 0 (fun z => absurd z (by omega)) (fun _ => pk_le 6 r (fun _ => br_t rfl hp) (fun z => absurd z (by omega)))
theorem tm_kept {p : tm_P} {i c : Nat} (h : tm_I p) (hi : i < 8) (hc : c < 12) : tm_both (fun post => wpX_kept post (tm_T false p) (nI i) (nI c)) (fun post => wpX_kept post (tm_T true p) (nI i) (nI c)) := by
  have hk : p 25 0 ≤ 8 := h.1 25 0
  have hn : p 26 0 ≤ 7 := h.1 26 0
  by_cases e : i < p 25 0
  · have hv : p 24 ((p 26 0 + 7 - i) % 8 * 12 + c) ≤ 62 := h.1 24 _
    refine tm_both_x (A := fun k post => wpX_kept post (tm_T k p) (nI i) (nI c)) (x := p 24 ((p 26 0 + 7 - i) % 8 * 12 + c)) (by omega) (fun k post hp => ?_)
    have e1 : nI (p 26 0) + 8 - 1 - nI i = nI (p 26 0 + 7 - i) := by
      show nI (p 26 0) + nI 8 - nI 1 - nI i = _
      rw [nI_add, pk_sub (by omega), pk_sub (by omega), show p 26 0 + 8 - 1 - i = p 26 0 + 7 - i by omega]
    refine pk_lt i 0 (fun z => absurd z (by omega)) (fun _ => pk_le (p 25 0) i (fun z => absurd z (by omega)) (fun _ => pk_lt c 0 (fun z => absurd z (by omega)) (fun _ => pk_lt c 12 (fun _ => ⟨by decide, nm_r (e' := nI ((p 26 0 + 7 - i) % 8)) ?_ ?_⟩) (fun z => absurd z (by omega)))))
    · rw [e1]; exact pk_rem (d := 8) (by omega) (by omega) (by omega)
    · show vp_in (nI ((p 26 0 + 7 - i) % 8) * nI 12 + nI c) 96 ∧ post (nI (tm_f k (p 24 (nI ((p 26 0 + 7 - i) % 8) * nI 12 + nI c).toNatClampNeg)))
      rw [pk_mul, nI_add, tm_cl (by omega)]
      exact ⟨vp_in_nI (by omega) (by omega), hp⟩
  · refine tm_both_m (A := fun k post => wpX_kept post (tm_T k p) (nI i) (nI c)) (fun k post hp => ?_)
    exact pk_lt i 0 (fun z => absurd z (by omega)) (fun _ => pk_le (p 25 0) i (fun _ => hp) (fun z => absurd z (by omega)))
theorem tm_alike_l {p : tm_P} {post : Int32 → Prop} (h : tm_I p) (hp : post 1) : ∀ d j : Nat, j + d = 96 → ∃ fu, wL_alike_85 post (nI (p 0 0)) (nI (p 25 0)) (nI (p 26 0)) (fun i => nI (tm_f false (p 1 i))) (fun i => nI (p 2 i)) (fun i => nI (p 3 i)) (fun i => nI (p 4 i)) (fun i => nI (p 5 i)) (fun i => nI (p 6 i)) (fun i => nI (p 7 i)) (fun i => nI (p 8 i)) (fun i => nI (p 9 i)) (fun i => nI (p 10 i)) (fun i => nI (p 11 i)) (fun i => nI (p 12 i)) (fun i => nI (p 13 i)) (fun i => nI (p 14 i)) (fun i => nI (p 15 i)) (fun i => nI (p 16 i)) (fun i => nI (p 17 i)) (fun i => nI (p 18 i)) (fun i => nI (p 19 i)) (fun i => nI (p 20 i)) (fun i => nI (p 21 i)) (fun i => nI (p 22 i)) (fun i => nI (p 23 i)) (fun i => nI (tm_f false (p 24 i))) (nI (p 0 0)) (nI (p 25 0)) (nI (p 26 0)) (fun i => nI (tm_f true (p 1 i))) (fun i => nI (p 2 i)) (fun i => nI (p 3 i)) (fun i => nI (p 4 i)) (fun i => nI (p 5 i)) (fun i => nI (p 6 i)) (fun i => nI (p 7 i)) (fun i => nI (p 8 i)) (fun i => nI (p 9 i)) (fun i => nI (p 10 i)) (fun i => nI (p 11 i)) (fun i => nI (p 12 i)) (fun i => nI (p 13 i)) (fun i => nI (p 14 i)) (fun i => nI (p 15 i)) (fun i => nI (p 16 i)) (fun i => nI (p 17 i)) (fun i => nI (p 18 i)) (fun i => nI (p 19 i)) (fun i => nI (p 20 i)) (fun i => nI (p 21 i)) (fun i => nI (p 22 i)) (fun i => nI (p 23 i)) (fun i => nI (tm_f true (p 24 i))) fu 1 (nI j) := by
  intro d
  induction d with
  | zero =>
    intro j hj
    exact ⟨1, pk_le 96 j (fun _ => ⟨rfl, hp⟩) (fun z => absurd z (by omega))⟩
  | succ d ih =>
    intro j hj
    obtain ⟨fu, hf⟩ := ih (j + 1) (by omega)
    obtain ⟨v, w, s1, s2, s3⟩ := tm_sign (r := j / 12) (c := j % 12) h (by omega) (by omega)
    obtain ⟨v', w', k1, k2, k3⟩ := tm_kept (i := j / 12) (c := j % 12) h (by omega) (by omega)
    refine ⟨fu + 1, pk_le 96 j (fun z => absurd z (by omega)) (fun _ => ⟨by decide, nm_r (e' := nI (j / 12)) (pk_div (d := 12) (by omega) (by omega) (by omega)) ⟨by decide, nm_r (e' := nI (j % 12)) (pk_rem (d := 12) (by omega) (by omega) (by omega)) ?_⟩⟩)⟩
    refine s1 _ (k1 _ (br_f (by decide) ?_))
    refine s2 _ (s3 _ (br_t rfl ?_))
    refine k2 _ (k3 _ (br_t rfl ?_))
    exact nm_r (nI_1 j) hf
theorem tm_nar {v : Nat} (h : v ≤ 1) : narrow .boolean (.int (nI v)) = .int (nI v) := by
  have : v = 0 ∨ v = 1 := by omega
  rcases this with e | e <;> subst e <;> rfl
theorem tm_modes {p : tm_P} (h : tm_I p) : ∃ v : Int32, ∀ (k : Bool) (post : Int32 → Prop), post v → wpX_modes post (tm_T k p) := by
  have h10 : p 10 0 = 0 := h.1 10 0
  have h11 : p 11 0 ≤ 1 := h.1 11 0
  by_cases e : p 11 0 = 0
  · exact ⟨(0 + 0) + 4 * nI (p 12 0), fun k post hp => pk_eq (p 10 0) 0 (fun _ => pk_eq (p 11 0) 0 (fun _ => hp) (fun z => absurd e z)) (fun z => absurd h10 z)⟩
  · exact ⟨(0 + 2) + 4 * nI (p 12 0), fun k post hp => pk_eq (p 10 0) 0 (fun _ => pk_eq (p 11 0) 0 (fun z => absurd z e) (fun _ => hp)) (fun z => absurd h10 z)⟩
theorem tm_alike {p : tm_P} {post : Int32 → Prop} (h : tm_L p) (hp : post 1) : wpL_alike post (tm_T2 p p) := by
  have L := tm_alike_l h.1 hp 96 0 (by omega)
  have h6 : p 6 0 ≤ 1 := h.1.1 6 0
  obtain ⟨v, md⟩ := tm_modes h.1
  have sq : ∀ (k : Bool) (post : Int32 → Prop), post (nI (p 20 0)) → wpX_sequence post (tm_T k p) := fun k post hp => pk_le (p 20 0) 2 (fun _ => hp) (fun z => absurd z (by have := h.2.1; omega)) rfl rfl (by have := h.2.1; omega)
  refine br_t (c := nI (p 4 0) = nI (p 4 0)) rfl ?_
  refine br_t (c := nI (p 5 0) = nI (p 5 0)) rfl ?_
  refine ⟨tm_nar h6, tm_nar h6, br_t (c := nI (p 6 0) = nI (p 6 0)) rfl ?_⟩
  refine br_t (c := nI (p 8 0) + 10 * nI (p 9 0) = nI (p 8 0) + 10 * nI (p 9 0)) rfl ?_
  refine md false _ (md true _ (br_t rfl ?_))
  refine sq false _ (sq true _ (br_t rfl ?_))
  exact br_t (c := nI (p 25 0) = nI (p 25 0)) rfl L
end
section
theorem tm_475 {post : Int32 → Prop} {L : Nat} {xs : Nat → Int32} {J : Int32 → Int32 → Int32 → Int32 → (Nat → Int32) → (Nat → Int32) → (Nat → Int32) → (Nat → Int32) → (Nat → Int32) → (Nat → Int32) → (Nat → Int32) → (Nat → Int32) → (Nat → Int32) → (Nat → Int32) → (Nat → Int32) → (Nat → Int32) → (Nat → Int32) → (Nat → Int32) → (Nat → Int32) → (Nat → Int32) → (Nat → Int32) → (Nat → Int32) → (Nat → Int32) → (Nat → Int32) → (Nat → Int32) → (Nat → Int32) → (Nat → Int32) → (Nat → Int32) → Int32 → Int32 → Int32 → (Nat → Int32) → (Nat → Int32) → (Nat → Int32) → (Nat → Int32) → (Nat → Int32) → (Nat → Int32) → (Nat → Int32) → (Nat → Int32) → (Nat → Int32) → (Nat → Int32) → (Nat → Int32) → (Nat → Int32) → (Nat → Int32) → (Nat → Int32) → (Nat → Int32) → (Nat → Int32) → (Nat → Int32) → (Nat → Int32) → (Nat → Int32) → (Nat → Int32) → (Nat → Int32) → (Nat → Int32) → (Nat → Int32) → (Nat → Int32) → Prop} {j kc ks : Nat} {p : tm_P} (h : tm_L p) (hJ : J (nI (j + 1)) (nI (p 0 0)) (nI (p 25 0)) (nI (p 26 0)) (fun i => nI (tm_f false (p 1 i))) (fun i => nI (p 2 i)) (fun i => nI (p 3 i)) (fun i => nI (p 4 i)) (fun i => nI (p 5 i)) (fun i => nI (p 6 i)) (fun i => nI (p 7 i)) (fun i => nI (p 8 i)) (fun i => nI (p 9 i)) (fun i => nI (p 10 i)) (fun i => nI (p 11 i)) (fun i => nI (p 12 i)) (fun i => nI (p 13 i)) (fun i => nI (p 14 i)) (fun i => nI (p 15 i)) (fun i => nI (p 16 i)) (fun i => nI (p 17 i)) (fun i => nI (p 18 i)) (fun i => nI (p 19 i)) (fun i => nI (p 20 i)) (fun i => nI (p 21 i)) (fun i => nI (p 22 i)) (fun i => nI (p 23 i)) (fun i => nI (tm_f false (p 24 i))) (nI (p 0 0)) (nI (p 25 0)) (nI (p 26 0)) (fun i => nI (tm_f true (p 1 i))) (fun i => nI (p 2 i)) (fun i => nI (p 3 i)) (fun i => nI (p 4 i)) (fun i => nI (p 5 i)) (fun i => nI (p 6 i)) (fun i => nI (p 7 i)) (fun i => nI (p 8 i)) (fun i => nI (p 9 i)) (fun i => nI (p 10 i)) (fun i => nI (p 11 i)) (fun i => nI (p 12 i)) (fun i => nI (p 13 i)) (fun i => nI (p 14 i)) (fun i => nI (p 15 i)) (fun i => nI (p 16 i)) (fun i => nI (p 17 i)) (fun i => nI (p 18 i)) (fun i => nI (p 19 i)) (fun i => nI (p 20 i)) (fun i => nI (p 21 i)) (fun i => nI (p 22 i)) (fun i => nI (p 23 i)) (fun i => nI (tm_f true (p 24 i)))) : wL_law_475 post L xs J (nI j) kc ks (nI (p 0 0)) (nI (p 25 0)) (nI (p 26 0)) (fun i => nI (tm_f false (p 1 i))) (fun i => nI (p 2 i)) (fun i => nI (p 3 i)) (fun i => nI (p 4 i)) (fun i => nI (p 5 i)) (fun i => nI (p 6 i)) (fun i => nI (p 7 i)) (fun i => nI (p 8 i)) (fun i => nI (p 9 i)) (fun i => nI (p 10 i)) (fun i => nI (p 11 i)) (fun i => nI (p 12 i)) (fun i => nI (p 13 i)) (fun i => nI (p 14 i)) (fun i => nI (p 15 i)) (fun i => nI (p 16 i)) (fun i => nI (p 17 i)) (fun i => nI (p 18 i)) (fun i => nI (p 19 i)) (fun i => nI (p 20 i)) (fun i => nI (p 21 i)) (fun i => nI (p 22 i)) (fun i => nI (p 23 i)) (fun i => nI (tm_f false (p 24 i))) (nI (p 0 0)) (nI (p 25 0)) (nI (p 26 0)) (fun i => nI (tm_f true (p 1 i))) (fun i => nI (p 2 i)) (fun i => nI (p 3 i)) (fun i => nI (p 4 i)) (fun i => nI (p 5 i)) (fun i => nI (p 6 i)) (fun i => nI (p 7 i)) (fun i => nI (p 8 i)) (fun i => nI (p 9 i)) (fun i => nI (p 10 i)) (fun i => nI (p 11 i)) (fun i => nI (p 12 i)) (fun i => nI (p 13 i)) (fun i => nI (p 14 i)) (fun i => nI (p 15 i)) (fun i => nI (p 16 i)) (fun i => nI (p 17 i)) (fun i => nI (p 18 i)) (fun i => nI (p 19 i)) (fun i => nI (p 20 i)) (fun i => nI (p 21 i)) (fun i => nI (p 22 i)) (fun i => nI (p 23 i)) (fun i => nI (tm_f true (p 24 i))) := by
  unfold wL_law_475
  exact tm_alike h (br_f (by decide) (nm_r (nI_1 j) hJ))
theorem tm_122 {post : Int32 → Prop} {L : Nat} {xs : Nat → Int32} {J : Int32 → Int32 → Int32 → Int32 → (Nat → Int32) → (Nat → Int32) → (Nat → Int32) → (Nat → Int32) → (Nat → Int32) → (Nat → Int32) → (Nat → Int32) → (Nat → Int32) → (Nat → Int32) → (Nat → Int32) → (Nat → Int32) → (Nat → Int32) → (Nat → Int32) → (Nat → Int32) → (Nat → Int32) → (Nat → Int32) → (Nat → Int32) → (Nat → Int32) → (Nat → Int32) → (Nat → Int32) → (Nat → Int32) → (Nat → Int32) → (Nat → Int32) → (Nat → Int32) → Int32 → Int32 → Int32 → (Nat → Int32) → (Nat → Int32) → (Nat → Int32) → (Nat → Int32) → (Nat → Int32) → (Nat → Int32) → (Nat → Int32) → (Nat → Int32) → (Nat → Int32) → (Nat → Int32) → (Nat → Int32) → (Nat → Int32) → (Nat → Int32) → (Nat → Int32) → (Nat → Int32) → (Nat → Int32) → (Nat → Int32) → (Nat → Int32) → (Nat → Int32) → (Nat → Int32) → (Nat → Int32) → (Nat → Int32) → (Nat → Int32) → (Nat → Int32) → Prop} {j kc ks b : Nat} {p : tm_P} (h : tm_L p) (hb : b = 8 ∨ b = 10 ∨ b = 13) (hJ : ∀ p, tm_L p → J (nI (j + 1)) (nI (p 0 0)) (nI (p 25 0)) (nI (p 26 0)) (fun i => nI (tm_f false (p 1 i))) (fun i => nI (p 2 i)) (fun i => nI (p 3 i)) (fun i => nI (p 4 i)) (fun i => nI (p 5 i)) (fun i => nI (p 6 i)) (fun i => nI (p 7 i)) (fun i => nI (p 8 i)) (fun i => nI (p 9 i)) (fun i => nI (p 10 i)) (fun i => nI (p 11 i)) (fun i => nI (p 12 i)) (fun i => nI (p 13 i)) (fun i => nI (p 14 i)) (fun i => nI (p 15 i)) (fun i => nI (p 16 i)) (fun i => nI (p 17 i)) (fun i => nI (p 18 i)) (fun i => nI (p 19 i)) (fun i => nI (p 20 i)) (fun i => nI (p 21 i)) (fun i => nI (p 22 i)) (fun i => nI (p 23 i)) (fun i => nI (tm_f false (p 24 i))) (nI (p 0 0)) (nI (p 25 0)) (nI (p 26 0)) (fun i => nI (tm_f true (p 1 i))) (fun i => nI (p 2 i)) (fun i => nI (p 3 i)) (fun i => nI (p 4 i)) (fun i => nI (p 5 i)) (fun i => nI (p 6 i)) (fun i => nI (p 7 i)) (fun i => nI (p 8 i)) (fun i => nI (p 9 i)) (fun i => nI (p 10 i)) (fun i => nI (p 11 i)) (fun i => nI (p 12 i)) (fun i => nI (p 13 i)) (fun i => nI (p 14 i)) (fun i => nI (p 15 i)) (fun i => nI (p 16 i)) (fun i => nI (p 17 i)) (fun i => nI (p 18 i)) (fun i => nI (p 19 i)) (fun i => nI (p 20 i)) (fun i => nI (p 21 i)) (fun i => nI (p 22 i)) (fun i => nI (p 23 i)) (fun i => nI (tm_f true (p 24 i)))) : wL_law_122 post L xs J (nI j) (nI b) kc ks (nI (p 0 0)) (nI (p 25 0)) (nI (p 26 0)) (fun i => nI (tm_f false (p 1 i))) (fun i => nI (p 2 i)) (fun i => nI (p 3 i)) (fun i => nI (p 4 i)) (fun i => nI (p 5 i)) (fun i => nI (p 6 i)) (fun i => nI (p 7 i)) (fun i => nI (p 8 i)) (fun i => nI (p 9 i)) (fun i => nI (p 10 i)) (fun i => nI (p 11 i)) (fun i => nI (p 12 i)) (fun i => nI (p 13 i)) (fun i => nI (p 14 i)) (fun i => nI (p 15 i)) (fun i => nI (p 16 i)) (fun i => nI (p 17 i)) (fun i => nI (p 18 i)) (fun i => nI (p 19 i)) (fun i => nI (p 20 i)) (fun i => nI (p 21 i)) (fun i => nI (p 22 i)) (fun i => nI (p 23 i)) (fun i => nI (tm_f false (p 24 i))) (nI (p 0 0)) (nI (p 25 0)) (nI (p 26 0)) (fun i => nI (tm_f true (p 1 i))) (fun i => nI (p 2 i)) (fun i => nI (p 3 i)) (fun i => nI (p 4 i)) (fun i => nI (p 5 i)) (fun i => nI (p 6 i)) (fun i => nI (p 7 i)) (fun i => nI (p 8 i)) (fun i => nI (p 9 i)) (fun i => nI (p 10 i)) (fun i => nI (p 11 i)) (fun i => nI (p 12 i)) (fun i => nI (p 13 i)) (fun i => nI (p 14 i)) (fun i => nI (p 15 i)) (fun i => nI (p 16 i)) (fun i => nI (p 17 i)) (fun i => nI (p 18 i)) (fun i => nI (p 19 i)) (fun i => nI (p 20 i)) (fun i => nI (p 21 i)) (fun i => nI (p 22 i)) (fun i => nI (p 23 i)) (fun i => nI (tm_f true (p 24 i))) := by
  obtain ⟨p', r, run⟩ := tm_fed_ctl h hb
  unfold wL_law_122
  refine tm_feed (k := false) (p := p) (by omega) (run false) _ ?_
  refine tm_feed (k := true) (p := p) (by omega) (run true) _ ?_
  exact tm_475 r (hJ p' r)
theorem tm_vv0 (p : tm_P) : tm_v 0 1 (tm_v 0 1 p) = tm_v 0 1 p := by
  funext g i
  simp only [tm_v, tm_ue]
  grind
theorem tm_338 {post : Int32 → Prop} {L : Nat} {xs : Nat → Int32} {J : Int32 → Int32 → Int32 → Int32 → (Nat → Int32) → (Nat → Int32) → (Nat → Int32) → (Nat → Int32) → (Nat → Int32) → (Nat → Int32) → (Nat → Int32) → (Nat → Int32) → (Nat → Int32) → (Nat → Int32) → (Nat → Int32) → (Nat → Int32) → (Nat → Int32) → (Nat → Int32) → (Nat → Int32) → (Nat → Int32) → (Nat → Int32) → (Nat → Int32) → (Nat → Int32) → (Nat → Int32) → (Nat → Int32) → (Nat → Int32) → (Nat → Int32) → (Nat → Int32) → Int32 → Int32 → Int32 → (Nat → Int32) → (Nat → Int32) → (Nat → Int32) → (Nat → Int32) → (Nat → Int32) → (Nat → Int32) → (Nat → Int32) → (Nat → Int32) → (Nat → Int32) → (Nat → Int32) → (Nat → Int32) → (Nat → Int32) → (Nat → Int32) → (Nat → Int32) → (Nat → Int32) → (Nat → Int32) → (Nat → Int32) → (Nat → Int32) → (Nat → Int32) → (Nat → Int32) → (Nat → Int32) → (Nat → Int32) → (Nat → Int32) → (Nat → Int32) → Prop} {j kc ks b : Nat} {p : tm_P} (h : tm_L p) (hb : b = 55 ∨ b = 56 ∨ b = 69 ∨ b = 77) (hJ : ∀ p, tm_L p → J (nI (j + 1)) (nI (p 0 0)) (nI (p 25 0)) (nI (p 26 0)) (fun i => nI (tm_f false (p 1 i))) (fun i => nI (p 2 i)) (fun i => nI (p 3 i)) (fun i => nI (p 4 i)) (fun i => nI (p 5 i)) (fun i => nI (p 6 i)) (fun i => nI (p 7 i)) (fun i => nI (p 8 i)) (fun i => nI (p 9 i)) (fun i => nI (p 10 i)) (fun i => nI (p 11 i)) (fun i => nI (p 12 i)) (fun i => nI (p 13 i)) (fun i => nI (p 14 i)) (fun i => nI (p 15 i)) (fun i => nI (p 16 i)) (fun i => nI (p 17 i)) (fun i => nI (p 18 i)) (fun i => nI (p 19 i)) (fun i => nI (p 20 i)) (fun i => nI (p 21 i)) (fun i => nI (p 22 i)) (fun i => nI (p 23 i)) (fun i => nI (tm_f false (p 24 i))) (nI (p 0 0)) (nI (p 25 0)) (nI (p 26 0)) (fun i => nI (tm_f true (p 1 i))) (fun i => nI (p 2 i)) (fun i => nI (p 3 i)) (fun i => nI (p 4 i)) (fun i => nI (p 5 i)) (fun i => nI (p 6 i)) (fun i => nI (p 7 i)) (fun i => nI (p 8 i)) (fun i => nI (p 9 i)) (fun i => nI (p 10 i)) (fun i => nI (p 11 i)) (fun i => nI (p 12 i)) (fun i => nI (p 13 i)) (fun i => nI (p 14 i)) (fun i => nI (p 15 i)) (fun i => nI (p 16 i)) (fun i => nI (p 17 i)) (fun i => nI (p 18 i)) (fun i => nI (p 19 i)) (fun i => nI (p 20 i)) (fun i => nI (p 21 i)) (fun i => nI (p 22 i)) (fun i => nI (p 23 i)) (fun i => nI (tm_f true (p 24 i)))) : wL_law_338 post L xs J (nI j) (nI b) kc ks (nI (p 0 0)) (nI (p 25 0)) (nI (p 26 0)) (fun i => nI (tm_f false (p 1 i))) (fun i => nI (p 2 i)) (fun i => nI (p 3 i)) (fun i => nI (p 4 i)) (fun i => nI (p 5 i)) (fun i => nI (p 6 i)) (fun i => nI (p 7 i)) (fun i => nI (p 8 i)) (fun i => nI (p 9 i)) (fun i => nI (p 10 i)) (fun i => nI (p 11 i)) (fun i => nI (p 12 i)) (fun i => nI (p 13 i)) (fun i => nI (p 14 i)) (fun i => nI (p 15 i)) (fun i => nI (p 16 i)) (fun i => nI (p 17 i)) (fun i => nI (p 18 i)) (fun i => nI (p 19 i)) (fun i => nI (p 20 i)) (fun i => nI (p 21 i)) (fun i => nI (p 22 i)) (fun i => nI (p 23 i)) (fun i => nI (tm_f false (p 24 i))) (nI (p 0 0)) (nI (p 25 0)) (nI (p 26 0)) (fun i => nI (tm_f true (p 1 i))) (fun i => nI (p 2 i)) (fun i => nI (p 3 i)) (fun i => nI (p 4 i)) (fun i => nI (p 5 i)) (fun i => nI (p 6 i)) (fun i => nI (p 7 i)) (fun i => nI (p 8 i)) (fun i => nI (p 9 i)) (fun i => nI (p 10 i)) (fun i => nI (p 11 i)) (fun i => nI (p 12 i)) (fun i => nI (p 13 i)) (fun i => nI (p 14 i)) (fun i => nI (p 15 i)) (fun i => nI (p 16 i)) (fun i => nI (p 17 i)) (fun i => nI (p 18 i)) (fun i => nI (p 19 i)) (fun i => nI (p 20 i)) (fun i => nI (p 21 i)) (fun i => nI (p 22 i)) (fun i => nI (p 23 i)) (fun i => nI (tm_f true (p 24 i))) := by
  obtain ⟨p', r, run⟩ := tm_fed_short h hb
  have esc : ∀ (k : Bool) (q : tm_P) (post : St1 → Prop), post (tm_T k (tm_v 0 1 q)) → wpX_read post (tm_T k q) (nI 0) (nI 27) := fun k q post hp => tm_rd_esc (t := 0) (by omega) k post hp
  unfold wL_law_338
  refine tm_feed (k := false) (p := p) (b := 27) (by omega) (esc false p) _ ?_
  refine tm_feed (k := false) (p := tm_v 0 1 p) (by omega) (run false) _ ?_
  refine tm_feed (k := true) (p := p) (b := 27) (by omega) (esc true p) _ ?_
  refine tm_feed (k := true) (p := tm_v 0 1 p) (p' := tm_v 0 1 p) (b := 27) (by omega) (fun post hp => esc true (tm_v 0 1 p) post (by rw [tm_vv0]; exact hp)) _ ?_
  refine tm_feed (k := true) (p := tm_v 0 1 p) (by omega) (run true) _ ?_
  exact tm_475 r (hJ p' r)
theorem tm_285 {post : Int32 → Prop} {L : Nat} {xs : Nat → Int32} {J : Int32 → Int32 → Int32 → Int32 → (Nat → Int32) → (Nat → Int32) → (Nat → Int32) → (Nat → Int32) → (Nat → Int32) → (Nat → Int32) → (Nat → Int32) → (Nat → Int32) → (Nat → Int32) → (Nat → Int32) → (Nat → Int32) → (Nat → Int32) → (Nat → Int32) → (Nat → Int32) → (Nat → Int32) → (Nat → Int32) → (Nat → Int32) → (Nat → Int32) → (Nat → Int32) → (Nat → Int32) → (Nat → Int32) → (Nat → Int32) → (Nat → Int32) → (Nat → Int32) → Int32 → Int32 → Int32 → (Nat → Int32) → (Nat → Int32) → (Nat → Int32) → (Nat → Int32) → (Nat → Int32) → (Nat → Int32) → (Nat → Int32) → (Nat → Int32) → (Nat → Int32) → (Nat → Int32) → (Nat → Int32) → (Nat → Int32) → (Nat → Int32) → (Nat → Int32) → (Nat → Int32) → (Nat → Int32) → (Nat → Int32) → (Nat → Int32) → (Nat → Int32) → (Nat → Int32) → (Nat → Int32) → (Nat → Int32) → (Nat → Int32) → (Nat → Int32) → Prop} {j kc ks b n z : Nat} {p : tm_P} (h : tm_L p) (hn : n ≤ 7) (hb : 64 ≤ b ∧ b ≤ 72 ∨ 74 ≤ b ∧ b ≤ 77 ∨ b = 80 ∨ b = 83 ∨ b = 84 ∨ b = 88) (hz : z ≤ 1) (hJ : ∀ p, tm_L p → J (nI (j + 1)) (nI (p 0 0)) (nI (p 25 0)) (nI (p 26 0)) (fun i => nI (tm_f false (p 1 i))) (fun i => nI (p 2 i)) (fun i => nI (p 3 i)) (fun i => nI (p 4 i)) (fun i => nI (p 5 i)) (fun i => nI (p 6 i)) (fun i => nI (p 7 i)) (fun i => nI (p 8 i)) (fun i => nI (p 9 i)) (fun i => nI (p 10 i)) (fun i => nI (p 11 i)) (fun i => nI (p 12 i)) (fun i => nI (p 13 i)) (fun i => nI (p 14 i)) (fun i => nI (p 15 i)) (fun i => nI (p 16 i)) (fun i => nI (p 17 i)) (fun i => nI (p 18 i)) (fun i => nI (p 19 i)) (fun i => nI (p 20 i)) (fun i => nI (p 21 i)) (fun i => nI (p 22 i)) (fun i => nI (p 23 i)) (fun i => nI (tm_f false (p 24 i))) (nI (p 0 0)) (nI (p 25 0)) (nI (p 26 0)) (fun i => nI (tm_f true (p 1 i))) (fun i => nI (p 2 i)) (fun i => nI (p 3 i)) (fun i => nI (p 4 i)) (fun i => nI (p 5 i)) (fun i => nI (p 6 i)) (fun i => nI (p 7 i)) (fun i => nI (p 8 i)) (fun i => nI (p 9 i)) (fun i => nI (p 10 i)) (fun i => nI (p 11 i)) (fun i => nI (p 12 i)) (fun i => nI (p 13 i)) (fun i => nI (p 14 i)) (fun i => nI (p 15 i)) (fun i => nI (p 16 i)) (fun i => nI (p 17 i)) (fun i => nI (p 18 i)) (fun i => nI (p 19 i)) (fun i => nI (p 20 i)) (fun i => nI (p 21 i)) (fun i => nI (p 22 i)) (fun i => nI (p 23 i)) (fun i => nI (tm_f true (p 24 i)))) : wL_law_285 post L xs J (nI j) (nI z) (nI b) (nI n) kc ks (nI (p 0 0)) (nI (p 25 0)) (nI (p 26 0)) (fun i => nI (tm_f false (p 1 i))) (fun i => nI (p 2 i)) (fun i => nI (p 3 i)) (fun i => nI (p 4 i)) (fun i => nI (p 5 i)) (fun i => nI (p 6 i)) (fun i => nI (p 7 i)) (fun i => nI (p 8 i)) (fun i => nI (p 9 i)) (fun i => nI (p 10 i)) (fun i => nI (p 11 i)) (fun i => nI (p 12 i)) (fun i => nI (p 13 i)) (fun i => nI (p 14 i)) (fun i => nI (p 15 i)) (fun i => nI (p 16 i)) (fun i => nI (p 17 i)) (fun i => nI (p 18 i)) (fun i => nI (p 19 i)) (fun i => nI (p 20 i)) (fun i => nI (p 21 i)) (fun i => nI (p 22 i)) (fun i => nI (p 23 i)) (fun i => nI (tm_f false (p 24 i))) (nI (p 0 0)) (nI (p 25 0)) (nI (p 26 0)) (fun i => nI (tm_f true (p 1 i))) (fun i => nI (p 2 i)) (fun i => nI (p 3 i)) (fun i => nI (p 4 i)) (fun i => nI (p 5 i)) (fun i => nI (p 6 i)) (fun i => nI (p 7 i)) (fun i => nI (p 8 i)) (fun i => nI (p 9 i)) (fun i => nI (p 10 i)) (fun i => nI (p 11 i)) (fun i => nI (p 12 i)) (fun i => nI (p 13 i)) (fun i => nI (p 14 i)) (fun i => nI (p 15 i)) (fun i => nI (p 16 i)) (fun i => nI (p 17 i)) (fun i => nI (p 18 i)) (fun i => nI (p 19 i)) (fun i => nI (p 20 i)) (fun i => nI (p 21 i)) (fun i => nI (p 22 i)) (fun i => nI (p 23 i)) (fun i => nI (tm_f true (p 24 i))) := by
  obtain ⟨p', r, run⟩ := tm_seq (z := z) h hn hb hz
  unfold wL_law_285
  refine run _ ?_
  exact tm_475 r (hJ p' r)
theorem tm_261 {post : Int32 → Prop} {L : Nat} {xs : Nat → Int32} {J : Int32 → Int32 → Int32 → Int32 → (Nat → Int32) → (Nat → Int32) → (Nat → Int32) → (Nat → Int32) → (Nat → Int32) → (Nat → Int32) → (Nat → Int32) → (Nat → Int32) → (Nat → Int32) → (Nat → Int32) → (Nat → Int32) → (Nat → Int32) → (Nat → Int32) → (Nat → Int32) → (Nat → Int32) → (Nat → Int32) → (Nat → Int32) → (Nat → Int32) → (Nat → Int32) → (Nat → Int32) → (Nat → Int32) → (Nat → Int32) → (Nat → Int32) → (Nat → Int32) → Int32 → Int32 → Int32 → (Nat → Int32) → (Nat → Int32) → (Nat → Int32) → (Nat → Int32) → (Nat → Int32) → (Nat → Int32) → (Nat → Int32) → (Nat → Int32) → (Nat → Int32) → (Nat → Int32) → (Nat → Int32) → (Nat → Int32) → (Nat → Int32) → (Nat → Int32) → (Nat → Int32) → (Nat → Int32) → (Nat → Int32) → (Nat → Int32) → (Nat → Int32) → (Nat → Int32) → (Nat → Int32) → (Nat → Int32) → (Nat → Int32) → (Nat → Int32) → Prop} {j kc ks b n : Nat} {X : Int32} {p : tm_P} (h : tm_L p) (hn : n ≤ 7) (hb : 64 ≤ b ∧ b ≤ 72 ∨ 74 ≤ b ∧ b ≤ 77 ∨ b = 80 ∨ b = 83 ∨ b = 84 ∨ b = 88) (hJ : ∀ p, tm_L p → J (nI (j + 1)) (nI (p 0 0)) (nI (p 25 0)) (nI (p 26 0)) (fun i => nI (tm_f false (p 1 i))) (fun i => nI (p 2 i)) (fun i => nI (p 3 i)) (fun i => nI (p 4 i)) (fun i => nI (p 5 i)) (fun i => nI (p 6 i)) (fun i => nI (p 7 i)) (fun i => nI (p 8 i)) (fun i => nI (p 9 i)) (fun i => nI (p 10 i)) (fun i => nI (p 11 i)) (fun i => nI (p 12 i)) (fun i => nI (p 13 i)) (fun i => nI (p 14 i)) (fun i => nI (p 15 i)) (fun i => nI (p 16 i)) (fun i => nI (p 17 i)) (fun i => nI (p 18 i)) (fun i => nI (p 19 i)) (fun i => nI (p 20 i)) (fun i => nI (p 21 i)) (fun i => nI (p 22 i)) (fun i => nI (p 23 i)) (fun i => nI (tm_f false (p 24 i))) (nI (p 0 0)) (nI (p 25 0)) (nI (p 26 0)) (fun i => nI (tm_f true (p 1 i))) (fun i => nI (p 2 i)) (fun i => nI (p 3 i)) (fun i => nI (p 4 i)) (fun i => nI (p 5 i)) (fun i => nI (p 6 i)) (fun i => nI (p 7 i)) (fun i => nI (p 8 i)) (fun i => nI (p 9 i)) (fun i => nI (p 10 i)) (fun i => nI (p 11 i)) (fun i => nI (p 12 i)) (fun i => nI (p 13 i)) (fun i => nI (p 14 i)) (fun i => nI (p 15 i)) (fun i => nI (p 16 i)) (fun i => nI (p 17 i)) (fun i => nI (p 18 i)) (fun i => nI (p 19 i)) (fun i => nI (p 20 i)) (fun i => nI (p 21 i)) (fun i => nI (p 22 i)) (fun i => nI (p 23 i)) (fun i => nI (tm_f true (p 24 i)))) : wL_law_261 post L xs J (nI j) X (nI n) (nI b) kc ks (nI (p 0 0)) (nI (p 25 0)) (nI (p 26 0)) (fun i => nI (tm_f false (p 1 i))) (fun i => nI (p 2 i)) (fun i => nI (p 3 i)) (fun i => nI (p 4 i)) (fun i => nI (p 5 i)) (fun i => nI (p 6 i)) (fun i => nI (p 7 i)) (fun i => nI (p 8 i)) (fun i => nI (p 9 i)) (fun i => nI (p 10 i)) (fun i => nI (p 11 i)) (fun i => nI (p 12 i)) (fun i => nI (p 13 i)) (fun i => nI (p 14 i)) (fun i => nI (p 15 i)) (fun i => nI (p 16 i)) (fun i => nI (p 17 i)) (fun i => nI (p 18 i)) (fun i => nI (p 19 i)) (fun i => nI (p 20 i)) (fun i => nI (p 21 i)) (fun i => nI (p 22 i)) (fun i => nI (p 23 i)) (fun i => nI (tm_f false (p 24 i))) (nI (p 0 0)) (nI (p 25 0)) (nI (p 26 0)) (fun i => nI (tm_f true (p 1 i))) (fun i => nI (p 2 i)) (fun i => nI (p 3 i)) (fun i => nI (p 4 i)) (fun i => nI (p 5 i)) (fun i => nI (p 6 i)) (fun i => nI (p 7 i)) (fun i => nI (p 8 i)) (fun i => nI (p 9 i)) (fun i => nI (p 10 i)) (fun i => nI (p 11 i)) (fun i => nI (p 12 i)) (fun i => nI (p 13 i)) (fun i => nI (p 14 i)) (fun i => nI (p 15 i)) (fun i => nI (p 16 i)) (fun i => nI (p 17 i)) (fun i => nI (p 18 i)) (fun i => nI (p 19 i)) (fun i => nI (p 20 i)) (fun i => nI (p 21 i)) (fun i => nI (p 22 i)) (fun i => nI (p 23 i)) (fun i => nI (tm_f true (p 24 i))) :=
  br_c (fun _ => tm_285 (z := 1) h hn hb (by omega) hJ) (fun _ => tm_285 (z := 0) h hn hb (by omega) hJ)
theorem tm_461 {post : Int32 → Prop} {L : Nat} {xs : Nat → Int32} {J : Int32 → Int32 → Int32 → Int32 → (Nat → Int32) → (Nat → Int32) → (Nat → Int32) → (Nat → Int32) → (Nat → Int32) → (Nat → Int32) → (Nat → Int32) → (Nat → Int32) → (Nat → Int32) → (Nat → Int32) → (Nat → Int32) → (Nat → Int32) → (Nat → Int32) → (Nat → Int32) → (Nat → Int32) → (Nat → Int32) → (Nat → Int32) → (Nat → Int32) → (Nat → Int32) → (Nat → Int32) → (Nat → Int32) → (Nat → Int32) → (Nat → Int32) → (Nat → Int32) → Int32 → Int32 → Int32 → (Nat → Int32) → (Nat → Int32) → (Nat → Int32) → (Nat → Int32) → (Nat → Int32) → (Nat → Int32) → (Nat → Int32) → (Nat → Int32) → (Nat → Int32) → (Nat → Int32) → (Nat → Int32) → (Nat → Int32) → (Nat → Int32) → (Nat → Int32) → (Nat → Int32) → (Nat → Int32) → (Nat → Int32) → (Nat → Int32) → (Nat → Int32) → (Nat → Int32) → (Nat → Int32) → (Nat → Int32) → (Nat → Int32) → (Nat → Int32) → Prop} {j kc ks b m : Nat} {p q : tm_P} (h : tm_L p) (hq : q = tm_pre 0 3 1 1 m p) (hm : m ≤ 99) (hb : b = 104 ∨ b = 108) (hJ : ∀ p, tm_L p → J (nI (j + 1)) (nI (p 0 0)) (nI (p 25 0)) (nI (p 26 0)) (fun i => nI (tm_f false (p 1 i))) (fun i => nI (p 2 i)) (fun i => nI (p 3 i)) (fun i => nI (p 4 i)) (fun i => nI (p 5 i)) (fun i => nI (p 6 i)) (fun i => nI (p 7 i)) (fun i => nI (p 8 i)) (fun i => nI (p 9 i)) (fun i => nI (p 10 i)) (fun i => nI (p 11 i)) (fun i => nI (p 12 i)) (fun i => nI (p 13 i)) (fun i => nI (p 14 i)) (fun i => nI (p 15 i)) (fun i => nI (p 16 i)) (fun i => nI (p 17 i)) (fun i => nI (p 18 i)) (fun i => nI (p 19 i)) (fun i => nI (p 20 i)) (fun i => nI (p 21 i)) (fun i => nI (p 22 i)) (fun i => nI (p 23 i)) (fun i => nI (tm_f false (p 24 i))) (nI (p 0 0)) (nI (p 25 0)) (nI (p 26 0)) (fun i => nI (tm_f true (p 1 i))) (fun i => nI (p 2 i)) (fun i => nI (p 3 i)) (fun i => nI (p 4 i)) (fun i => nI (p 5 i)) (fun i => nI (p 6 i)) (fun i => nI (p 7 i)) (fun i => nI (p 8 i)) (fun i => nI (p 9 i)) (fun i => nI (p 10 i)) (fun i => nI (p 11 i)) (fun i => nI (p 12 i)) (fun i => nI (p 13 i)) (fun i => nI (p 14 i)) (fun i => nI (p 15 i)) (fun i => nI (p 16 i)) (fun i => nI (p 17 i)) (fun i => nI (p 18 i)) (fun i => nI (p 19 i)) (fun i => nI (p 20 i)) (fun i => nI (p 21 i)) (fun i => nI (p 22 i)) (fun i => nI (p 23 i)) (fun i => nI (tm_f true (p 24 i)))) : wL_law_461 post L xs J (nI j) (nI b) kc ks (nI (q 0 0)) (nI (q 25 0)) (nI (q 26 0)) (fun i => nI (tm_f false (q 1 i))) (fun i => nI (q 2 i)) (fun i => nI (q 3 i)) (fun i => nI (q 4 i)) (fun i => nI (q 5 i)) (fun i => nI (q 6 i)) (fun i => nI (q 7 i)) (fun i => nI (q 8 i)) (fun i => nI (q 9 i)) (fun i => nI (q 10 i)) (fun i => nI (q 11 i)) (fun i => nI (q 12 i)) (fun i => nI (q 13 i)) (fun i => nI (q 14 i)) (fun i => nI (q 15 i)) (fun i => nI (q 16 i)) (fun i => nI (q 17 i)) (fun i => nI (q 18 i)) (fun i => nI (q 19 i)) (fun i => nI (q 20 i)) (fun i => nI (q 21 i)) (fun i => nI (q 22 i)) (fun i => nI (q 23 i)) (fun i => nI (tm_f false (q 24 i))) (nI (q 0 0)) (nI (q 25 0)) (nI (q 26 0)) (fun i => nI (tm_f true (q 1 i))) (fun i => nI (q 2 i)) (fun i => nI (q 3 i)) (fun i => nI (q 4 i)) (fun i => nI (q 5 i)) (fun i => nI (q 6 i)) (fun i => nI (q 7 i)) (fun i => nI (q 8 i)) (fun i => nI (q 9 i)) (fun i => nI (q 10 i)) (fun i => nI (q 11 i)) (fun i => nI (q 12 i)) (fun i => nI (q 13 i)) (fun i => nI (q 14 i)) (fun i => nI (q 15 i)) (fun i => nI (q 16 i)) (fun i => nI (q 17 i)) (fun i => nI (q 18 i)) (fun i => nI (q 19 i)) (fun i => nI (q 20 i)) (fun i => nI (q 21 i)) (fun i => nI (q 22 i)) (fun i => nI (q 23 i)) (fun i => nI (tm_f true (q 24 i))) := by
  subst hq
  obtain ⟨p', r, run⟩ := tm_fed_lastQ h hm hb
  unfold wL_law_461
  refine tm_feed (k := false) (p := tm_pre 0 3 1 1 m p) (by omega) (run false) _ ?_
  refine tm_feed (k := true) (p := tm_pre 0 3 1 1 m p) (by omega) (run true) _ ?_
  exact tm_475 r (hJ p' r)
theorem tm_410 {post : Int32 → Prop} {L : Nat} {xs : Nat → Int32} {J : Int32 → Int32 → Int32 → Int32 → (Nat → Int32) → (Nat → Int32) → (Nat → Int32) → (Nat → Int32) → (Nat → Int32) → (Nat → Int32) → (Nat → Int32) → (Nat → Int32) → (Nat → Int32) → (Nat → Int32) → (Nat → Int32) → (Nat → Int32) → (Nat → Int32) → (Nat → Int32) → (Nat → Int32) → (Nat → Int32) → (Nat → Int32) → (Nat → Int32) → (Nat → Int32) → (Nat → Int32) → (Nat → Int32) → (Nat → Int32) → (Nat → Int32) → (Nat → Int32) → Int32 → Int32 → Int32 → (Nat → Int32) → (Nat → Int32) → (Nat → Int32) → (Nat → Int32) → (Nat → Int32) → (Nat → Int32) → (Nat → Int32) → (Nat → Int32) → (Nat → Int32) → (Nat → Int32) → (Nat → Int32) → (Nat → Int32) → (Nat → Int32) → (Nat → Int32) → (Nat → Int32) → (Nat → Int32) → (Nat → Int32) → (Nat → Int32) → (Nat → Int32) → (Nat → Int32) → (Nat → Int32) → (Nat → Int32) → (Nat → Int32) → (Nat → Int32) → Prop} {j kc ks b c : Nat} {p : tm_P} (h : tm_L p) (hb : b = 104 ∨ b = 108) (hc : c = 55 ∨ c = 52) (hJ : ∀ p, tm_L p → J (nI (j + 1)) (nI (p 0 0)) (nI (p 25 0)) (nI (p 26 0)) (fun i => nI (tm_f false (p 1 i))) (fun i => nI (p 2 i)) (fun i => nI (p 3 i)) (fun i => nI (p 4 i)) (fun i => nI (p 5 i)) (fun i => nI (p 6 i)) (fun i => nI (p 7 i)) (fun i => nI (p 8 i)) (fun i => nI (p 9 i)) (fun i => nI (p 10 i)) (fun i => nI (p 11 i)) (fun i => nI (p 12 i)) (fun i => nI (p 13 i)) (fun i => nI (p 14 i)) (fun i => nI (p 15 i)) (fun i => nI (p 16 i)) (fun i => nI (p 17 i)) (fun i => nI (p 18 i)) (fun i => nI (p 19 i)) (fun i => nI (p 20 i)) (fun i => nI (p 21 i)) (fun i => nI (p 22 i)) (fun i => nI (p 23 i)) (fun i => nI (tm_f false (p 24 i))) (nI (p 0 0)) (nI (p 25 0)) (nI (p 26 0)) (fun i => nI (tm_f true (p 1 i))) (fun i => nI (p 2 i)) (fun i => nI (p 3 i)) (fun i => nI (p 4 i)) (fun i => nI (p 5 i)) (fun i => nI (p 6 i)) (fun i => nI (p 7 i)) (fun i => nI (p 8 i)) (fun i => nI (p 9 i)) (fun i => nI (p 10 i)) (fun i => nI (p 11 i)) (fun i => nI (p 12 i)) (fun i => nI (p 13 i)) (fun i => nI (p 14 i)) (fun i => nI (p 15 i)) (fun i => nI (p 16 i)) (fun i => nI (p 17 i)) (fun i => nI (p 18 i)) (fun i => nI (p 19 i)) (fun i => nI (p 20 i)) (fun i => nI (p 21 i)) (fun i => nI (p 22 i)) (fun i => nI (p 23 i)) (fun i => nI (tm_f true (p 24 i)))) : wL_law_410 post L xs J (nI j) (nI b) (nI c) kc ks (nI (p 0 0)) (nI (p 25 0)) (nI (p 26 0)) (fun i => nI (tm_f false (p 1 i))) (fun i => nI (p 2 i)) (fun i => nI (p 3 i)) (fun i => nI (p 4 i)) (fun i => nI (p 5 i)) (fun i => nI (p 6 i)) (fun i => nI (p 7 i)) (fun i => nI (p 8 i)) (fun i => nI (p 9 i)) (fun i => nI (p 10 i)) (fun i => nI (p 11 i)) (fun i => nI (p 12 i)) (fun i => nI (p 13 i)) (fun i => nI (p 14 i)) (fun i => nI (p 15 i)) (fun i => nI (p 16 i)) (fun i => nI (p 17 i)) (fun i => nI (p 18 i)) (fun i => nI (p 19 i)) (fun i => nI (p 20 i)) (fun i => nI (p 21 i)) (fun i => nI (p 22 i)) (fun i => nI (p 23 i)) (fun i => nI (tm_f false (p 24 i))) (nI (p 0 0)) (nI (p 25 0)) (nI (p 26 0)) (fun i => nI (tm_f true (p 1 i))) (fun i => nI (p 2 i)) (fun i => nI (p 3 i)) (fun i => nI (p 4 i)) (fun i => nI (p 5 i)) (fun i => nI (p 6 i)) (fun i => nI (p 7 i)) (fun i => nI (p 8 i)) (fun i => nI (p 9 i)) (fun i => nI (p 10 i)) (fun i => nI (p 11 i)) (fun i => nI (p 12 i)) (fun i => nI (p 13 i)) (fun i => nI (p 14 i)) (fun i => nI (p 15 i)) (fun i => nI (p 16 i)) (fun i => nI (p 17 i)) (fun i => nI (p 18 i)) (fun i => nI (p 19 i)) (fun i => nI (p 20 i)) (fun i => nI (p 21 i)) (fun i => nI (p 22 i)) (fun i => nI (p 23 i)) (fun i => nI (tm_f true (p 24 i))) := by
  have dg : ∀ (k : Bool) (m d : Nat), d ≤ 9 → 10 * m + d ≤ 99 → ∀ post : St1 → Prop, post (tm_T k (tm_pre 0 3 1 1 (10 * m + d) p)) → wpX_read post (tm_T k (tm_pre 0 3 1 1 m p)) (nI 0) (nI (48 + d)) := fun k m d hd hm post hp => tm_fed_digit h (Or.inr rfl) (by omega) hd hm k post hp
  unfold wL_law_410
  refine tm_threeQ (k := false) (p := p) _ ?_
  refine tm_threeQ (k := true) (p := p) _ ?_
  rcases hc with e | e
  · subst e
    refine tm_feed (k := false) (p := tm_pre 0 3 1 1 0 p) (p' := tm_pre 0 3 1 1 7 p) (b := 55) (by omega) (dg false 0 7 (by omega) (by omega)) _ ?_
    refine tm_feed (k := true) (p := tm_pre 0 3 1 1 0 p) (p' := tm_pre 0 3 1 1 7 p) (b := 55) (by omega) (dg true 0 7 (by omega) (by omega)) _ ?_
    refine br_f (by decide) ?_
    exact tm_461 (q := tm_pre 0 3 1 1 7 p) h rfl (by omega) hb hJ
  · subst e
    refine tm_feed (k := false) (p := tm_pre 0 3 1 1 0 p) (p' := tm_pre 0 3 1 1 4 p) (b := 52) (by omega) (dg false 0 4 (by omega) (by omega)) _ ?_
    refine tm_feed (k := true) (p := tm_pre 0 3 1 1 0 p) (p' := tm_pre 0 3 1 1 4 p) (b := 52) (by omega) (dg true 0 4 (by omega) (by omega)) _ ?_
    refine br_t rfl ?_
    refine tm_feed (k := false) (p := tm_pre 0 3 1 1 4 p) (p' := tm_pre 0 3 1 1 49 p) (b := 57) (by omega) (dg false 4 9 (by omega) (by omega)) _ ?_
    refine tm_feed (k := true) (p := tm_pre 0 3 1 1 4 p) (p' := tm_pre 0 3 1 1 49 p) (b := 57) (by omega) (dg true 4 9 (by omega) (by omega)) _ ?_
    exact tm_461 (q := tm_pre 0 3 1 1 49 p) h rfl (by omega) hb hJ
theorem tm_392 {post : Int32 → Prop} {L : Nat} {xs : Nat → Int32} {J : Int32 → Int32 → Int32 → Int32 → (Nat → Int32) → (Nat → Int32) → (Nat → Int32) → (Nat → Int32) → (Nat → Int32) → (Nat → Int32) → (Nat → Int32) → (Nat → Int32) → (Nat → Int32) → (Nat → Int32) → (Nat → Int32) → (Nat → Int32) → (Nat → Int32) → (Nat → Int32) → (Nat → Int32) → (Nat → Int32) → (Nat → Int32) → (Nat → Int32) → (Nat → Int32) → (Nat → Int32) → (Nat → Int32) → (Nat → Int32) → (Nat → Int32) → (Nat → Int32) → Int32 → Int32 → Int32 → (Nat → Int32) → (Nat → Int32) → (Nat → Int32) → (Nat → Int32) → (Nat → Int32) → (Nat → Int32) → (Nat → Int32) → (Nat → Int32) → (Nat → Int32) → (Nat → Int32) → (Nat → Int32) → (Nat → Int32) → (Nat → Int32) → (Nat → Int32) → (Nat → Int32) → (Nat → Int32) → (Nat → Int32) → (Nat → Int32) → (Nat → Int32) → (Nat → Int32) → (Nat → Int32) → (Nat → Int32) → (Nat → Int32) → (Nat → Int32) → Prop} {j kc ks b : Nat} {X : Int32} {p : tm_P} (h : tm_L p) (hb : b = 104 ∨ b = 108) (hJ : ∀ p, tm_L p → J (nI (j + 1)) (nI (p 0 0)) (nI (p 25 0)) (nI (p 26 0)) (fun i => nI (tm_f false (p 1 i))) (fun i => nI (p 2 i)) (fun i => nI (p 3 i)) (fun i => nI (p 4 i)) (fun i => nI (p 5 i)) (fun i => nI (p 6 i)) (fun i => nI (p 7 i)) (fun i => nI (p 8 i)) (fun i => nI (p 9 i)) (fun i => nI (p 10 i)) (fun i => nI (p 11 i)) (fun i => nI (p 12 i)) (fun i => nI (p 13 i)) (fun i => nI (p 14 i)) (fun i => nI (p 15 i)) (fun i => nI (p 16 i)) (fun i => nI (p 17 i)) (fun i => nI (p 18 i)) (fun i => nI (p 19 i)) (fun i => nI (p 20 i)) (fun i => nI (p 21 i)) (fun i => nI (p 22 i)) (fun i => nI (p 23 i)) (fun i => nI (tm_f false (p 24 i))) (nI (p 0 0)) (nI (p 25 0)) (nI (p 26 0)) (fun i => nI (tm_f true (p 1 i))) (fun i => nI (p 2 i)) (fun i => nI (p 3 i)) (fun i => nI (p 4 i)) (fun i => nI (p 5 i)) (fun i => nI (p 6 i)) (fun i => nI (p 7 i)) (fun i => nI (p 8 i)) (fun i => nI (p 9 i)) (fun i => nI (p 10 i)) (fun i => nI (p 11 i)) (fun i => nI (p 12 i)) (fun i => nI (p 13 i)) (fun i => nI (p 14 i)) (fun i => nI (p 15 i)) (fun i => nI (p 16 i)) (fun i => nI (p 17 i)) (fun i => nI (p 18 i)) (fun i => nI (p 19 i)) (fun i => nI (p 20 i)) (fun i => nI (p 21 i)) (fun i => nI (p 22 i)) (fun i => nI (p 23 i)) (fun i => nI (tm_f true (p 24 i)))) : wL_law_392 post L xs J (nI j) X (nI b) kc ks (nI (p 0 0)) (nI (p 25 0)) (nI (p 26 0)) (fun i => nI (tm_f false (p 1 i))) (fun i => nI (p 2 i)) (fun i => nI (p 3 i)) (fun i => nI (p 4 i)) (fun i => nI (p 5 i)) (fun i => nI (p 6 i)) (fun i => nI (p 7 i)) (fun i => nI (p 8 i)) (fun i => nI (p 9 i)) (fun i => nI (p 10 i)) (fun i => nI (p 11 i)) (fun i => nI (p 12 i)) (fun i => nI (p 13 i)) (fun i => nI (p 14 i)) (fun i => nI (p 15 i)) (fun i => nI (p 16 i)) (fun i => nI (p 17 i)) (fun i => nI (p 18 i)) (fun i => nI (p 19 i)) (fun i => nI (p 20 i)) (fun i => nI (p 21 i)) (fun i => nI (p 22 i)) (fun i => nI (p 23 i)) (fun i => nI (tm_f false (p 24 i))) (nI (p 0 0)) (nI (p 25 0)) (nI (p 26 0)) (fun i => nI (tm_f true (p 1 i))) (fun i => nI (p 2 i)) (fun i => nI (p 3 i)) (fun i => nI (p 4 i)) (fun i => nI (p 5 i)) (fun i => nI (p 6 i)) (fun i => nI (p 7 i)) (fun i => nI (p 8 i)) (fun i => nI (p 9 i)) (fun i => nI (p 10 i)) (fun i => nI (p 11 i)) (fun i => nI (p 12 i)) (fun i => nI (p 13 i)) (fun i => nI (p 14 i)) (fun i => nI (p 15 i)) (fun i => nI (p 16 i)) (fun i => nI (p 17 i)) (fun i => nI (p 18 i)) (fun i => nI (p 19 i)) (fun i => nI (p 20 i)) (fun i => nI (p 21 i)) (fun i => nI (p 22 i)) (fun i => nI (p 23 i)) (fun i => nI (tm_f true (p 24 i))) :=
  br_c (fun _ => tm_410 (c := 55) h hb (Or.inl rfl) hJ) (fun _ => tm_410 (c := 52) h hb (Or.inr rfl) hJ)
theorem tm_law_l {L kc ks : Nat} {xs : Nat → Int32} (hL : L ≤ 260) : ∀ (n j : Nat) (p : tm_P), j ≤ L → L - j < n → tm_L p → wL_law_18 (fun r => r = 1) L xs kc ks n (nI j) (nI (p 0 0)) (nI (p 25 0)) (nI (p 26 0)) (fun i => nI (tm_f false (p 1 i))) (fun i => nI (p 2 i)) (fun i => nI (p 3 i)) (fun i => nI (p 4 i)) (fun i => nI (p 5 i)) (fun i => nI (p 6 i)) (fun i => nI (p 7 i)) (fun i => nI (p 8 i)) (fun i => nI (p 9 i)) (fun i => nI (p 10 i)) (fun i => nI (p 11 i)) (fun i => nI (p 12 i)) (fun i => nI (p 13 i)) (fun i => nI (p 14 i)) (fun i => nI (p 15 i)) (fun i => nI (p 16 i)) (fun i => nI (p 17 i)) (fun i => nI (p 18 i)) (fun i => nI (p 19 i)) (fun i => nI (p 20 i)) (fun i => nI (p 21 i)) (fun i => nI (p 22 i)) (fun i => nI (p 23 i)) (fun i => nI (tm_f false (p 24 i))) (nI (p 0 0)) (nI (p 25 0)) (nI (p 26 0)) (fun i => nI (tm_f true (p 1 i))) (fun i => nI (p 2 i)) (fun i => nI (p 3 i)) (fun i => nI (p 4 i)) (fun i => nI (p 5 i)) (fun i => nI (p 6 i)) (fun i => nI (p 7 i)) (fun i => nI (p 8 i)) (fun i => nI (p 9 i)) (fun i => nI (p 10 i)) (fun i => nI (p 11 i)) (fun i => nI (p 12 i)) (fun i => nI (p 13 i)) (fun i => nI (p 14 i)) (fun i => nI (p 15 i)) (fun i => nI (p 16 i)) (fun i => nI (p 17 i)) (fun i => nI (p 18 i)) (fun i => nI (p 19 i)) (fun i => nI (p 20 i)) (fun i => nI (p 21 i)) (fun i => nI (p 22 i)) (fun i => nI (p 23 i)) (fun i => nI (tm_f true (p 24 i))) := by
  intro n
  induction n with
  | zero => intro j p hj hn; exact absurd hn (by omega)
  | succ n ih =>
    intro j p hj hn h
    refine pk_le L j (fun _ => ?_) (fun hlt => ?_)
    · have hd := tm_ds_le p 6
      refine tm_refresh (k := false) (p := p) h (fun p1 i1 x1 => ?_)
      refine tm_refresh (k := true) (p := p) h (fun p2 i2 x2 => ?_)
      refine tm_stale (k := false) (p := p1) i1 ?_
      rw [tm_ds_0 6 (fun r hr c hc => x1 r c hr hc)]
      exact br_t rfl (br_t rfl (pk_lt 72 (tm_ds p 6) (fun z => absurd z (by omega)) (fun _ => rfl)))
    · have hJ : ∀ p, tm_L p → wL_law_18 (fun r => r = 1) L xs kc ks n (nI (j + 1)) (nI (p 0 0)) (nI (p 25 0)) (nI (p 26 0)) (fun i => nI (tm_f false (p 1 i))) (fun i => nI (p 2 i)) (fun i => nI (p 3 i)) (fun i => nI (p 4 i)) (fun i => nI (p 5 i)) (fun i => nI (p 6 i)) (fun i => nI (p 7 i)) (fun i => nI (p 8 i)) (fun i => nI (p 9 i)) (fun i => nI (p 10 i)) (fun i => nI (p 11 i)) (fun i => nI (p 12 i)) (fun i => nI (p 13 i)) (fun i => nI (p 14 i)) (fun i => nI (p 15 i)) (fun i => nI (p 16 i)) (fun i => nI (p 17 i)) (fun i => nI (p 18 i)) (fun i => nI (p 19 i)) (fun i => nI (p 20 i)) (fun i => nI (p 21 i)) (fun i => nI (p 22 i)) (fun i => nI (p 23 i)) (fun i => nI (tm_f false (p 24 i))) (nI (p 0 0)) (nI (p 25 0)) (nI (p 26 0)) (fun i => nI (tm_f true (p 1 i))) (fun i => nI (p 2 i)) (fun i => nI (p 3 i)) (fun i => nI (p 4 i)) (fun i => nI (p 5 i)) (fun i => nI (p 6 i)) (fun i => nI (p 7 i)) (fun i => nI (p 8 i)) (fun i => nI (p 9 i)) (fun i => nI (p 10 i)) (fun i => nI (p 11 i)) (fun i => nI (p 12 i)) (fun i => nI (p 13 i)) (fun i => nI (p 14 i)) (fun i => nI (p 15 i)) (fun i => nI (p 16 i)) (fun i => nI (p 17 i)) (fun i => nI (p 18 i)) (fun i => nI (p 19 i)) (fun i => nI (p 20 i)) (fun i => nI (p 21 i)) (fun i => nI (p 22 i)) (fun i => nI (p 23 i)) (fun i => nI (tm_f true (p 24 i))) := fun p hp => ih (j + 1) p (by omega) (by omega) hp
      have vin : vp_in (nI j) L := vp_in_nI hlt (by omega)
      obtain ⟨w, hw, ew⟩ := pk_andE (xs (nI j).toNatClampNeg) (m := 7) 3 (by decide)
      refine ⟨vin, nm_r ew ⟨vin, nm_e ?_⟩⟩
      generalize (xs (nI j).toNatClampNeg >>> ((3 : Int32) &&& 31)) = X
      obtain ⟨m, hm, em⟩ := pk_andE X (m := 7) 3 (by decide)
      refine nm_r em ?_
      refine pk_le 3 w (fun w3 => pk_le 4 w (fun w4 => pk_le 6 w (fun w6 => pk_le 7 w (fun w7 => ?_) (fun w7 => ?_)) (fun w6 => ?_)) (fun w4 => ?_)) (fun w3 => ?_)
      · exact br_c (fun _ => tm_392 (b := 104) h (Or.inl rfl) hJ) (fun _ => tm_392 (b := 108) h (Or.inr rfl) hJ)
      · exact br_c (fun _ => tm_338 (b := 77) h (by omega) hJ) (fun _ => br_c (fun _ => tm_338 (b := 55) h (by omega) hJ) (fun _ => br_c (fun _ => tm_338 (b := 56) h (by omega) hJ) (fun _ => tm_338 (b := 69) h (by omega) hJ)))
      · obtain ⟨y, hy, ey⟩ := pk_andE (X >>> ((3 : Int32) &&& 31)) (m := 31) 5 (by decide)
        refine ⟨by decide, nm_r (e' := nI (y % 17)) (by rw [ey]; exact pk_rem (d := 17) (by omega) (by omega) (by omega)) ?_⟩
        have hy17 : y % 17 < 17 := Nat.mod_lt _ (by omega)
        generalize y % 17 = v at hy17 ⊢
        refine pk_le 9 v (fun _ => pk_eq v 9 (fun _ => tm_261 (b := 74) h (by omega) (by omega) hJ) (fun _ => pk_eq v 10 (fun _ => tm_261 (b := 75) h (by omega) (by omega) hJ) (fun _ => pk_eq v 11 (fun _ => tm_261 (b := 76) h (by omega) (by omega) hJ) (fun _ => pk_eq v 12 (fun _ => tm_261 (b := 77) h (by omega) (by omega) hJ) (fun _ => pk_eq v 13 (fun _ => tm_261 (b := 80) h (by omega) (by omega) hJ) (fun _ => pk_eq v 14 (fun _ => tm_261 (b := 83) h (by omega) (by omega) hJ) (fun _ => pk_eq v 15 (fun _ => tm_261 (b := 84) h (by omega) (by omega) hJ) (fun _ => tm_261 (b := 88) h (by omega) (by omega) hJ)))))))) (fun z => ?_)
        rw [show (64 : Int32) + nI v = nI (64 + v) from nI_add 64 v]
        exact tm_261 (b := 64 + v) h (by omega) (by omega) hJ
      · exact br_c (fun _ => tm_122 (b := 13) h (by omega) hJ) (fun _ => br_c (fun _ => tm_122 (b := 8) h (by omega) hJ) (fun _ => tm_122 (b := 10) h (by omega) hJ))
      · obtain ⟨y, hy, ey⟩ := pk_andE X (m := 31) 5 (by decide)
        have e33 : (33 : Int32) + ((X &&& 31) - (X &&& 31) / 30 * 30) = nI (33 + y % 30) := by
          rw [ey, show nI y - nI y / 30 * 30 = nI (y % 30) from pk_rem (d := 30) (by omega) (by omega) (by omega)]
          exact nI_add 33 (y % 30)
        refine ⟨by decide, nm_r e33 ?_⟩
        have hy30 : y % 30 < 30 := Nat.mod_lt _ (by omega)
        obtain ⟨p', r, run⟩ := tm_fed_sign (s := 33 + y % 30) h (by omega)
        have fr := tm_f_r (k := true) (n := 33 + y % 30) (by omega)
        refine tm_turned (by omega) ?_
        refine tm_feed (k := false) (p := p) (by omega) (fun post hp => by have := run false post hp; rw [tm_f_F] at this; exact this) _ ?_
        refine tm_feed (k := true) (p := p) (by omega) (run true) _ ?_
        exact tm_475 r (hJ p' r)
theorem i_vc (xs : Nat → Int32) (L : Nat) (hL : L ≤ 260) : wpL_law (fun r => r = 1) L xs := by
  obtain ⟨p, h, run⟩ := tm_init
  refine ⟨24, 742, by omega, by omega, ?_⟩
  refine run false _ ⟨by omega, by omega, 24, 742, by omega, by omega, ?_⟩
  refine run true _ ⟨L + 1, ?_⟩
  exact tm_law_l hL (L + 1) 0 p (by omega) (by omega) h
end
