section
/-! The methods that read no text: for each a function that computes its answer, and a lemma that the walk ends there. -/
theorem sd_n10 : ¬ (1 : Int32) = 0 := by decide
theorem sd_t10 : ¬ (10 : Int32) = 0 := by decide
theorem sd_l10 : ¬ (10 : Int64) = 0 := by decide
def sd_un (c : Int32) : Int32 := if c >>> ((6 : Int32) &&& 31) = 0 then c &&& 63 else (64 + (c &&& 63)) <<< ((c >>> ((6 : Int32) &&& 31) - 1) &&& 31)
theorem sd_unitsOf {post : Int32 → Prop} {u : St2} {c : Int32} (h : post (sd_un c)) : wpX_unitsOf post u c := by
  obtain ⟨t, d, s, a⟩ := u
  unfold wpX_unitsOf
  dsimp only
  intro x ex y ey
  subst ex ey
  unfold sd_un at h
  refine br_c (fun z => ?_) (fun z => ?_)
  · rw [if_pos z] at h
    exact h
  · rw [if_neg z] at h
    exact h
def sd_st (c : Int32) : Int64 := (sd_un c).toInt64 * 2000000000000
theorem sd_steps {post : Int64 → Prop} {u : St2} {c : Int32} (h : post (sd_st c)) : wpX_steps post u c := by
  obtain ⟨t, d, s, a⟩ := u
  unfold wpX_steps
  dsimp only
  exact sd_unitsOf h
def sd_bo (c : Int32) : Int64 := (sd_un c + sd_un (c + 1)).toInt64 * 1000000000000
theorem sd_border {post : Int64 → Prop} {u : St2} {c : Int32} (h : post (sd_bo c)) : wpX_borderAbove post u c := by
  obtain ⟨t, d, s, a⟩ := u
  unfold wpX_borderAbove
  dsimp only
  exact sd_unitsOf (sd_unitsOf h)
def sd_te (p : Int32) : Int64 := lN (10 ^ p.toNatClampNeg)
theorem sd_tenTo {post : Int64 → Prop} {u : St2} {p : Int32} (h : post (sd_te p)) : wpX_tenTo post u p := by
  obtain ⟨t, d, s, a⟩ := u
  unfold wpX_tenTo
  dsimp only
  unfold sd_te at h
  by_cases hp : p < 0
  · have h1 : p.toInt < (0 : Int32).toInt := Int32.lt_iff_toInt_lt.mp hp
    have h2 : (0 : Int32).toInt = 0 := by decide
    have h3 : p ≤ 0 := Int32.le_iff_toInt_le.mpr (by omega)
    have e : p.toNatClampNeg = 0 := by
      show p.toInt.toNat = 0
      omega
    rw [e] at h
    exact ⟨1, br_t h3 h⟩
  · obtain ⟨n, hn, rfl⟩ := nI_of hp
    rw [nI_clamp hn] at h
    refine pk_loop (fun k i x => wX_tenTo_5 post (nI n) t d s a k x (nI i)) (fun i x => x = lN (10 ^ i)) n 0 1 (by omega) rfl ?_ ?_
    · intro k x hx
      subst hx
      exact pk_le n n (fun _ => h) (fun z => absurd z (by omega))
    · intro k i x hi hx hw
      refine pk_le n i (fun z => absurd z (by omega)) (fun _ => nm_e (nm_r (nI_1 i) (hw _ ?_)))
      rw [hx, Nat.pow_succ]
      exact lN_mul _ 10
def sd_le (c : Int32) (p : Int64) : Int64 := if ((sd_bo (c - 1) + p) - 1) / p * p = sd_bo (c - 1) then (if (c &&& 1) = 1 then ((sd_bo (c - 1) + p) - 1) / p + 1 else ((sd_bo (c - 1) + p) - 1) / p) else ((sd_bo (c - 1) + p) - 1) / p
theorem sd_least {post : Int64 → Prop} {u : St2} {c : Int32} {p : Int64} (hp : ¬ p = 0) (h : post (sd_le c p)) : wpX_leastMultiple post u c p := by
  obtain ⟨t, d, s, a⟩ := u
  unfold wpX_leastMultiple
  dsimp only
  refine sd_border ⟨hp, ?_⟩
  intro x ex
  unfold sd_le at h
  rw [← ex] at h
  refine br_c (fun z => br_c (fun y => ?_) (fun y => ?_)) (fun z => ?_)
  · rw [if_pos z, if_pos y] at h
    exact br_f sd_n10 h
  · rw [if_pos z, if_neg y] at h
    exact br_t rfl h
  · rw [if_neg z] at h
    exact br_t rfl h
def sd_gr (c : Int32) (p : Int64) : Int64 := if sd_bo c / p * p = sd_bo c then (if (c &&& 1) = 1 then sd_bo c / p - 1 else sd_bo c / p) else sd_bo c / p
theorem sd_great {post : Int64 → Prop} {u : St2} {c : Int32} {p : Int64} (hp : ¬ p = 0) (h : post (sd_gr c p)) : wpX_greatestMultiple post u c p := by
  obtain ⟨t, d, s, a⟩ := u
  unfold wpX_greatestMultiple
  dsimp only
  refine sd_border ⟨hp, ?_⟩
  intro x ex
  unfold sd_gr at h
  rw [← ex] at h
  refine br_c (fun z => br_c (fun y => ?_) (fun y => ?_)) (fun z => ?_)
  · rw [if_pos z, if_pos y] at h
    exact br_f sd_n10 h
  · rw [if_pos z, if_neg y] at h
    exact br_t rfl h
  · rw [if_neg z] at h
    exact br_t rfl h
def sd_n3 (m j : Int64) : Int64 := if j ≤ m then j else m
def sd_n2 (l k : Int64) : Int64 := if l ≤ k then k else l
def sd_n1 (v p : Int64) : Int64 := if 2 * (v - v / p * p) ≤ p then v / p else v / p + 1
def sd_nm (v p l m : Int64) : Int64 := sd_n3 m (sd_n2 l (sd_n1 v p))
theorem sd_n41 {post : Int64 → Prop} {m j : Int64} {t d s : Int32} {a : Nat → Int32} (h : post (sd_n3 m j)) : wX_nearestMultiple_41 post m j t d s a := by
  unfold sd_n3 at h
  refine br_c (fun z => ?_) (fun z => ?_)
  · rw [if_pos z] at h
    exact h
  · rw [if_neg z] at h
    exact h
theorem sd_n26 {post : Int64 → Prop} {l m k : Int64} {t d s : Int32} {a : Nat → Int32} (h : post (sd_n3 m (sd_n2 l k))) : wX_nearestMultiple_26 post l m k t d s a := by
  unfold sd_n2 at h
  refine br_c (fun z => ?_) (fun z => ?_)
  · rw [if_pos z] at h
    exact sd_n41 h
  · rw [if_neg z] at h
    exact sd_n41 h
theorem sd_near {post : Int64 → Prop} {u : St2} {v p l m : Int64} (hp : ¬ p = 0) (h : post (sd_nm v p l m)) : wpX_nearestMultiple post u v p l m := by
  obtain ⟨t, d, s, a⟩ := u
  unfold wpX_nearestMultiple
  dsimp only
  refine ⟨hp, ?_⟩
  intro x ex
  unfold sd_nm sd_n1 at h
  rw [← ex] at h
  refine br_c (fun z => ?_) (fun z => nm_e ?_)
  · rw [if_pos z] at h
    exact sd_n26 h
  · rw [if_neg z] at h
    exact sd_n26 h
def sd_ab (v : Int64) : Int64 := if 0 ≤ v then v else -v
theorem sd_size {post : Int64 → Prop} {u : St2} {v : Int64} (h : post (sd_ab v)) : wpX_size post u v := by
  obtain ⟨t, d, s, a⟩ := u
  unfold wpX_size
  dsimp only
  unfold sd_ab at h
  refine br_c (fun z => ?_) (fun z => ?_)
  · rw [if_pos z] at h
    exact h
  · rw [if_neg z] at h
    exact h
def sd_lo : Nat → Int32 → Int64 → Int32 → Option Int32
  | 0, _, _, _ => none
  | n + 1, x, y, i => if 18 ≤ i then some x else if y ≤ 0 then some x else sd_lo n (x + 1) (y / 10) (i + 1)
theorem sd_lo_ok {post : Int32 → Prop} {t d s : Int32} {a : Nat → Int32} {r : Int32} (hp : post r) : ∀ (n : Nat) (x : Int32) (y : Int64) (i : Int32), sd_lo n x y i = some r → wX_lengthOf_12 post t d s a n x y i := by
  intro n
  induction n with
  | zero => intro x y i h; exact absurd h (fun z => nomatch z)
  | succ n ih =>
    intro x y i h
    unfold sd_lo at h
    refine br_c (fun z => ?_) (fun z => br_c (fun w => ?_) (fun w => nm_e ⟨sd_l10, nm_e (nm_e ?_)⟩))
    · rw [if_pos z] at h
      exact (Option.some.inj h) ▸ hp
    · rw [if_neg z, if_pos w] at h
      exact (Option.some.inj h) ▸ hp
    · rw [if_neg z, if_neg w] at h
      exact ih _ _ _ h
def sd_len (v : Int64) : Option Int32 := sd_lo 20 1 (v / 10) 0
theorem sd_lengthOf {post : Int32 → Prop} {u : St2} {v : Int64} {r : Int32} (h : sd_len v = some r) (hp : post r) : wpX_lengthOf post u v := by
  obtain ⟨t, d, s, a⟩ := u
  unfold wpX_lengthOf
  dsimp only
  exact ⟨sd_l10, nm_e ⟨20, sd_lo_ok hp 20 _ _ _ h⟩⟩
def sd_i3 (v : Int64) (q : Int32) (away : Int64) (d s : Int32) (P k : Int64) : Int32 × Int32 := if sd_ab (k * P - v) < away then (k.toInt32, q) else if sd_ab (k * P - v) = away then (if d.toInt64 ≤ k then (d, s) else (k.toInt32, q)) else (d, s)
def sd_i2 (c : Int32) (v : Int64) (q : Int32) (away : Int64) (d s : Int32) (P z : Int64) : Int32 × Int32 := if z < sd_le c P then (d, s) else sd_i3 v q away d s P (sd_nm v P (sd_le c P) z)
theorem sd_i2_ok {post : St2 → Prop} {c : Int32} {v : Int64} {q : Int32} {away : Int64} {t d s : Int32} {a : Nat → Int32} {P z : Int64} (hP : ¬ P = 0) (hp : post (t, (sd_i2 c v q away d s P z).1, (sd_i2 c v q away d s P z).2, a)) : wX_improve_68 post c v q away P z t d s a := by
  unfold wX_improve_68
  unfold sd_i2 at hp
  refine sd_least hP (br_c (fun w => ?_) (fun w => sd_near hP (sd_size ?_)))
  · rw [if_pos w] at hp
    exact hp
  · rw [if_neg w] at hp
    unfold sd_i3 at hp
    refine br_c (fun x => ?_) (fun x => br_c (fun y => br_c (fun y2 => ?_) (fun y2 => ?_)) (fun y => ?_))
    · rw [if_pos x] at hp
      exact hp
    · rw [if_neg x, if_pos y, if_pos y2] at hp
      exact hp
    · rw [if_neg x, if_pos y, if_neg y2] at hp
      exact hp
    · rw [if_neg x, if_neg y] at hp
      exact hp
def sd_P (q : Int32) : Int64 := 1024 * sd_te (12 + q)
def sd_im (c : Int32) (v : Int64) (q : Int32) (away : Int64) (d s : Int32) : Option (Int32 × Int32) := if (-12) ≤ q then (if sd_P q = 0 then none else match sd_len d.toInt64 with | none => none | some g => some (sd_i2 c v q away d s (sd_P q) (sd_n3 (sd_te g - 1) (sd_gr c (sd_P q))))) else some (d, s)
theorem sd_improve {post : St2 → Prop} {c : Int32} {v : Int64} {q : Int32} {away : Int64} {t d s : Int32} {a : Nat → Int32} {r : Int32 × Int32} (h : sd_im c v q away d s = some r) (hp : post (t, r.1, r.2, a)) : wpX_improve post (t, d, s, a) c v q away := by
  unfold wpX_improve
  dsimp only
  unfold sd_im at h
  refine br_c (fun z => ?_) (fun z => ?_)
  · rw [if_pos z] at h
    by_cases hP : sd_P q = 0
    · rw [if_pos hP] at h
      exact absurd h (fun z => nomatch z)
    · rw [if_neg hP] at h
      cases hg : sd_len d.toInt64 with
      | none => rw [hg] at h; exact absurd h (fun z => nomatch z)
      | some g =>
        rw [hg] at h
        have h' := Option.some.inj h
        subst h'
        refine sd_tenTo (nm_r (show 1024 * sd_te (12 + q) = sd_P q from rfl) (sd_lengthOf hg (sd_great hP (sd_tenTo (nm_e (br_c (fun w => ?_) (fun w => ?_)))))))
        · unfold sd_n3 at hp
          rw [if_pos w] at hp
          exact sd_i2_ok hP hp
        · unfold sd_n3 at hp
          rw [if_neg w] at hp
          exact sd_i2_ok hP hp
  · rw [if_neg z] at h
    have h' := Option.some.inj h
    subst h'
    exact hp
def sd_fs (c : Int32) (v : Int64) : Nat → Int32 → Option (Int32 × Int32)
  | 0, _ => none
  | n + 1, q => if q < (-12) then some (0, 0) else if sd_P q = 0 then none else if sd_gr c (sd_P q) < sd_le c (sd_P q) then sd_fs c v n (q + (-1)) else sd_im c v (q - 1) (sd_ab (sd_nm v (sd_P q) (sd_le c (sd_P q)) (sd_gr c (sd_P q)) * sd_P q - v)) (sd_nm v (sd_P q) (sd_le c (sd_P q)) (sd_gr c (sd_P q))).toInt32 q
theorem sd_fs_ok {post : St2 → Prop} {c : Int32} {v : Int64} {t : Int32} {a : Nat → Int32} {r : Int32 × Int32} (hp : post (t, r.1, r.2, a)) : ∀ (n : Nat) (q : Int32), sd_fs c v n q = some r → wX_findShort_27 post c v (n + 1) 0 q t 0 0 a := by
  intro n
  induction n with
  | zero => intro q h; exact absurd h (fun z => nomatch z)
  | succ n ih =>
    intro q h
    unfold sd_fs at h
    refine br_c (fun z => ?_) (fun z => br_t rfl ?_)
    · rw [if_pos z] at h
      have h' := Option.some.inj h
      subst h'
      exact hp
    · rw [if_neg z] at h
      by_cases hP : sd_P q = 0
      · rw [if_pos hP] at h
        exact absurd h (fun z => nomatch z)
      · rw [if_neg hP] at h
        refine sd_tenTo (nm_r (show 1024 * sd_te (12 + q) = sd_P q from rfl) (sd_least hP (sd_great hP (br_c (fun w => nm_e ?_) (fun w => sd_near hP (sd_size ?_))))))
        · rw [if_pos w] at h
          exact ih _ h
        · rw [if_neg w] at h
          exact sd_improve h (nm_e (br_c (fun _ => hp) (fun _ => br_f sd_n10 hp)))
def sd_fi (c : Int32) : Option (Int32 × Int32) := if c = 0 then some (0, 0) else sd_fs c (sd_st c) 18 3
theorem sd_findShort {post : St2 → Prop} {c t d s : Int32} {a : Nat → Int32} {r : Int32 × Int32} (h : sd_fi c = some r) (hp : post (t, r.1, r.2, a)) : wpX_findShort post (t, d, s, a) c := by
  unfold wpX_findShort
  dsimp only
  unfold sd_fi at h
  refine br_c (fun z => ?_) (fun z => sd_steps ⟨19, ?_⟩)
  · rw [if_pos z] at h
    have h' := Option.some.inj h
    subst h'
    exact hp
  · rw [if_neg z] at h
    exact sd_fs_ok hp 18 3 h
def sd_so (d q : Int32) : Option Int64 := if q < 0 then (if sd_te (-q) = 0 then none else if d.toInt64 / sd_te (-q) ≤ 8000 then some (d.toInt64 * (1024 * sd_te (12 + q))) else some 9000000000000000000) else if d.toInt64 * sd_te q ≤ 8000 then some (((d.toInt64 * sd_te q) * 1024) * 1000000000000) else some 9000000000000000000
theorem sd_stepsOf {post : Int64 → Prop} {u : St2} {d q : Int32} {r : Int64} (h : sd_so d q = some r) (hp : post r) : wpX_stepsOf post u d q := by
  obtain ⟨t, d0, s, a⟩ := u
  unfold wpX_stepsOf
  dsimp only
  unfold sd_so at h
  refine br_c (fun z => sd_tenTo ?_) (fun z => sd_tenTo (nm_e ?_))
  · rw [if_pos z] at h
    by_cases h0 : sd_te (-q) = 0
    · rw [if_pos h0] at h
      exact absurd h (fun z => nomatch z)
    · rw [if_neg h0] at h
      refine ⟨h0, br_c (fun w => sd_tenTo ?_) (fun w => ?_)⟩
      · rw [if_pos w] at h
        exact (Option.some.inj h) ▸ hp
      · rw [if_neg w] at h
        exact (Option.some.inj h) ▸ hp
  · rw [if_neg z] at h
    refine br_c (fun w => ?_) (fun w => ?_)
    · rw [if_pos w] at h
      exact (Option.some.inj h) ▸ hp
    · rw [if_neg w] at h
      exact (Option.some.inj h) ▸ hp
def sd_mi (l h : Int32) : Int32 := (l + h) >>> ((1 : Int32) &&& 31)
def sd_up (v : Int64) (m : Int32) : Bool := decide (sd_bo m < v) || (decide (v = sd_bo m) && decide ((m &&& 1) = 1))
def sd_ne (v : Int64) : Nat → Int32 → Int32 → Int32 → Option Int32
  | 0, _, _, _ => none
  | n + 1, l, h, i => if 11 ≤ i then some l else if h ≤ l then some l else if sd_up v (sd_mi l h) = true then sd_ne v n (sd_mi l h + 1) h (i + 1) else sd_ne v n l (sd_mi l h) (i + 1)
theorem sd_ne_ok {post : Int32 → Prop} {v : Int64} {t d s : Int32} {a : Nat → Int32} {r : Int32} (hp : post r) : ∀ (n : Nat) (l h i : Int32), sd_ne v n l h i = some r → wX_nearest_10 post v t d s a n l h i := by
  intro n
  induction n with
  | zero => intro l h i e; exact absurd e (fun z => nomatch z)
  | succ n ih =>
    intro l h i e
    unfold sd_ne at e
    refine br_c (fun z => ?_) (fun z => br_c (fun w => ?_) (fun w => nm_r (show (l + h) >>> ((1 : Int32) &&& 31) = sd_mi l h from rfl) (sd_border ?_)))
    · rw [if_pos z] at e
      exact (Option.some.inj e) ▸ hp
    · rw [if_neg z, if_pos w] at e
      exact (Option.some.inj e) ▸ hp
    · rw [if_neg z, if_neg w] at e
      have yes : sd_up v (sd_mi l h) = true → wX_nearest_61 post (wX_nearest_10 post v t d s a n) v l h i (sd_mi l h) t d s a := by
        intro hu
        rw [if_pos hu] at e
        exact br_f sd_n10 (nm_e (nm_e (ih _ _ _ e)))
      have no : ¬ sd_up v (sd_mi l h) = true → wX_nearest_65 post (wX_nearest_10 post v t d s a n) v l h i (sd_mi l h) t d s a := by
        intro hu
        rw [if_neg hu] at e
        exact br_t rfl (nm_e (ih _ _ _ e))
      refine br_c (fun x => yes ?_) (fun x => br_c (fun y => br_c (fun y2 => yes ?_) (fun y2 => no ?_)) (fun y => no ?_))
      · simp only [sd_up, x, decide_true, Bool.true_or]
      · simp only [sd_up, y, y2, decide_true, Bool.and_self, Bool.or_true]
      · simp only [sd_up, x, y2, decide_false, Bool.and_false, Bool.or_self]
        exact fun z => nomatch z
      · simp only [sd_up, x, y, decide_false, Bool.false_and, Bool.or_self]
        exact fun z => nomatch z
def sd_nr (v : Int64) : Option Int32 := sd_ne v 12 0 1023 0
theorem sd_nearest {post : Int32 → Prop} {u : St2} {v : Int64} {r : Int32} (h : sd_nr v = some r) (hp : post r) : wpX_nearest post u v := by
  obtain ⟨t, d, s, a⟩ := u
  unfold wpX_nearest
  dsimp only
  exact ⟨12, sd_ne_ok hp 12 0 1023 0 h⟩
def sd_w3 (n : Int64) : Int64 := n >>> ((9 : Int32).toInt64 &&& 63)
def sd_ww (c p : Int32) : Int32 := if 256 < ((sd_un c).toInt64 * sd_te p) &&& 511 then (sd_w3 ((sd_un c).toInt64 * sd_te p) + 1).toInt32 else if ((sd_un c).toInt64 * sd_te p) &&& 511 = 256 then (if sd_w3 ((sd_un c).toInt64 * sd_te p) &&& 1 = 1 then (sd_w3 ((sd_un c).toInt64 * sd_te p) + 1).toInt32 else (sd_w3 ((sd_un c).toInt64 * sd_te p)).toInt32) else (sd_w3 ((sd_un c).toInt64 * sd_te p)).toInt32
theorem sd_writtenWith {post : Int32 → Prop} {u : St2} {c p : Int32} (hp : post (sd_ww c p)) : wpX_writtenWith post u c p := by
  obtain ⟨t, d, s, a⟩ := u
  unfold wpX_writtenWith
  dsimp only
  refine sd_unitsOf (sd_tenTo ?_)
  intro x ex
  unfold sd_ww at hp
  rw [← ex] at hp
  refine nm_r (show x >>> ((9 : Int32).toInt64 &&& 63) = sd_w3 x from rfl) (nm_e ?_)
  refine br_c (fun z => ?_) (fun z => br_c (fun y => br_c (fun y2 => ?_) (fun y2 => ?_)) (fun y => ?_))
  · rw [if_pos z] at hp
    exact br_f sd_n10 hp
  · rw [if_neg z, if_pos y, if_pos y2] at hp
    exact br_f sd_n10 hp
  · rw [if_neg z, if_pos y, if_neg y2] at hp
    exact br_t rfl hp
  · rw [if_neg z, if_neg y] at hp
    exact br_t rfl hp
theorem sd_badCode {post : Int32 → Prop} {u : St2} {n : Nat} (hn : n < 1024) (hp : post 0) : wpX_badCode post u (nI n) := by
  obtain ⟨t, d, s, a⟩ := u
  unfold wpX_badCode
  dsimp only
  exact br_f (nI_pos (by omega)) (br_t (nI_lt (b := 1024) hn (by decide)) hp)
theorem sd_badCode1024 {post : Int32 → Prop} {u : St2} (hp : post 1) : wpX_badCode post u 1024 := by
  obtain ⟨t, d, s, a⟩ := u
  unfold wpX_badCode
  dsimp only
  exact br_f (by decide) (br_f (by decide) hp)
end
section
/-! The plain law: which numbers stand behind a script (k: 1 .. 127), and tables of the calculations over them. -/
def sd_hi (k : Nat) : Nat := if 64 ≤ k then 6 else if 32 ≤ k then 5 else if 16 ≤ k then 4 else if 8 ≤ k then 3 else if 4 ≤ k then 2 else if 2 ≤ k then 1 else 0
/-- the code of a whole number -/
def sd_cd (k : Nat) : Nat := if k = 0 then 0 else 256 + 64 * sd_hi k + (k - 2 ^ sd_hi k) * (64 / 2 ^ sd_hi k)
/-- its trailing zeros, what is left without them, how many digits it has -/
def sd_z (k : Nat) : Nat := if k % 100 = 0 then 2 else if k % 10 = 0 then 1 else 0
def sd_dg (k : Nat) : Nat := k / 10 ^ sd_z k
def sd_mn (k : Nat) : Nat := if 99 < k then 3 else if 9 < k then 2 else 1
/-- the law's first two loops -/
def sd_h (k : Int32) : Nat → Int32 → Int32 → Option Int32
  | 0, _, _ => none
  | n + 1, x, i => if 7 ≤ i then some x else if k < (1 : Int32) <<< (i &&& 31) then sd_h k n x (i + 1) else sd_h k n i (i + 1)
def sd_dz : Nat → Int32 → Int32 → Int32 → Option (Int32 × Int32)
  | 0, _, _, _ => none
  | n + 1, x, y, i => if 2 ≤ i then some (x, y) else if x - x / 10 * 10 = 0 then sd_dz n (x / 10) (y + 1) (i + 1) else sd_dz n x y (i + 1)
theorem sd_T1 : ∀ m, m < 128 → sd_nr (lN (m * 1024000000000000)) = some (nI (sd_cd m)) := by decide +kernel
theorem sd_T2 : ∀ m, m < 128 → ∀ j, j < 9 → m * 10 ^ j < 2147483648 → sd_so (nI (m * 10 ^ j)) (-nI j) = some (lN (m * 1024000000000000)) := by decide +kernel
theorem sd_T3 : ∀ k, k < 128 → 0 < k → sd_fi (nI (sd_cd k)) = some (nI (sd_dg k), nI (sd_z k)) := by decide +kernel
theorem sd_T4 : ∀ k, k < 128 → 0 < k → sd_len (nI (sd_dg k)).toInt64 = some (nI (sd_mn (sd_dg k))) := by decide +kernel
theorem sd_T5 : ∀ k, k < 128 → 0 < k → sd_ww (nI (sd_cd k)) 0 = nI k ∧ sd_ww (nI (sd_cd k)) 3 = 1000 * nI k ∧ sd_so (sd_ww (nI (sd_cd k)) 0) (-0) = some (lN (k * 1024000000000000)) ∧ sd_so (nI k) 0 = some (lN (k * 1024000000000000)) ∧ ¬ (4177920000000000000 : Int64) ≤ lN (k * 1024000000000000) := by decide +kernel
theorem sd_T6 : ∀ k, k < 128 → 0 < k → sd_h (nI k) 8 0 1 = some (nI (sd_hi k)) ∧ (256 + 64 * nI (sd_hi k)) + ((nI k - ((1 : Int32) <<< (nI (sd_hi k) &&& 31))) * ((64 : Int32) >>> (nI (sd_hi k) &&& 31))) = nI (sd_cd k) ∧ sd_dz 4 (nI k) 0 0 = some (nI (sd_dg k), nI (sd_z k)) := by decide +kernel
theorem sd_T7 : ∀ k, k < 128 → sd_cd k < 1024 ∧ sd_dg k < 128 := by decide +kernel
theorem sd_T8 : ∀ m, m < 128 → 0 < m → ∀ e, e < 9 → (sd_cd (m / 10 ^ e * 10 ^ e) = sd_cd m ↔ e ≤ sd_z m) := by decide +kernel
theorem sd_T9 : ∀ k, k < 128 → ∀ e, e < 3 → (k % 10 ^ (e + 1)) / 10 ^ e ≤ 9 ∧ k / 10 ^ (e + 1) * 10 + (k % 10 ^ (e + 1)) / 10 ^ e = k / 10 ^ e ∧ (k % 10 ^ (e + 1)) % 10 ^ e = k % 10 ^ e ∧ (10 ^ e ≤ 9 → 10 ^ (e - 1) = 1) ∧ (9 < 10 ^ e → 10 ^ e / 10 = 10 ^ (e - 1)) ∧ 10 ^ e ≤ 100 := by decide +kernel
theorem sd_Ta : ∀ k, k < 128 → 0 < k → 1 ≤ sd_mn k ∧ sd_mn k ≤ 3 ∧ sd_z k + 1 ≤ sd_mn k ∧ k / 10 ^ sd_mn k = 0 ∧ k % 10 ^ sd_mn k = k := by decide +kernel
theorem sd_cut (m j i : Nat) : m * 10 ^ j / 10 ^ i * 10 ^ i = m / 10 ^ (i - j) * 10 ^ (i - j) * 10 ^ j := by
  by_cases h : i ≤ j
  · have e : 10 ^ j = 10 ^ (j - i) * 10 ^ i := by rw [← Nat.pow_add, show j - i + i = j by omega]
    rw [show i - j = 0 by omega, Nat.pow_zero, Nat.div_one, Nat.mul_one, e, ← Nat.mul_assoc, Nat.mul_div_cancel _ (Nat.pow_pos (by decide))]
  · have e : 10 ^ i = 10 ^ (i - j) * 10 ^ j := by rw [← Nat.pow_add, show i - j + j = i by omega]
    rw [e, Nat.mul_div_mul_right _ _ (Nat.pow_pos (by decide)), ← Nat.mul_assoc]
end
section
/-! The text. A picture of the keys: n digits, their value D, j of them behind the point, p points (0 or 1), l the last key. -/
def sd_sp (s : Nat × Nat × Nat × Nat) (x : Nat) : Nat × Nat × Nat × Nat := if x = 10 then (s.1, s.2.1, s.2.2.1, 1) else (s.1 + 1, s.2.1 * 10 + x, s.2.2.1 + s.2.2.2, s.2.2.2)
def sd_F (K : Nat → Nat) : Nat → Nat × Nat × Nat × Nat
  | 0 => (0, 0, 0, 0)
  | i + 1 => sd_sp (sd_F K i) (K i)
theorem sd_F10 {K : Nat → Nat} {i : Nat} (h : K i = 10) : sd_F K (i + 1) = ((sd_F K i).1, (sd_F K i).2.1, (sd_F K i).2.2.1, 1) := if_pos h
theorem sd_Fne {K : Nat → Nat} {i : Nat} (h : ¬ K i = 10) : sd_F K (i + 1) = ((sd_F K i).1 + 1, (sd_F K i).2.1 * 10 + K i, (sd_F K i).2.2.1 + (sd_F K i).2.2.2, (sd_F K i).2.2.2) := if_neg h
theorem sd_Fc {K K' : Nat → Nat} : ∀ c, (∀ i, i < c → K' i = K i) → sd_F K' c = sd_F K c := by
  intro c
  induction c with
  | zero => intro _; rfl
  | succ c ih =>
    intro h
    show sd_sp (sd_F K' c) (K' c) = sd_sp (sd_F K c) (K c)
    rw [ih (fun i hi => h i (by omega)), h c (by omega)]
theorem sd_Fp (K : Nat → Nat) : ∀ c, (sd_F K c).2.2.2 ≤ 1 := by
  intro c
  induction c with
  | zero => exact Nat.zero_le 1
  | succ c ih =>
    by_cases h : K c = 10
    · rw [sd_F10 h]
      exact Nat.le_refl 1
    · rw [sd_Fne h]
      exact ih
theorem sd_Fj (K : Nat → Nat) : ∀ c, (sd_F K c).2.2.1 ≤ c := by
  intro c
  induction c with
  | zero => exact Nat.le_refl 0
  | succ c ih =>
    have := sd_Fp K c
    by_cases h : K c = 10
    · rw [sd_F10 h]
      show (sd_F K c).2.2.1 ≤ c + 1
      omega
    · rw [sd_Fne h]
      show (sd_F K c).2.2.1 + (sd_F K c).2.2.2 ≤ c + 1
      omega
def sd_T (t : Int32) (a : Nat → Int32) (n D j p l : Nat) : Prop := ∃ K : Nat → Nat, t = nI (n + p) ∧ (∀ i, i < n + p → K i ≤ 10 ∧ a i = nI (K i)) ∧ sd_F K (n + p) = (n, D, j, p) ∧ (0 < n + p → K (n + p - 1) = l) ∧ n ≤ 8 ∧ p ≤ 1 ∧ D < 10 ^ n
theorem sd_T0 : sd_T 0 (fun _ => 0) 0 0 0 0 0 := ⟨fun _ => 0, rfl, fun i hi => absurd hi (by omega), rfl, fun h => absurd h (by omega), by omega, by omega, by decide⟩
theorem sd_digitsTyped {post : Int32 → Prop} {t d s : Int32} {a : Nat → Int32} {n D j p l : Nat} (hT : sd_T t a n D j p l) (h : post (nI n)) : wpX_digitsTyped post (t, d, s, a) := by
  obtain ⟨K, rfl, hK, hF, hl, hn, hp, hD⟩ := hT
  unfold wpX_digitsTyped
  dsimp only
  refine pk_loop (fun k i x => wX_digitsTyped_4 post (nI (n + p)) d s a k x (nI i)) (fun i x => x = nI (sd_F K i).1) (n + p) 0 0 (by omega) rfl ?_ ?_
  · intro k x hx
    rw [hF] at hx
    subst hx
    exact pk_le (n + p) (n + p) (fun _ => h) (fun z => absurd z (by omega))
  · intro k i x hi hx hw
    have hki := (hK i hi).1
    refine pk_le (n + p) i (fun z => absurd z (by omega)) (fun _ => ⟨pk_in i 9 (by omega), ?_⟩)
    rw [nI_clamp (show i < 2 ^ 31 by omega), (hK i hi).2]
    refine pk_eq (K i) 10 (fun z => nm_r (nI_1 i) (hw x ?_)) (fun z => nm_e (nm_r (nI_1 i) (hw _ ?_)))
    · rw [sd_F10 z]
      exact hx
    · rw [sd_Fne z, hx]
      exact nI_1 _
theorem sd_textDigits {post : Int32 → Prop} {t d s : Int32} {a : Nat → Int32} {n D j p l : Nat} (hT : sd_T t a n D j p l) (h : post (nI D)) : wpX_textDigits post (t, d, s, a) := by
  obtain ⟨K, rfl, hK, hF, hl, hn, hp, hD⟩ := hT
  unfold wpX_textDigits
  dsimp only
  refine pk_loop (fun k i x => wX_textDigits_4 post (nI (n + p)) d s a k x (nI i)) (fun i x => x = nI (sd_F K i).2.1) (n + p) 0 0 (by omega) rfl ?_ ?_
  · intro k x hx
    rw [hF] at hx
    subst hx
    exact pk_le (n + p) (n + p) (fun _ => h) (fun z => absurd z (by omega))
  · intro k i x hi hx hw
    have hki := (hK i hi).1
    refine pk_le (n + p) i (fun z => absurd z (by omega)) (fun _ => ⟨pk_in i 9 (by omega), ?_⟩)
    rw [nI_clamp (show i < 2 ^ 31 by omega), (hK i hi).2]
    refine pk_eq (K i) 10 (fun z => nm_r (nI_1 i) (hw x ?_)) (fun z => ⟨pk_in i 9 (by omega), nm_e (nm_r (nI_1 i) (hw _ ?_))⟩)
    · rw [sd_F10 z]
      exact hx
    · rw [sd_Fne z, hx, show (10 : Int32) = nI 10 from rfl, pk_mul, nI_add]
theorem sd_neg (j : Nat) : -nI j + (-1) = -nI (j + 1) := by
  rw [← nI_1, Int32.neg_add, Int32.sub_eq_add_neg]
theorem sd_textScale {post : Int32 → Prop} {t d s : Int32} {a : Nat → Int32} {n D j p l : Nat} (hT : sd_T t a n D j p l) (h : post (-nI j)) : wpX_textScale post (t, d, s, a) := by
  obtain ⟨K, rfl, hK, hF, hl, hn, hp, hD⟩ := hT
  unfold wpX_textScale
  dsimp only
  refine pk_loop (fun k i (x : Int32 × Int32) => wX_textScale_6 post (nI (n + p)) d s a k x.1 x.2 (nI i)) (fun i x => x.1 = -nI (sd_F K i).2.2.1 ∧ x.2 = nI (sd_F K i).2.2.2) (n + p) 0 (0, 0) (by omega) ⟨show (0 : Int32) = -nI 0 by decide, rfl⟩ ?_ ?_
  · intro k x hx
    rw [hF] at hx
    have h1 : x.1 = -nI j := hx.1
    rw [← h1] at h
    exact pk_le (n + p) (n + p) (fun _ => h) (fun z => absurd z (by omega))
  · intro k i x hi hx hw
    have hki := (hK i hi).1
    have hpi := sd_Fp K i
    refine pk_le (n + p) i (fun z => absurd z (by omega)) (fun _ => ⟨pk_in i 9 (by omega), ?_⟩)
    rw [nI_clamp (show i < 2 ^ 31 by omega), (hK i hi).2]
    refine pk_eq (K i) 10 (fun z => nm_r (nI_1 i) (hw (x.1, 1) ?_)) (fun z => pk_eq (sd_F K i).2.2.2 0 (fun y => nm_r (nI_1 i) (hw x ?_)) (fun y => nm_e (nm_r (nI_1 i) (hw (x.1 + (-1), x.2) ?_))) hx.2)
    · rw [sd_F10 z]
      exact ⟨hx.1, rfl⟩
    · rw [sd_Fne z]
      refine ⟨?_, hx.2⟩
      rw [hx.1]
      show -nI (sd_F K i).2.2.1 = -nI ((sd_F K i).2.2.1 + (sd_F K i).2.2.2)
      rw [y, Nat.add_zero]
    · rw [sd_Fne z]
      refine ⟨?_, hx.2⟩
      show x.1 + (-1) = -nI ((sd_F K i).2.2.1 + (sd_F K i).2.2.2)
      rw [hx.1, sd_neg, show (sd_F K i).2.2.2 = 1 by omega]
theorem sd_pow8 {i : Nat} (h : i ≤ 8) : 10 ^ i ≤ 100000000 := Nat.pow_le_pow_right (by decide) h
theorem sd_Tb {t : Int32} {a : Nat → Int32} {n D j p l : Nat} (hT : sd_T t a n D j p l) : D < 2147483648 := by
  obtain ⟨K, rfl, hK, hF, hl, hn, hp, hD⟩ := hT
  have := sd_pow8 hn
  omega
theorem sd_reading {post : Int32 → Prop} {t d s x : Int32} {a : Nat → Int32} {n D j p l m : Nat} (hT : sd_T t a n D j p l) (hj : j < 9) (hm : m < 128) (hb : m * 10 ^ j < 2147483648) (hx : x = nI (m * 10 ^ j)) (h : post (nI (sd_cd m))) : wpX_reading post (t, d, s, a) x := by
  subst hx
  unfold wpX_reading
  dsimp only
  exact sd_textScale hT (sd_stepsOf (sd_T2 m hm j hj hb) (sd_nearest (sd_T1 m hm) h))
theorem sd_typed {post : Int32 → Prop} {t d s : Int32} {a : Nat → Int32} {n D j p l m : Nat} (hT : sd_T t a n D j p l) (hj : j < 9) (hm : m < 128) (hD : D = m * 10 ^ j) (h : post (nI (sd_cd m))) : wpX_typed post (t, d, s, a) := by
  have hb := sd_Tb hT
  unfold wpX_typed
  dsimp only
  exact sd_textDigits hT (sd_reading hT hj hm (by omega) (by rw [hD]) h)
theorem sd_typedDigits {post : Int32 → Prop} {t d s : Int32} {a : Nat → Int32} {n D j p l : Nat} (hT : sd_T t a n D j p l) (h : post (nI D)) : wpX_typedDigits post (t, d, s, a) := by
  unfold wpX_typedDigits
  dsimp only
  exact sd_textDigits hT h
theorem sd_spare {post : Int32 → Prop} {t d s : Int32} {a : Nat → Int32} {n D j p l m : Nat} (hT : sd_T t a n D j p l) (hj : j < 9) (hm : m < 128) (h0 : 0 < m) (hD : D = m * 10 ^ j) (hz : sd_z m + j ≤ n) (h : post (nI (sd_z m + j))) : wpX_spare post (t, d, s, a) := by
  have hT0 := hT
  obtain ⟨K, ht, hK, hF, hl, hn, hp, hDn⟩ := hT0
  have hD8 : D < 2147483648 := sd_Tb hT
  have hcm := (sd_T7 m hm).1
  unfold wpX_spare
  dsimp only
  refine sd_textDigits hT (sd_reading hT hj hm (by omega) (by rw [hD]) (sd_digitsTyped hT ?_))
  refine pk_loop (fun k i (x : Int32 × Int32) => wX_spare_25 post (nI D) (nI (sd_cd m)) (nI n) t d s a k x.1 x.2 (nI (i + 1))) (fun i x => x.1 = nI (min i (sd_z m + j)) ∧ x.2 = nI (10 ^ i)) n 0 (0, 1) (by omega) ⟨by rw [Nat.zero_min]; rfl, rfl⟩ ?_ ?_
  · intro k x hx
    have h1 : x.1 = nI (sd_z m + j) := by rw [hx.1, show min n (sd_z m + j) = sd_z m + j by omega]
    rw [← h1] at h
    exact pk_lt n (n + 1) (fun _ => h) (fun z => absurd z (by omega))
  · intro k i x hi hx hw
    have h10 : 0 < 10 ^ (i + 1) := Nat.pow_pos (by decide)
    have h11 := sd_pow8 (show i + 1 ≤ 8 by omega)
    have e1 : x.2 * 10 = nI (10 ^ (i + 1)) := by
      rw [hx.2, Nat.pow_succ]
      exact pk_mul _ 10
    have e2 : nI D / nI (10 ^ (i + 1)) * nI (10 ^ (i + 1)) = nI (m / 10 ^ (i + 1 - j) * 10 ^ (i + 1 - j) * 10 ^ j) := by
      rw [pk_div hD8 h10 (by omega), pk_mul, hD, sd_cut]
    have hle : m / 10 ^ (i + 1 - j) * 10 ^ (i + 1 - j) ≤ m := Nat.div_mul_le_self _ _
    have hb : m / 10 ^ (i + 1 - j) * 10 ^ (i + 1 - j) * 10 ^ j < 2147483648 := Nat.lt_of_le_of_lt (Nat.mul_le_mul_right _ hle) (by omega)
    have hcm' := (sd_T7 (m / 10 ^ (i + 1 - j) * 10 ^ (i + 1 - j)) (by omega)).1
    have h8 := sd_T8 m hm h0 (i + 1 - j) (by omega)
    refine pk_lt n (i + 1) (fun z => absurd z (by omega)) (fun _ => nm_r e1 ⟨nI_ne0 h10 (by omega), nm_r e2 (sd_reading hT hj (m := m / 10 ^ (i + 1 - j) * 10 ^ (i + 1 - j)) (by omega) hb rfl ?_)⟩)
    refine pk_eq (sd_cd (m / 10 ^ (i + 1 - j) * 10 ^ (i + 1 - j))) (sd_cd m) (fun z => nm_r (nI_1 (i + 1)) (hw (nI (i + 1), nI (10 ^ (i + 1))) ⟨?_, rfl⟩)) (fun z => nm_r (nI_1 (i + 1)) (hw (x.1, nI (10 ^ (i + 1))) ⟨?_, rfl⟩))
    · have h9 := h8.mp z
      show nI (i + 1) = nI (min (i + 1) (sd_z m + j))
      rw [show min (i + 1) (sd_z m + j) = i + 1 by omega]
    · have h9 : ¬ i + 1 - j ≤ sd_z m := fun y => z (h8.mpr y)
      show x.1 = nI (min (i + 1) (sd_z m + j))
      rw [hx.1, show min (i + 1) (sd_z m + j) = min i (sd_z m + j) by omega]
theorem sd_back {post : Int32 → St2 → Prop} {t d s : Int32} {a : Nat → Int32} {n D j p l : Nat} (hT : sd_T t a n D j p l) (hc : 0 < n + p) (H : ∀ t', post (nI l) (t', d, s, a)) : wpX_back post (t, d, s, a) := by
  obtain ⟨K, rfl, hK, hF, hl, hn, hp, hD⟩ := hT
  unfold wpX_back
  dsimp only
  have e : nI (n + p) - 1 = nI (n + p - 1) := by
    have := nI_pred (n + p - 1)
    rwa [show n + p - 1 + 1 = n + p by omega] at this
  refine pk_eq (n + p) 0 (fun z => absurd z (by omega)) (fun _ => nm_r e ⟨pk_in (n + p - 1) 9 (by omega), ?_⟩)
  rw [nI_clamp (show n + p - 1 < 2 ^ 31 by omega), (hK (n + p - 1) (by omega)).2, hl hc]
  exact H _
def sd_K (K : Nat → Nat) (c x : Nat) : Nat → Nat := fun i => if i = c then x else K i
theorem sd_Ks {K : Nat → Nat} {c x i : Nat} (h : i = c) : sd_K K c x i = x := if_pos h
theorem sd_Kn {K : Nat → Nat} {c x i : Nat} (h : ¬ i = c) : sd_K K c x i = K i := if_neg h
theorem sd_type_d {post : Int32 → St2 → Prop} {t d s y : Int32} {a : Nat → Int32} {n D j p l : Nat} (x : Nat) (hT : sd_T t a n D j p l) (hx : x ≤ 9) (hn : n < 8) (hy : y = nI x) (H : ∀ t' a', sd_T t' a' (n + 1) (D * 10 + x) (j + p) p x → post (nI (n + 1)) (t', d, s, a')) : wpX_type post (t, d, s, a) y := by
  have hT0 := hT
  obtain ⟨K, rfl, hK, hF, hl, hn8, hp, hD⟩ := hT
  subst hy
  have hN : sd_T (nI (n + p + 1)) (upd a (n + p) (nI x)) (n + 1) (D * 10 + x) (j + p) p x := by
    refine ⟨sd_K K (n + p) x, by rw [show n + 1 + p = n + p + 1 by omega], ?_, ?_, ?_, by omega, hp, by rw [Nat.pow_succ]; omega⟩
    · intro i hi
      by_cases e : i = n + p
      · rw [sd_Ks e, e, pk_us]
        exact ⟨by omega, rfl⟩
      · rw [sd_Kn e, pk_un e]
        exact hK i (by omega)
    · have e1 : sd_F (sd_K K (n + p) x) (n + p) = (n, D, j, p) := by
        rw [sd_Fc (K := K) (n + p) (fun i hi => sd_Kn (by omega))]
        exact hF
      have e2 : sd_K K (n + p) x (n + p) = x := sd_Ks rfl
      rw [show n + 1 + p = n + p + 1 by omega, sd_Fne (by rw [e2]; omega), e1, e2]
    · intro _
      exact sd_Ks (by omega)
  have h53 : wX_type_53 post (nI x) (nI n) (nI (n + p)) d s a := by
    refine ⟨pk_in (n + p) 9 (by omega), nm_r (e' := upd a (n + p) (nI x)) (by rw [nI_clamp (by omega)]) (nm_r (nI_1 (n + p)) (pk_eq x 10 (fun z => absurd z (by omega)) (fun _ => ?_)))⟩
    rw [nI_1]
    exact H _ _ hN
  have h30 : ∀ z0 : Int32, wX_type_30 post (nI x) (nI n) z0 (nI (n + p)) d s a := fun z0 => pk_eq x 10 (fun z => absurd z (by omega)) (fun _ => pk_eq n 8 (fun z => absurd z (by omega)) (fun _ => h53))
  unfold wpX_type
  dsimp only
  exact br_f (nI_pos (by omega)) (br_t (nI_le (b := 10) (by omega) (by decide)) (sd_digitsTyped hT0 (br_c (fun _ => h30 0) (fun _ => h30 1))))
theorem sd_type_full {post : Int32 → St2 → Prop} {t d s y : Int32} {a : Nat → Int32} {n D j p l : Nat} (x : Nat) (hT : sd_T t a n D j p l) (hx : x ≤ 9) (hn : n = 8) (hy : y = nI x) (H : post (-2) (t, d, s, a)) : wpX_type post (t, d, s, a) y := by
  subst hy
  have h30 : ∀ z0 : Int32, wX_type_30 post (nI x) (nI n) z0 t d s a := fun z0 => pk_eq x 10 (fun z => absurd z (by omega)) (fun _ => pk_eq n 8 (fun z => H) (fun z => absurd hn z))
  unfold wpX_type
  dsimp only
  exact br_f (nI_pos (by omega)) (br_t (nI_le (b := 10) (by omega) (by decide)) (sd_digitsTyped hT (br_c (fun _ => h30 0) (fun _ => h30 1))))
theorem sd_type_p {post : Int32 → St2 → Prop} {t d s : Int32} {a : Nat → Int32} {n D j l : Nat} (hT : sd_T t a n D j 0 l) (H : ∀ t' a', sd_T t' a' n D j 1 10 → post (nI n) (t', d, s, a')) : wpX_type post (t, d, s, a) 10 := by
  have hT0 := hT
  obtain ⟨K, rfl, hK, hF, hl, hn8, hp, hD⟩ := hT
  have hN : sd_T (nI (n + 0 + 1)) (upd a (n + 0) (nI 10)) n D j 1 10 := by
    refine ⟨sd_K K (n + 0) 10, rfl, ?_, ?_, ?_, by omega, by omega, hD⟩
    · intro i hi
      by_cases e : i = n + 0
      · rw [sd_Ks e, e, pk_us]
        exact ⟨by omega, rfl⟩
      · rw [sd_Kn e, pk_un e]
        exact hK i (by omega)
    · have e1 : sd_F (sd_K K (n + 0) 10) (n + 0) = (n, D, j, 0) := by
        rw [sd_Fc (K := K) (n + 0) (fun i hi => sd_Kn (by omega))]
        exact hF
      have e2 : sd_K K (n + 0) 10 (n + 0) = 10 := sd_Ks rfl
      rw [show n + 1 = n + 0 + 1 by omega, sd_F10 e2, e1]
    · intro _
      exact sd_Ks (by omega)
  have h53 : wX_type_53 post 10 (nI n) (nI (n + 0)) d s a := by
    refine ⟨pk_in (n + 0) 9 (by omega), nm_r (e' := upd a (n + 0) (nI 10)) (by rw [nI_clamp (by omega)]; rfl) (nm_r (nI_1 (n + 0)) (br_t rfl ?_))⟩
    exact H _ _ hN
  unfold wpX_type
  dsimp only
  exact br_f (by decide) (br_t (by decide) (sd_digitsTyped hT0 (pk_le (n + 0) n (fun _ => br_t rfl (br_t rfl h53)) (fun z => absurd z (by omega)))))
theorem sd_type_pp {post : Int32 → St2 → Prop} {t d s : Int32} {a : Nat → Int32} {n D j l : Nat} (hT : sd_T t a n D j 1 l) (H : post (-2) (t, d, s, a)) : wpX_type post (t, d, s, a) 10 := by
  have hT0 := hT
  obtain ⟨K, rfl, hK, hF, hl, hn8, hp, hD⟩ := hT
  unfold wpX_type
  dsimp only
  exact br_f (by decide) (br_t (by decide) (sd_digitsTyped hT0 (pk_le (n + 1) n (fun z => absurd z (by omega)) (fun _ => br_t rfl (br_f sd_n10 H)))))
theorem sd_type_11 {post : Int32 → St2 → Prop} {u : St2} (H : post (-1) u) : wpX_type post u 11 := by
  obtain ⟨t, d, s, a⟩ := u
  unfold wpX_type
  dsimp only
  exact br_f (by decide) (br_f (by decide) H)
end
section
/-! The class's other methods, as the law calls them. -/
theorem sd_digits {post : Int32 → St2 → Prop} {t d s : Int32} {a : Nat → Int32} (c : Nat) {r : Int32 × Int32} (hc : c < 1024) (h : sd_fi (nI c) = some r) (hp : post r.1 (t, r.1, r.2, a)) : wpX_digits post (t, d, s, a) (nI c) := by
  unfold wpX_digits
  dsimp only
  exact sd_badCode hc (br_t rfl (sd_findShort h hp))
theorem sd_scale {post : Int32 → St2 → Prop} {t d s : Int32} {a : Nat → Int32} (c : Nat) {r : Int32 × Int32} (hc : c < 1024) (h : sd_fi (nI c) = some r) (hp : post r.2 (t, r.1, r.2, a)) : wpX_scale post (t, d, s, a) (nI c) := by
  unfold wpX_scale
  dsimp only
  exact sd_badCode hc (br_t rfl (sd_findShort h hp))
theorem sd_length {post : Int32 → St2 → Prop} {t d s : Int32} {a : Nat → Int32} (c : Nat) {r : Int32 × Int32} {g : Int32} (hc : c < 1024) (h : sd_fi (nI c) = some r) (hg : sd_len r.1.toInt64 = some g) (hp : post g (t, r.1, r.2, a)) : wpX_length post (t, d, s, a) (nI c) := by
  unfold wpX_length
  dsimp only
  exact sd_badCode hc (br_t rfl (sd_findShort h (sd_lengthOf hg hp)))
theorem sd_digits1024 {post : Int32 → St2 → Prop} {t d s : Int32} {a : Nat → Int32} (hp : post (-1) (t, d, s, a)) : wpX_digits post (t, d, s, a) 1024 := by
  unfold wpX_digits
  dsimp only
  exact sd_badCode1024 (br_f sd_n10 hp)
theorem sd_places {post : Int32 → Prop} {t d s : Int32} {a : Nat → Int32} {k : Nat} (hk : k < 128) (h0 : 0 < k) (hp : post 0) : wpX_places post (t, d, s, a) (nI (sd_cd k)) := by
  obtain ⟨e1, e2, e3, e4, e5⟩ := sd_T5 k hk h0
  unfold wpX_places
  dsimp only
  refine sd_badCode (sd_T7 k hk).1 (br_t rfl ⟨1, br_f (by decide) (sd_writtenWith (sd_stepsOf e3 ?_))⟩)
  unfold wpX_named
  dsimp only
  exact br_f e5 (sd_nearest (sd_T1 k hk) (br_t rfl (br_f sd_n10 hp)))
theorem sd_written {post : Int32 → Prop} {t d s p r : Int32} {a : Nat → Int32} {k : Nat} (hk : k < 128) (p0 : ¬ p < 0) (p5 : p ≤ 5) (hr : sd_ww (nI (sd_cd k)) p = r) (hp : post r) : wpX_written post (t, d, s, a) (nI (sd_cd k)) p := by
  subst hr
  unfold wpX_written
  dsimp only
  exact sd_badCode (sd_T7 k hk).1 (br_t rfl (br_f p0 (br_t p5 (sd_writtenWith hp))))
theorem sd_read {post : Int32 → Prop} {t d s : Int32} {a : Nat → Int32} {k : Nat} (hk : k < 128) (h0 : 0 < k) (hp : post (nI (sd_cd k))) : wpX_read post (t, d, s, a) (nI k) 0 := by
  obtain ⟨e1, e2, e3, e4, e5⟩ := sd_T5 k hk h0
  unfold wpX_read
  dsimp only
  unfold wpX_badDecimal
  dsimp only
  exact br_f (nI_pos (by omega)) (br_f (nI_nlt (b := k) (a := 99999999) (by omega) (by decide)) (br_f (by decide) (br_t (by decide) (br_t rfl (sd_stepsOf e4 (sd_nearest (sd_T1 k hk) hp))))))
end
section
/-! The law's loops, the last one first. -/
theorem sd_559 {post : Int32 → St0 → Prop} {mc ms kc ks k lead : Nat} {t d s : Int32} {a : Nat → Int32} (hk : k < 128) (h0 : 0 < k) (hl : lead < 4) (hT : sd_T t a (lead + sd_mn k) k 0 1 10) (hp : post 1 ()) : ∃ n, wL_lawOf_559 post mc ms (nI (sd_cd k)) (nI (sd_z k)) (nI (sd_mn k)) (nI lead) (nI (8 - lead - sd_mn k)) kc ks n 1 0 t d s a := by
  obtain ⟨m1, m3, hz, _, _⟩ := sd_Ta k hk h0
  have hc := (sd_T7 k hk).1
  generalize hFr : 8 - lead - sd_mn k = F
  have hF : lead + sd_mn k + F = 8 := by omega
  refine pk_loop (fun n i (st : Int32 × (Nat → Int32)) => wL_lawOf_559 post mc ms (nI (sd_cd k)) (nI (sd_z k)) (nI (sd_mn k)) (nI lead) (nI F) kc ks n 1 (nI i) st.1 d s st.2) (fun i st => sd_T st.1 st.2 (lead + sd_mn k + min i F) (k * 10 ^ min i F) (min i F) 1 (if i = 0 then 10 else 0)) 8 0 (t, a) (by omega) ?_ ?_ ?_
  · show sd_T t a (lead + sd_mn k + min 0 F) (k * 10 ^ min 0 F) (min 0 F) 1 10
    rw [Nat.zero_min, Nat.pow_zero, Nat.mul_one]
    exact hT
  · intro n st hS
    have hS' : sd_T st.1 st.2 (lead + sd_mn k + min 8 F) (k * 10 ^ min 8 F) (min 8 F) 1 0 := hS
    rw [show min 8 F = F by omega] at hS'
    refine pk_le 8 8 (fun _ => br_f sd_n10 (sd_spare hS' (by omega) hk h0 rfl (by omega) (br_t (nI_add _ _).symm (sd_back hS' (by omega) (fun t' => br_f (nI_nle (by omega) (by omega)) ?_))))) (fun z => absurd z (by omega))
    exact br_t rfl (sd_type_11 (br_t rfl hp))
  · intro n i st hi hS hw
    refine pk_le 8 i (fun z => absurd z (by omega)) (fun _ => br_f sd_n10 ?_)
    by_cases hiF : i < F
    · refine sd_type_d 0 hS (by omega) (by omega) rfl (fun t' a' hS' => pk_le F i (fun z => absurd z (by omega)) (fun _ => br_t ?_ ?_))
      · rw [nI_add, nI_add, nI_1, show lead + sd_mn k + min i F = lead + sd_mn k + i by omega]
      · have e : sd_T t' a' (lead + sd_mn k + min (i + 1) F) (k * 10 ^ min (i + 1) F) (min (i + 1) F) 1 0 := by
          rw [show min (i + 1) F = min i F + 1 by omega, Nat.pow_succ, ← Nat.mul_assoc]
          exact hS'
        exact sd_typed e (by omega) hk rfl (br_t rfl (nm_r (nI_1 i) (hw (t', a') e)))
    · have e : sd_T st.1 st.2 (lead + sd_mn k + min (i + 1) F) (k * 10 ^ min (i + 1) F) (min (i + 1) F) 1 (if i + 1 = 0 then 10 else 0) := by
        have hS' := hS
        rw [if_neg (by omega)] at hS'
        rw [if_neg (by omega), show min (i + 1) F = min i F by omega]
        exact hS'
      exact sd_type_full 0 hS (by omega) (by omega) rfl (pk_le F i (fun _ => br_t rfl (sd_typed e (by omega) hk rfl (br_t rfl (nm_r (nI_1 i) (hw st e))))) (fun z => absurd z (by omega)))
theorem sd_544 {post : Int32 → St0 → Prop} {mc ms kc ks k lead : Nat} {t d s : Int32} {a : Nat → Int32} (hk : k < 128) (h0 : 0 < k) (hl : lead < 4) (hT : sd_T t a (lead + sd_mn k) k 0 1 10) (hp : post 1 ()) : wL_lawOf_544 post mc ms (nI (sd_cd k)) (nI (sd_z k)) (nI (sd_mn k)) (nI lead) 1 kc ks t d s a := by
  obtain ⟨m1, m3, hz, _, _⟩ := sd_Ta k hk h0
  unfold wL_lawOf_544
  exact nm_r (show 8 - nI lead - nI (sd_mn k) = nI (8 - lead - sd_mn k) by rw [show (8 : Int32) = nI 8 from rfl, pk_sub (by omega), pk_sub (by omega)]) (sd_559 hk h0 hl hT hp)
theorem sd_399 {post : Int32 → St0 → Prop} {mc ms kc ks k lead l : Nat} {t d s U : Int32} {a : Nat → Int32} (hk : k < 128) (h0 : 0 < k) (hl : lead < 4) (hU : U = nI (10 ^ (sd_mn k - 1))) (hT : sd_T t a lead 0 0 0 l) (hp : post 1 ()) : ∃ n, wL_lawOf_399 post mc ms (nI k) (nI (sd_cd k)) (nI (sd_z k)) (nI (sd_mn k)) (nI lead) kc ks n 1 (nI k) U 0 t d s a := by
  obtain ⟨m1, m3, hz, hk0, hkm⟩ := sd_Ta k hk h0
  have hc := (sd_T7 k hk).1
  refine pk_loop (fun n i (st : Int32 × Int32 × Int32 × (Nat → Int32)) => wL_lawOf_399 post mc ms (nI k) (nI (sd_cd k)) (nI (sd_z k)) (nI (sd_mn k)) (nI lead) kc ks n 1 st.1 st.2.1 (nI i) st.2.2.1 d s st.2.2.2) (fun i st => st.1 = nI (k % 10 ^ (sd_mn k - i)) ∧ st.2.1 = nI (10 ^ (sd_mn k - i - 1)) ∧ ∃ l, sd_T st.2.2.1 st.2.2.2 (lead + min i (sd_mn k)) (k / 10 ^ (sd_mn k - i)) 0 0 l) 3 0 (nI k, U, t, a) (by omega) ?_ ?_ ?_
  · refine ⟨?_, hU, l, ?_⟩
    · show nI k = nI (k % 10 ^ sd_mn k)
      rw [hkm]
    · show sd_T t a (lead + min 0 (sd_mn k)) (k / 10 ^ sd_mn k) 0 0 l
      rw [hk0, Nat.zero_min]
      exact hT
  · intro n st hS
    obtain ⟨_, _, l', hS'⟩ := hS
    rw [show min 3 (sd_mn k) = sd_mn k by omega, show sd_mn k - 3 = 0 by omega, Nat.pow_zero, Nat.div_one] at hS'
    refine pk_le 3 3 (fun _ => br_f sd_n10 ?_) (fun z => absurd z (by omega))
    refine sd_typed hS' (by omega) hk (by omega) (br_t rfl (sd_typedDigits hS' (br_t rfl (sd_spare hS' (by omega) hk h0 (by omega) (by omega) (br_t rfl (sd_type_p hS' (fun t' a' hS2 => br_t (nI_add _ _).symm (sd_type_pp hS2 (br_t rfl (sd_typed hS2 (by omega) hk (by omega) (br_t rfl ?_)))))))))))
    exact sd_544 hk h0 hl hS2 hp
  · intro n i st hi hS hw
    obtain ⟨hr, hu, l', hS'⟩ := hS
    refine pk_le 3 i (fun z => absurd z (by omega)) (fun _ => pk_le (sd_mn k) i (fun z => nm_r (nI_1 i) (hw st ⟨?_, ?_, l', ?_⟩)) (fun z => br_f sd_n10 ?_))
    · rw [hr, show sd_mn k - (i + 1) = sd_mn k - i by omega]
    · rw [hu, show sd_mn k - (i + 1) - 1 = sd_mn k - i - 1 by omega]
    · rw [show sd_mn k - (i + 1) = sd_mn k - i by omega, show min (i + 1) (sd_mn k) = min i (sd_mn k) by omega]
      exact hS'
    · generalize he : sd_mn k - i - 1 = e at hu
      have he1 : sd_mn k - i = e + 1 := by omega
      have he2 : sd_mn k - (i + 1) = e := by omega
      rw [he1] at hr hS'
      obtain ⟨g1, g2, g3, g4, g5, g6⟩ := sd_T9 k hk e (by omega)
      have hpos : 0 < 10 ^ e := Nat.pow_pos (by decide)
      have hrk : k % 10 ^ (e + 1) ≤ k := Nat.mod_le _ _
      have hu0 : ¬ st.2.1 = 0 := by
        rw [hu]
        exact nI_ne0 hpos (by omega)
      refine ⟨hu0, sd_type_d (k % 10 ^ (e + 1) / 10 ^ e) hS' g1 (by omega) (by rw [hr, hu, pk_div (by omega) hpos (by omega)]) (fun t' a' hS2 => br_t ?_ ⟨hu0, nm_r (e' := nI (k % 10 ^ e)) ?_ (pk_le (10 ^ e) 9 (fun y => nm_r (nI_1 i) (hw (nI (k % 10 ^ e), 1, t', a') ⟨?_, ?_, k % 10 ^ (e + 1) / 10 ^ e, ?_⟩)) (fun y => ⟨sd_t10, nm_r (e' := nI (10 ^ (e - 1))) ?_ (nm_r (nI_1 i) (hw (nI (k % 10 ^ e), nI (10 ^ (e - 1)), t', a') ⟨?_, ?_, k % 10 ^ (e + 1) / 10 ^ e, ?_⟩))⟩) hu)⟩)⟩
      · rw [nI_add, nI_1, show lead + min i (sd_mn k) = lead + i by omega]
      · rw [hr, hu, pk_rem (by omega) hpos (by omega), g3]
      · rw [he2]
      · show (1 : Int32) = nI (10 ^ (sd_mn k - (i + 1) - 1))
        rw [he2, g4 y]
        rfl
      · rw [he2, show min (i + 1) (sd_mn k) = min i (sd_mn k) + 1 by omega, ← g2]
        exact hS2
      · rw [hu, ← g5 y]
        exact pk_div (by omega) (by decide) (by decide)
      · rw [he2]
      · rw [he2]
      · rw [he2, show min (i + 1) (sd_mn k) = min i (sd_mn k) + 1 by omega, ← g2]
        exact hS2
theorem sd_353 {post : Int32 → St0 → Prop} {mc ms kc ks k lead : Nat} {t d s U z : Int32} {a : Nat → Int32} (hk : k < 128) (h0 : 0 < k) (hl : lead < 4) (hU : U = nI (10 ^ (sd_mn k - 1))) (hz : z = nI (sd_mn k)) (hT : sd_T t a 0 0 0 0 0) (hp : post 1 ()) : ∃ n, wL_lawOf_353 post mc ms (nI k) (nI (sd_cd k)) (nI (sd_z k)) z (nI lead) (nI k) U kc ks n 1 0 t d s a := by
  subst hz
  refine pk_loop (fun n i (st : Int32 × (Nat → Int32)) => wL_lawOf_353 post mc ms (nI k) (nI (sd_cd k)) (nI (sd_z k)) (nI (sd_mn k)) (nI lead) (nI k) U kc ks n 1 (nI i) st.1 d s st.2) (fun i st => ∃ l, sd_T st.1 st.2 (min i lead) 0 0 0 l) 3 0 (t, a) (by omega) ?_ ?_ ?_
  · refine ⟨0, ?_⟩
    rw [Nat.zero_min]
    exact hT
  · intro n st hS
    obtain ⟨l', hS'⟩ := hS
    rw [show min 3 lead = lead by omega] at hS'
    exact pk_le 3 3 (fun _ => sd_399 hk h0 hl hU hS' hp) (fun z => absurd z (by omega))
  · intro n i st hi hS hw
    obtain ⟨l', hS'⟩ := hS
    refine pk_le 3 i (fun z => absurd z (by omega)) (fun _ => br_f sd_n10 (pk_le lead i (fun z => nm_r (nI_1 i) (hw st ⟨l', ?_⟩)) (fun z => sd_type_d 0 hS' (by omega) (by omega) rfl (fun t' a' hS2 => br_t ?_ (nm_r (nI_1 i) (hw (t', a') ⟨0, ?_⟩))))))
    · rw [show min (i + 1) lead = min i lead by omega]
      exact hS'
    · rw [nI_1, show min i lead = i by omega]
    · rw [show min (i + 1) lead = min i lead + 1 by omega]
      exact hS2
theorem sd_315 {post : Int32 → St0 → Prop} {mc ms kc ks k : Nat} {t d s y z : Int32} {a : Nat → Int32} (hk : k < 128) (h0 : 0 < k) (hz : z = nI (sd_mn k)) (hT : sd_T t a 0 0 0 0 0) (hp : post 1 ()) : wL_lawOf_315 post mc ms y (nI k) (nI (sd_cd k)) (nI (sd_z k)) 1 z kc ks t d s a := by
  obtain ⟨m1, m3, _, _, _⟩ := sd_Ta k hk h0
  obtain ⟨lead, hl, hle⟩ := pk_andE y (m := 3) 2 (by decide)
  unfold wL_lawOf_315
  refine nm_r hle (pk_eq (sd_mn k) 3 (fun e => ?_) (fun e => pk_eq (sd_mn k) 2 (fun e2 => ?_) (fun e2 => ?_) hz) hz)
  · exact sd_353 hk h0 hl (by rw [e]; rfl) hz hT hp
  · exact sd_353 hk h0 hl (by rw [e2]; rfl) hz hT hp
  · exact sd_353 hk h0 hl (by rw [show sd_mn k = 1 by omega]; rfl) hz hT hp
theorem sd_292 {post : Int32 → St0 → Prop} {mc ms kc ks k : Nat} {t d s y : Int32} {a : Nat → Int32} (hk : k < 128) (h0 : 0 < k) (hT : sd_T t a 0 0 0 0 0) (hp : post 1 ()) : wL_lawOf_292 post mc ms y (nI k) (nI (sd_cd k)) (nI (sd_z k)) 1 kc ks t d s a := by
  unfold wL_lawOf_292
  refine pk_le k 99 (fun h => pk_le k 9 (fun h' => ?_) (fun h' => ?_)) (fun h => ?_)
  · exact sd_315 hk h0 (by rw [sd_mn, if_neg (by omega), if_neg (by omega)]; rfl) hT hp
  · exact sd_315 hk h0 (by rw [sd_mn, if_neg (by omega), if_pos (by omega)]; rfl) hT hp
  · exact sd_315 hk h0 (by rw [sd_mn, if_pos (by omega)]; rfl) hT hp
end
section
/-! The head of the law, and what is owed. -/
theorem sd_170 {post : Int32 → St0 → Prop} {mc ms kc ks k : Nat} {t d s y z : Int32} {a : Nat → Int32} (hk : k < 128) (h0 : 0 < k) (hz : z = nI (sd_mn (sd_dg k))) (hT : sd_T t a 0 0 0 0 0) (hp : post 1 ()) : wL_lawOf_170 post mc ms y (nI k) (nI (sd_cd k)) (nI (sd_dg k)) (nI (sd_z k)) z kc ks t d s a := by
  obtain ⟨e1, e2, e3, e4, e5⟩ := sd_T5 k hk h0
  have hc := (sd_T7 k hk).1
  have e0 : sd_fi (nI 0) = some (0, 0) := by decide
  have g0 : sd_len (0 : Int32).toInt64 = some 1 := by decide +kernel
  unfold wL_lawOf_170
  refine sd_digits _ hc (sd_T3 k hk h0) (br_t rfl (sd_scale _ hc (sd_T3 k hk h0) (br_t rfl (sd_length _ hc (sd_T3 k hk h0) (sd_T4 k hk h0) (br_t hz.symm ?_)))))
  refine sd_places hk h0 (br_t rfl (sd_written hk (by decide) (by decide) e1 (br_t rfl (sd_written hk (by decide) (by decide) e2 (br_t rfl (sd_read hk h0 (br_t rfl ?_)))))))
  refine sd_digits 0 (by decide) e0 (br_t rfl (sd_scale 0 (by decide) e0 (br_t rfl (sd_length 0 (by decide) e0 g0 (br_t rfl (sd_digits1024 (br_t rfl ?_)))))))
  exact sd_292 hk h0 hT hp
theorem sd_87 {post : Int32 → St0 → Prop} {mc ms kc ks : Nat} {x1 x3 x5 t d s : Int32} {a : Nat → Int32} {r : Int32 × Int32} (H : ∀ z : Int32, (r.1 ≤ 99 → r.1 ≤ 9 → z = 1) → (r.1 ≤ 99 → ¬ r.1 ≤ 9 → z = 2) → (¬ r.1 ≤ 99 → z = 3) → wL_lawOf_170 post mc ms x1 x3 x5 r.1 r.2 z kc ks t d s a) : ∀ (n : Nat) (x y i : Int32), sd_dz n x y i = some r → wL_lawOf_87 post mc ms x1 x3 x5 kc ks t d s a n x y i := by
  intro n
  induction n with
  | zero => intro x y i h; exact absurd h (fun z => nomatch z)
  | succ n ih =>
    intro x y i h
    unfold sd_dz at h
    refine br_c (fun z => ?_) (fun z => ⟨sd_t10, br_c (fun w => ?_) (fun w => ?_)⟩)
    · rw [if_pos z] at h
      have h' := Option.some.inj h
      subst h'
      exact br_c (fun p => br_c (fun q => H 1 (fun _ _ => rfl) (fun _ q' => absurd q q') (fun p' => absurd p p')) (fun q => H 2 (fun _ q' => absurd q' q) (fun _ _ => rfl) (fun p' => absurd p p'))) (fun p => H 3 (fun p' => absurd p' p) (fun p' => absurd p' p) (fun _ => rfl))
    · rw [if_neg z, if_pos w] at h
      exact br_f sd_n10 ⟨sd_t10, br_f sd_n10 (nm_e (nm_e (ih _ _ _ h)))⟩
    · rw [if_neg z, if_neg w] at h
      exact br_t rfl (br_t rfl (nm_e (ih _ _ _ h)))
theorem sd_24 {post : Int32 → St0 → Prop} {mc ms kc ks : Nat} {x1 x3 c t d s : Int32} {a : Nat → Int32} {r : Int32} (hc : (256 + 64 * r) + ((x3 - ((1 : Int32) <<< (r &&& 31))) * ((64 : Int32) >>> (r &&& 31))) = c) (H : ∃ n, wL_lawOf_87 post mc ms x1 x3 c kc ks t d s a n x3 0 0) : ∀ (n : Nat) (x i : Int32), sd_h x3 n x i = some r → wL_lawOf_24 post mc ms x1 x3 kc ks t d s a n x i := by
  intro n
  induction n with
  | zero => intro x i h; exact absurd h (fun z => nomatch z)
  | succ n ih =>
    intro x i h
    unfold sd_h at h
    refine br_c (fun z => ?_) (fun z => br_c (fun w => nm_e ?_) (fun w => nm_e ?_))
    · rw [if_pos z] at h
      have h' := Option.some.inj h
      subst h'
      exact nm_r hc H
    · rw [if_neg z, if_pos w] at h
      exact ih _ _ h
    · rw [if_neg z, if_neg w] at h
      exact ih _ _ h
theorem sd_law {post : Int32 → St0 → Prop} {x y : Int32} (hp : post 1 ()) : wpL_lawOf post 12 176 () x y := by
  obtain ⟨j, hj, hje⟩ := pk_andE x (m := 127) 7 (by decide)
  have hk : 1 + j % 127 < 128 := by omega
  have h0 : 0 < 1 + j % 127 := by omega
  have e : 1 + ((x &&& 127) - (x &&& 127) / 127 * 127) = nI (1 + j % 127) := by
    rw [hje, show (127 : Int32) = nI 127 from rfl, pk_rem (by omega) (by decide) (by decide), show (1 : Int32) = nI 1 from rfl, nI_add]
  generalize hkk : 1 + j % 127 = k at hk h0 e
  obtain ⟨f1, f2, f3⟩ := sd_T6 k hk h0
  have hd := (sd_T7 k hk).2
  refine ⟨by decide, by decide, 11, 172, by decide, by decide, ?_⟩
  unfold wpX_init
  dsimp only
  refine ⟨by decide, by decide, by decide, nm_r e ⟨8, sd_24 f2 ⟨4, sd_87 (fun z z1 z2 z3 => sd_170 hk h0 ?_ sd_T0 hp) 4 _ _ _ f3⟩ 8 _ _ f1⟩⟩
  dsimp only at z1 z2 z3
  by_cases p : 99 < sd_dg k
  · rw [z3 (nI_ge (b := sd_dg k) (a := 99) p (by omega)), sd_mn, if_pos p]
    rfl
  · by_cases q : 9 < sd_dg k
    · rw [z2 (nI_le (b := 99) (by omega) (by decide)) (nI_ge (b := sd_dg k) (a := 9) q (by omega)), sd_mn, if_neg p, if_pos q]
      rfl
    · rw [z1 (nI_le (b := 99) (by omega) (by decide)) (nI_le (b := 9) (by omega) (by decide)), sd_mn, if_neg p, if_neg q]
      rfl
theorem sd_cell {post : Int32 → Prop} {L : Nat} {xs : Nat → Int32} {u : St0} (i : Nat) (hi : i < 2) (hL : L ≤ 2) (H : ∀ x, post x) : wpL_cellAt post L xs u (nI i) := by
  unfold wpL_cellAt
  exact pk_le L i (fun _ => H _) (fun z => ⟨pk_in i L z, H _⟩)
theorem i_vc (xs : Nat → Int32) (L : Nat) (hL : L ≤ 2) : wpL_law (fun r => r = 1) L xs := by
  unfold wpL_law
  exact sd_cell 0 (by decide) hL (fun x => sd_cell 1 (by decide) hL (fun y => ⟨12, 176, by decide, by decide, sd_law rfl⟩))
end
