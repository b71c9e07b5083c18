section
/-- an array as far as it is known: a value, or nothing known, place by place -/
abbrev gs_L : Type := List (Option Int32)
def gs_at : gs_L → Nat → Option Int32
  | [], _ => none
  | x :: _, 0 => x
  | _ :: t, k + 1 => gs_at t k
def gs_set : gs_L → Nat → Int32 → gs_L
  | [], _, _ => []
  | _ :: t, 0, v => some v :: t
  | x :: t, k + 1, v => x :: gs_set t k v
/-- the array a holds what the list l knows -/
def gs_M (l : gs_L) (a : Nat → Int32) : Prop := ∀ k v, gs_at l k = some v → a k = v
theorem gs_at_set : ∀ (l : gs_L) (k : Nat) (v : Int32) (j : Nat) (w : Int32), gs_at (gs_set l k v) j = some w → (j = k ∧ w = v) ∨ (j ≠ k ∧ gs_at l j = some w)
  | [], k, v, j, w, h => by
    simp only [gs_set, gs_at] at h
    exact absurd h (by simp)
  | x :: t, 0, v, 0, w, h => by
    simp only [gs_set, gs_at] at h
    exact Or.inl ⟨rfl, (Option.some.inj h).symm⟩
  | x :: t, 0, v, j + 1, w, h => by
    simp only [gs_set, gs_at] at h
    exact Or.inr ⟨by omega, by simpa only [gs_at] using h⟩
  | x :: t, k + 1, v, 0, w, h => by
    simp only [gs_set, gs_at] at h
    exact Or.inr ⟨by omega, by simpa only [gs_at] using h⟩
  | x :: t, k + 1, v, j + 1, w, h => by
    simp only [gs_set, gs_at] at h
    rcases gs_at_set t k v j w h with ⟨e, ew⟩ | ⟨e, ew⟩
    · exact Or.inl ⟨by omega, ew⟩
    · exact Or.inr ⟨by omega, by simpa only [gs_at] using ew⟩
theorem gs_M_set {l : gs_L} {a : Nat → Int32} (h : gs_M l a) (k : Nat) (v : Int32) : gs_M (gs_set l k v) (upd a k v) := by
  intro j w hw
  rcases gs_at_set l k v j w hw with ⟨e, ew⟩ | ⟨e, ew⟩
  · rw [e, ew]
    exact pk_us
  · rw [pk_un e]
    exact h j w ew
def gs_U5 : gs_L := [none, none, none, none, none]
def gs_U6 : gs_L := [none, none, none, none, none, none]
def gs_U12 : gs_L := [none, none, none, none, none, none, none, none, none, none, none, none]
theorem gs_none {l : gs_L} (h : ∀ x, x ∈ l → x = none) (a : Nat → Int32) : gs_M l a := by
  intro k v hv
  have aux : ∀ (l : gs_L) (k : Nat), (∀ x, x ∈ l → x = none) → gs_at l k = none := by
    intro l
    induction l with
    | nil => intro k _; rfl
    | cons x t ih =>
      intro k hx
      cases k with
      | zero => exact hx x (List.mem_cons_self ..)
      | succ k => exact ih k (fun y hy => hx y (List.mem_cons_of_mem _ hy))
  rw [aux l k h] at hv
  exact absurd hv (by simp)
theorem gs_MU5 (a : Nat → Int32) : gs_M gs_U5 a := gs_none (by decide) a
theorem gs_MU6 (a : Nat → Int32) : gs_M gs_U6 a := gs_none (by decide) a
theorem gs_MU12 (a : Nat → Int32) : gs_M gs_U12 a := gs_none (by decide) a
/-- an int whose bits are a small number: in range, and at that place -/
theorem gs_vin {i : Int32} {n : Nat} (h : i.toBitVec.toNat < n) (hn : n ≤ 12) : vp_in i n ∧ i.toNatClampNeg = i.toBitVec.toNat := by
  have e : i = nI i.toBitVec.toNat := by
    apply Int32.toBitVec_inj.mp
    apply BitVec.eq_of_toNat_eq
    exact (pk_tn i.toBitVec.isLt).symm
  have c : (nI i.toBitVec.toNat).toNatClampNeg = i.toBitVec.toNat := nI_clamp (by omega)
  refine ⟨?_, ?_⟩
  · rw [e]
    exact vp_in_nI h (by omega)
  · rw [← e] at c
    exact c
/-- read place i of an array of n places, and go on with the value -/
def gs_rd (l : gs_L) (i : Int32) (n : Nat) (K : Int32 → Bool) : Bool :=
  if i.toBitVec.toNat < n then (match gs_at l i.toBitVec.toNat with | some v => K v | none => false) else false
/-- write place i, and go on with the list -/
def gs_wr (l : gs_L) (i : Int32) (n : Nat) (v : Int32) (K : gs_L → Bool) : Bool :=
  if i.toBitVec.toNat < n then K (gs_set l i.toBitVec.toNat v) else false
theorem gs_rd_ok {l : gs_L} {a : Nat → Int32} {i : Int32} {n : Nat} {K : Int32 → Bool} (hM : gs_M l a) (hn : n ≤ 12) (h : gs_rd l i n K = true) : vp_in i n ∧ K (a i.toNatClampNeg) = true := by
  unfold gs_rd at h
  by_cases c : i.toBitVec.toNat < n
  · rw [if_pos c] at h
    obtain ⟨v1, v2⟩ := gs_vin c hn
    refine ⟨v1, ?_⟩
    rw [v2]
    cases e : gs_at l i.toBitVec.toNat with
    | none => rw [e] at h; exact absurd h (by simp)
    | some v =>
      rw [e] at h
      rw [hM _ _ e]
      exact h
  · rw [if_neg c] at h
    exact absurd h (by simp)
theorem gs_wr_ok {l : gs_L} {a : Nat → Int32} {i : Int32} {n : Nat} {v : Int32} {K : gs_L → Bool} (hM : gs_M l a) (hn : n ≤ 12) (h : gs_wr l i n v K = true) : vp_in i n ∧ ∃ l', gs_M l' (upd a i.toNatClampNeg v) ∧ K l' = true := by
  unfold gs_wr at h
  by_cases c : i.toBitVec.toNat < n
  · rw [if_pos c] at h
    obtain ⟨v1, v2⟩ := gs_vin c hn
    refine ⟨v1, _, ?_, h⟩
    rw [v2]
    exact gs_M_set hM _ _
  · rw [if_neg c] at h
    exact absurd h (by simp)
theorem gs_br {c : Prop} [Decidable c] {A B : Bool} {P Q : Prop} (h : (if c then A else B) = true) (f : A = true → P) (g : B = true → Q) : (c → P) ∧ (¬ c → Q) :=
  ⟨fun z => f (by rw [if_pos z] at h; exact h), fun z => g (by rw [if_neg z] at h; exact h)⟩
theorem gs_ff {P : Prop} (h : false = true) : P := absurd h (by decide)
end
section
/-! each method of the class as a check over lists: what it says true of, the method's predicate holds of -/
def gs_tp5 (K : gs_L → Bool) : Nat → Int32 → Int32 → gs_L → Bool
  | 0 => fun _ _ _ => false
  | n + 1 => fun x3 x4 l1 => if x4 < x3 then K l1 else gs_rd l1 x3 5 (fun x5 => gs_rd l1 x4 5 (fun y => gs_wr l1 x3 5 ((-y).toInt8.toInt32) (fun l1 => gs_wr l1 x4 5 ((-x5).toInt8.toInt32) (fun l1 => gs_tp5 K n (x3 + 1) (x4 + (-1)) l1))))
theorem gs_tp5_ok {post : St2 → Prop} {K : gs_L → Bool} {a2 a3 a4 a5 a6 : Nat → Int32} (hK : ∀ l a, gs_M l a → K l = true → post (a, a2, a3, a4, a5, a6)) :
    ∀ (n : Nat) (x3 x4 : Int32) (l1 : gs_L) (a1 : Nat → Int32), gs_M l1 a1 → gs_tp5 K n x3 x4 l1 = true → wX_turnPiece_5 post n x3 x4 a1 a2 a3 a4 a5 a6
  | 0, _, _, _, _, _, h => gs_ff h
  | n + 1, x3, x4, l1, a1, hM, h => by
    refine gs_br h (fun h => hK _ _ hM h) (fun h => ?_)
    obtain ⟨v1, h⟩ := gs_rd_ok hM (by decide) h
    obtain ⟨v2, h⟩ := gs_rd_ok hM (by decide) h
    obtain ⟨v3, l2, hM2, h⟩ := gs_wr_ok hM (by decide) h
    obtain ⟨v4, l3, hM3, h⟩ := gs_wr_ok hM2 (by decide) h
    exact ⟨v1, nm_e ⟨v2, v1, nm_e ⟨v2, nm_e (nm_e (nm_e (gs_tp5_ok hK n _ _ _ _ hM3 h)))⟩⟩⟩
def gs_size (y : Int32) (K : Int32 → Bool) : Bool := if 0 ≤ y then K y else K (-y)
theorem gs_size_ok {post : Int32 → Prop} {K : Int32 → Bool} {y : Int32} (h : gs_size y K = true) (hK : ∀ r, K r = true → post r) : wpX_size post () y :=
  gs_br h (fun h => hK _ h) (fun h => hK _ h)
/-! lineUp -/
def gs_lu124 (l3 : gs_L) (K : gs_L → gs_L → gs_L → Bool) : Nat → Int32 → gs_L → gs_L → gs_L → Bool
  | 0 => fun _ _ _ _ => false
  | n + 1 => fun x1 l4 l5 l6 => if 6 ≤ x1 then K l4 l5 l6 else gs_rd l3 (2 * x1) 12 (fun x2 => gs_rd l3 ((2 * x1) + 1) 12 (fun x3 =>
      if x3 ≤ x2 then gs_wr l4 x1 6 x3.toInt8.toInt32 (fun l4 => gs_wr l5 x1 6 x2.toInt8.toInt32 (fun l5 => gs_wr l6 x1 6 x1.toInt8.toInt32 (fun l6 => gs_lu124 l3 K n (x1 + 1) l4 l5 l6)))
      else gs_wr l4 x1 6 x2.toInt8.toInt32 (fun l4 => gs_wr l5 x1 6 x3.toInt8.toInt32 (fun l5 => gs_wr l6 x1 6 x1.toInt8.toInt32 (fun l6 => gs_lu124 l3 K n (x1 + 1) l4 l5 l6)))))
theorem gs_lu124_ok {post : St2 → Prop} {l3 : gs_L} {K : gs_L → gs_L → gs_L → Bool} {a1 a2 a3 : Nat → Int32} (h3 : gs_M l3 a3) (hK : ∀ l4 l5 l6 a4 a5 a6, gs_M l4 a4 → gs_M l5 a5 → gs_M l6 a6 → K l4 l5 l6 = true → post (a1, a2, a3, a4, a5, a6)) :
    ∀ (n : Nat) (x1 : Int32) (l4 l5 l6 : gs_L) (a4 a5 a6 : Nat → Int32), gs_M l4 a4 → gs_M l5 a5 → gs_M l6 a6 → gs_lu124 l3 K n x1 l4 l5 l6 = true → wX_lineUp_124 post n x1 a1 a2 a3 a4 a5 a6
  | 0, _, _, _, _, _, _, _, _, _, _, h => gs_ff h
  | n + 1, x1, l4, l5, l6, a4, a5, a6, h4, h5, h6, h => by
    refine gs_br h (fun h => hK _ _ _ _ _ _ h4 h5 h6 h) (fun h => ?_)
    obtain ⟨v1, h⟩ := gs_rd_ok h3 (by decide) h
    obtain ⟨v2, h⟩ := gs_rd_ok h3 (by decide) h
    refine ⟨v1, nm_e ⟨v2, nm_e (br_c (fun z => ?_) (fun z => ?_))⟩⟩
    · rw [if_pos z] at h
      obtain ⟨w1, l4', h4', h⟩ := gs_wr_ok h4 (by decide) h
      obtain ⟨w2, l5', h5', h⟩ := gs_wr_ok h5 (by decide) h
      obtain ⟨w3, l6', h6', h⟩ := gs_wr_ok h6 (by decide) h
      exact ⟨w1, nm_e (br_t z ⟨w2, nm_e ⟨w3, nm_e (nm_e (gs_lu124_ok h3 hK n _ _ _ _ _ _ _ h4' h5' h6' h))⟩⟩)⟩
    · rw [if_neg z] at h
      obtain ⟨w1, l4', h4', h⟩ := gs_wr_ok h4 (by decide) h
      obtain ⟨w2, l5', h5', h⟩ := gs_wr_ok h5 (by decide) h
      obtain ⟨w3, l6', h6', h⟩ := gs_wr_ok h6 (by decide) h
      exact ⟨w1, nm_e (br_f z ⟨w2, nm_e ⟨w3, nm_e (nm_e (gs_lu124_ok h3 hK n _ _ _ _ _ _ _ h4' h5' h6' h))⟩⟩)⟩
def gs_lu97 (l2 : gs_L) (K : gs_L → Bool) : Nat → Int32 → gs_L → Bool
  | 0 => fun _ _ => false
  | n + 1 => fun x1 l3 => if 12 ≤ x1 then K l3 else gs_rd l2 x1 12 (fun e => gs_wr l3 e 12 x1.toInt8.toInt32 (fun l3 => gs_lu97 l2 K n (x1 + 1) l3))
theorem gs_lu97_ok {post : St2 → Prop} {l2 : gs_L} {K : gs_L → Bool} {a1 a2 a4 a5 a6 : Nat → Int32} (h2 : gs_M l2 a2) (hK : ∀ l a, gs_M l a → K l = true → ∃ fu, wX_lineUp_124 post fu 0 a1 a2 a a4 a5 a6) :
    ∀ (n : Nat) (x1 : Int32) (l3 : gs_L) (a3 : Nat → Int32), gs_M l3 a3 → gs_lu97 l2 K n x1 l3 = true → wX_lineUp_97 post n x1 a1 a2 a3 a4 a5 a6
  | 0, _, _, _, _, h => gs_ff h
  | n + 1, x1, l3, a3, hM, h => by
    refine gs_br h (fun h => hK _ _ hM h) (fun h => ?_)
    obtain ⟨v1, h⟩ := gs_rd_ok h2 (by decide) h
    obtain ⟨v2, l3', hM', h⟩ := gs_wr_ok hM (by decide) h
    exact ⟨v1, v2, nm_e (nm_e (gs_lu97_ok h2 hK n _ _ _ hM' h))⟩
def gs_lu18 (l1 : gs_L) (K : gs_L → Bool) : Nat → Int32 → gs_L → Bool
  | 0 => fun _ _ => false
  | n + 1 => fun x1 l2 => if 5 ≤ x1 then K l2 else gs_rd l1 x1 5 (fun y => gs_size y (fun r =>
      if y ≤ 0 then gs_wr l2 ((2 * x1) + 1) 12 (2 * r).toInt8.toInt32 (fun l2 => gs_wr l2 ((2 * x1) + 2) 12 ((2 * r) - 1).toInt8.toInt32 (fun l2 => gs_lu18 l1 K n (x1 + 1) l2))
      else gs_wr l2 ((2 * x1) + 1) 12 ((2 * r) - 1).toInt8.toInt32 (fun l2 => gs_wr l2 ((2 * x1) + 2) 12 (2 * r).toInt8.toInt32 (fun l2 => gs_lu18 l1 K n (x1 + 1) l2))))
theorem gs_lu18_ok {post : St2 → Prop} {l1 : gs_L} {K : gs_L → Bool} {a1 a3 a4 a5 a6 : Nat → Int32} (h1 : gs_M l1 a1) (hK : ∀ l a, gs_M l a → K l = true → ∃ fu, wX_lineUp_97 post fu 0 a1 a a3 a4 a5 a6) :
    ∀ (n : Nat) (x1 : Int32) (l2 : gs_L) (a2 : Nat → Int32), gs_M l2 a2 → gs_lu18 l1 K n x1 l2 = true → wX_lineUp_18 post n x1 a1 a2 a3 a4 a5 a6
  | 0, _, _, _, _, h => gs_ff h
  | n + 1, x1, l2, a2, hM, h => by
    refine gs_br h (fun h => hK _ _ hM h) (fun h => ?_)
    obtain ⟨v1, h⟩ := gs_rd_ok h1 (by decide) h
    refine ⟨v1, gs_size_ok h (fun r h => nm_e ⟨v1, br_c (fun z => ?_) (fun z => ?_)⟩)⟩
    · rw [if_pos z] at h
      obtain ⟨w1, l2', h2', h⟩ := gs_wr_ok hM (by decide) h
      obtain ⟨w2, l2'', h2'', h⟩ := gs_wr_ok h2' (by decide) h
      exact ⟨w1, nm_e ⟨v1, br_t z ⟨w2, nm_e (nm_e (gs_lu18_ok h1 hK n _ _ _ h2'' h))⟩⟩⟩
    · rw [if_neg z] at h
      obtain ⟨w1, l2', h2', h⟩ := gs_wr_ok hM (by decide) h
      obtain ⟨w2, l2'', h2'', h⟩ := gs_wr_ok h2' (by decide) h
      exact ⟨w1, nm_e ⟨v1, br_f z ⟨w2, nm_e (nm_e (gs_lu18_ok h1 hK n _ _ _ h2'' h))⟩⟩⟩
def gs_lu (l1 : gs_L) (K : gs_L → gs_L → gs_L → gs_L → gs_L → Bool) : Bool :=
  gs_lu18 l1 (fun l2 => gs_lu97 l2 (fun l3 => gs_lu124 l3 (fun l4 l5 l6 => K l2 l3 l4 l5 l6) 7 0 gs_U6 gs_U6 gs_U6) 13 0 gs_U12) 6 0 (gs_set (gs_set gs_U12 0 0) 11 11)
theorem gs_lu_ok {post : St2 → Prop} {l1 : gs_L} {K : gs_L → gs_L → gs_L → gs_L → gs_L → Bool} {a1 a2 a3 a4 a5 a6 : Nat → Int32} (h1 : gs_M l1 a1) (h : gs_lu l1 K = true)
    (hK : ∀ l2 l3 l4 l5 l6 b2 b3 b4 b5 b6, gs_M l2 b2 → gs_M l3 b3 → gs_M l4 b4 → gs_M l5 b5 → gs_M l6 b6 → K l2 l3 l4 l5 l6 = true → post (a1, b2, b3, b4, b5, b6)) : wpX_lineUp post (a1, a2, a3, a4, a5, a6) := by
  unfold wpX_lineUp
  refine nm_e (nm_e ⟨6, gs_lu18_ok h1 (fun l2 b2 h2 h => ⟨13, gs_lu97_ok h2 (fun l3 b3 h3 h => ⟨7, gs_lu124_ok h3 (fun l4 l5 l6 b4 b5 b6 h4 h5 h6 h => hK _ _ _ _ _ _ _ _ _ _ h2 h3 h4 h5 h6 h) 7 0 _ _ _ _ _ _ (gs_MU6 _) (gs_MU6 _) (gs_MU6 _) h⟩) 13 0 _ _ (gs_MU12 _) h⟩) 6 0 _ _ (gs_M_set (gs_M_set (gs_MU12 _) 0 0) 11 11) h⟩)
/-! rings -/
def gs_r34 (KJ : Int32 → Int32 → Int32 → Bool) (x2 x3 : Int32) (l2 l3 : gs_L) : Nat → Int32 → Int32 → Int32 → Bool
  | 0 => fun _ _ _ => false
  | n + 1 => fun x1 x4 x5 => if 6 ≤ x5 then KJ x1 x2 (x3 + 1) else if ((x1 >>> (x4 &&& 31)) &&& 1) = 0 then gs_rd l2 (x4 ^^^ 1) 12 (fun e => gs_rd l3 (e ^^^ 1) 12 (fun p => gs_r34 KJ x2 x3 l2 l3 n (x1 ||| (((1 : Int32) <<< (x4 &&& 31)) ||| ((1 : Int32) <<< ((x4 ^^^ 1) &&& 31)))) p (x5 + 1))) else KJ x1 x2 (x3 + 1)
theorem gs_r34_ok {post : Int32 → Prop} {J6 : Int32 → Int32 → Int32 → Prop} {KJ : Int32 → Int32 → Int32 → Bool} {x2 x3 : Int32} {l2 l3 : gs_L} {a1 a2 a3 a4 a5 a6 : Nat → Int32} (h2 : gs_M l2 a2) (h3 : gs_M l3 a3) (hJ : ∀ x y z, KJ x y z = true → J6 x y z) :
    ∀ (n : Nat) (x1 x4 x5 : Int32), gs_r34 KJ x2 x3 l2 l3 n x1 x4 x5 = true → wX_rings_34 post J6 x2 x3 a1 a2 a3 a4 a5 a6 n x1 x4 x5
  | 0, _, _, _, h => gs_ff h
  | n + 1, x1, x4, x5, h => by
    refine gs_br h (fun h => nm_e (hJ _ _ _ h)) (fun h => gs_br h (fun h => nm_e (nm_e ?_)) (fun h => nm_e (hJ _ _ _ h)))
    obtain ⟨v1, h⟩ := gs_rd_ok h2 (by decide) h
    obtain ⟨v2, h⟩ := gs_rd_ok h3 (by decide) h
    exact ⟨v1, v2, nm_e (nm_e (gs_r34_ok h2 h3 hJ n _ _ _ h))⟩
def gs_r6 (K : Int32 → Bool) (l2 l3 : gs_L) : Nat → Int32 → Int32 → Int32 → Bool
  | 0 => fun _ _ _ => false
  | n + 1 => fun x1 x2 x3 => if 12 ≤ x3 then K x2 else if ((x1 >>> (x3 &&& 31)) &&& 1) = 0 then gs_r34 (gs_r6 K l2 l3 n) (x2 + 1) x3 l2 l3 7 x1 x3 0 else gs_r34 (gs_r6 K l2 l3 n) (x2 + 0) x3 l2 l3 7 x1 x3 0
theorem gs_r6_ok {post : Int32 → Prop} {K : Int32 → Bool} {l2 l3 : gs_L} {a1 a2 a3 a4 a5 a6 : Nat → Int32} (h2 : gs_M l2 a2) (h3 : gs_M l3 a3) (hK : ∀ x, K x = true → post x) :
    ∀ (n : Nat) (x1 x2 x3 : Int32), gs_r6 K l2 l3 n x1 x2 x3 = true → wX_rings_6 post a1 a2 a3 a4 a5 a6 n x1 x2 x3
  | 0, _, _, _, h => gs_ff h
  | n + 1, x1, x2, x3, h => gs_br h (fun h => hK _ h) (fun h => gs_br h
      (fun h => nm_e ⟨7, gs_r34_ok h2 h3 (fun x y z h => gs_r6_ok h2 h3 hK n x y z h) 7 _ _ _ h⟩)
      (fun h => nm_e ⟨7, gs_r34_ok h2 h3 (fun x y z h => gs_r6_ok h2 h3 hK n x y z h) 7 _ _ _ h⟩))
theorem gs_r_ok {post : Int32 → Prop} {K : Int32 → Bool} {l2 l3 : gs_L} {a1 a2 a3 a4 a5 a6 : Nat → Int32} (h2 : gs_M l2 a2) (h3 : gs_M l3 a3) (h : gs_r6 K l2 l3 13 0 0 0 = true) (hK : ∀ x, K x = true → post x) : wpX_rings post (a1, a2, a3, a4, a5, a6) :=
  ⟨13, gs_r6_ok h2 h3 hK 13 0 0 0 h⟩
/-! groupLinks -/
def gs_c50 (lk hk ll hl : Int32) (K : Int32 → Bool) : Bool := if lk ≤ ll then K 0 else if hl ≤ lk then K 0 else if hk ≤ hl then K 0 else K 1
def gs_cross (l4 l5 : gs_L) (k l : Int32) (K : Int32 → Bool) : Bool :=
  gs_rd l4 k 6 (fun lk => gs_rd l4 l 6 (fun ll => gs_rd l5 k 6 (fun hk => gs_rd l5 l 6 (fun hl =>
    if ll ≤ lk then gs_c50 lk hk ll hl K else if hk ≤ ll then gs_c50 lk hk ll hl K else if hl ≤ hk then gs_c50 lk hk ll hl K else K 1))))
theorem gs_c50_ok {post : Int32 → Prop} {K : Int32 → Bool} {k l : Int32} {a1 a2 a3 a4 a5 a6 : Nat → Int32} (vk : vp_in k 6) (vl : vp_in l 6) (h : gs_c50 (a4 k.toNatClampNeg) (a5 k.toNatClampNeg) (a4 l.toNatClampNeg) (a5 l.toNatClampNeg) K = true) (hK : ∀ x, K x = true → post x) : wX_cross_50 post k l 0 a1 a2 a3 a4 a5 a6 :=
  br_t rfl ⟨vl, vk, gs_br h (fun h => hK _ h) (fun h => ⟨vk, vl, gs_br h (fun h => hK _ h) (fun h => ⟨vl, vk, gs_br h (fun h => hK _ h) (fun h => hK _ h)⟩)⟩)⟩
theorem gs_cross_ok {post : Int32 → Prop} {K : Int32 → Bool} {l4 l5 : gs_L} {k l : Int32} {a1 a2 a3 a4 a5 a6 : Nat → Int32} (h4 : gs_M l4 a4) (h5 : gs_M l5 a5) (h : gs_cross l4 l5 k l K = true) (hK : ∀ x, K x = true → post x) : wpX_cross post (a1, a2, a3, a4, a5, a6) k l := by
  unfold gs_cross at h
  obtain ⟨vk, h⟩ := gs_rd_ok h4 (by decide) h
  obtain ⟨vl, h⟩ := gs_rd_ok h4 (by decide) h
  obtain ⟨_, h⟩ := gs_rd_ok h5 (by decide) h
  obtain ⟨_, h⟩ := gs_rd_ok h5 (by decide) h
  exact ⟨vk, vl, gs_br h (fun h => gs_c50_ok vk vl h hK) (fun h => ⟨vl, vk, gs_br h (fun h => gs_c50_ok vk vl h hK) (fun h => ⟨vk, vl, gs_br h (fun h => gs_c50_ok vk vl h hK) (fun h => br_f (by decide) (hK _ h))⟩)⟩)⟩
def gs_g18 (KJ : Int32 → gs_L → Bool) (l4 l5 : gs_L) (x2 : Int32) : Nat → Int32 → gs_L → Bool
  | 0 => fun _ _ => false
  | n + 1 => fun x3 l6 => if 6 ≤ x3 then KJ (x2 + 1) l6 else gs_cross l4 l5 x2 x3 (fun r => if r = 0 then gs_g18 KJ l4 l5 x2 n (x3 + 1) l6 else gs_rd l6 x3 6 (fun gl => gs_rd l6 x2 6 (fun gk => if gk ≤ gl then gs_g18 KJ l4 l5 x2 n (x3 + 1) l6 else gs_wr l6 x2 6 gl.toInt8.toInt32 (fun l6 => gs_g18 KJ l4 l5 x2 n (x3 + 1) l6))))
theorem gs_g18_ok {post : St2 → Prop} {J2 J10 : Int32 → (Nat → Int32) → (Nat → Int32) → (Nat → Int32) → (Nat → Int32) → (Nat → Int32) → (Nat → Int32) → Prop} {KJ : Int32 → gs_L → Bool} {x1 x2 : Int32} {l4 l5 : gs_L} {a1 a2 a3 a4 a5 : Nat → Int32} (h4 : gs_M l4 a4) (h5 : gs_M l5 a5) (hJ : ∀ x l a, gs_M l a → KJ x l = true → J10 x a1 a2 a3 a4 a5 a) :
    ∀ (n : Nat) (x3 : Int32) (l6 : gs_L) (a6 : Nat → Int32), gs_M l6 a6 → gs_g18 KJ l4 l5 x2 n x3 l6 = true → wX_groupLinks_18 post J2 J10 x1 x2 n x3 a1 a2 a3 a4 a5 a6
  | 0, _, _, _, _, h => gs_ff h
  | n + 1, x3, l6, a6, hM, h => by
    refine gs_br h (fun h => nm_e (hJ _ _ _ hM h)) (fun h => gs_cross_ok h4 h5 h (fun r h => gs_br h (fun h => nm_e (gs_g18_ok h4 h5 hJ n _ _ _ hM h)) (fun h => ?_)))
    obtain ⟨v1, h⟩ := gs_rd_ok hM (by decide) h
    obtain ⟨v2, h⟩ := gs_rd_ok hM (by decide) h
    refine ⟨v1, v2, gs_br h (fun h => nm_e (gs_g18_ok h4 h5 hJ n _ _ _ hM h)) (fun h => ⟨v1, ?_⟩)⟩
    obtain ⟨v3, l6', hM', h⟩ := gs_wr_ok hM (by decide) h
    exact ⟨v3, nm_r (by rw [vp_nar_byte]) (nm_e (gs_g18_ok h4 h5 hJ n _ _ _ hM' h))⟩
def gs_g10 (KJ : Int32 → gs_L → Bool) (l4 l5 : gs_L) (x1 : Int32) : Nat → Int32 → gs_L → Bool
  | 0 => fun _ _ => false
  | n + 1 => fun x2 l6 => if 6 ≤ x2 then KJ (x1 + 1) l6 else gs_g18 (gs_g10 KJ l4 l5 x1 n) l4 l5 x2 7 0 l6
theorem gs_g10_ok {post : St2 → Prop} {J2 : Int32 → (Nat → Int32) → (Nat → Int32) → (Nat → Int32) → (Nat → Int32) → (Nat → Int32) → (Nat → Int32) → Prop} {KJ : Int32 → gs_L → Bool} {x1 : Int32} {l4 l5 : gs_L} {a1 a2 a3 a4 a5 : Nat → Int32} (h4 : gs_M l4 a4) (h5 : gs_M l5 a5) (hJ : ∀ x l a, gs_M l a → KJ x l = true → J2 x a1 a2 a3 a4 a5 a) :
    ∀ (n : Nat) (x2 : Int32) (l6 : gs_L) (a6 : Nat → Int32), gs_M l6 a6 → gs_g10 KJ l4 l5 x1 n x2 l6 = true → wX_groupLinks_10 post J2 x1 n x2 a1 a2 a3 a4 a5 a6
  | 0, _, _, _, _, h => gs_ff h
  | n + 1, x2, l6, a6, hM, h => gs_br h (fun h => nm_e (hJ _ _ _ hM h)) (fun h => ⟨7, gs_g18_ok h4 h5 (fun x l a hl h => gs_g10_ok h4 h5 hJ n x l a hl h) 7 0 _ _ hM h⟩)
def gs_g2 (K : gs_L → Bool) (l4 l5 : gs_L) : Nat → Int32 → gs_L → Bool
  | 0 => fun _ _ => false
  | n + 1 => fun x1 l6 => if 6 ≤ x1 then K l6 else gs_g10 (gs_g2 K l4 l5 n) l4 l5 x1 7 0 l6
theorem gs_g2_ok {post : St2 → Prop} {K : gs_L → Bool} {l4 l5 : gs_L} {a1 a2 a3 a4 a5 : Nat → Int32} (h4 : gs_M l4 a4) (h5 : gs_M l5 a5) (hK : ∀ l a, gs_M l a → K l = true → post (a1, a2, a3, a4, a5, a)) :
    ∀ (n : Nat) (x1 : Int32) (l6 : gs_L) (a6 : Nat → Int32), gs_M l6 a6 → gs_g2 K l4 l5 n x1 l6 = true → wX_groupLinks_2 post n x1 a1 a2 a3 a4 a5 a6
  | 0, _, _, _, _, h => gs_ff h
  | n + 1, x1, l6, a6, hM, h => gs_br h (fun h => hK _ _ hM h) (fun h => ⟨7, gs_g10_ok h4 h5 (fun x l a hl h => gs_g2_ok h4 h5 hK n x l a hl h) 7 0 _ _ hM h⟩)
theorem gs_g_ok {post : St2 → Prop} {K : gs_L → Bool} {l4 l5 l6 : gs_L} {a1 a2 a3 a4 a5 a6 : Nat → Int32} (h4 : gs_M l4 a4) (h5 : gs_M l5 a5) (h6 : gs_M l6 a6) (h : gs_g2 K l4 l5 7 0 l6 = true) (hK : ∀ l a, gs_M l a → K l = true → post (a1, a2, a3, a4, a5, a)) : wpX_groupLinks post (a1, a2, a3, a4, a5, a6) :=
  ⟨7, gs_g2_ok h4 h5 hK 7 0 _ _ h6 h⟩
end
section
/-! stubbornGroups -/
def gs_s35 (KJ : Int32 → Int32 → Int32 → Bool) (x2 x3 z0 z1 lk hk g : Int32) : Bool :=
  if ((lk + hk) &&& 1) = 0 then KJ (z1 ||| z0) (x2 ||| ((1 : Int32) <<< (g &&& 31))) (x3 + 1) else KJ (z1 ||| z0) (x2 ||| 0) (x3 + 1)
theorem gs_s35_ok {post : Int32 → Prop} {J6 : Int32 → Int32 → Int32 → Prop} {KJ : Int32 → Int32 → Int32 → Bool} {x2 x3 z0 z1 : Int32} {a1 a2 a3 a4 a5 a6 : Nat → Int32} (v : vp_in x3 6) (h : gs_s35 KJ x2 x3 z0 z1 (a4 x3.toNatClampNeg) (a5 x3.toNatClampNeg) (a6 x3.toNatClampNeg) = true) (hJ : ∀ x y z, KJ x y z = true → J6 x y z) : wX_stubbornGroups_35 post J6 x2 x3 z0 z1 a1 a2 a3 a4 a5 a6 :=
  nm_e ⟨v, v, gs_br h (fun h => ⟨v, nm_e (nm_e (hJ _ _ _ h))⟩) (fun h => nm_e (nm_e (hJ _ _ _ h)))⟩
def gs_s6 (K : Int32 → Bool) (l4 l5 l6 : gs_L) : Nat → Int32 → Int32 → Int32 → Bool
  | 0 => fun _ _ _ => false
  | n + 1 => fun x1 x2 x3 => if 6 ≤ x3 then K (x1 &&& (x2 ^^^ (-1))) else gs_rd l4 x3 6 (fun lk => gs_rd l5 x3 6 (fun hk => gs_rd l6 x3 6 (fun g =>
      if g = x3 then gs_s35 (gs_s6 K l4 l5 l6 n) x2 x3 0 x1 lk hk g else gs_s35 (gs_s6 K l4 l5 l6 n) x2 x3 ((1 : Int32) <<< (g &&& 31)) x1 lk hk g)))
theorem gs_s6_ok {post : Int32 → Prop} {K : Int32 → Bool} {l4 l5 l6 : gs_L} {a1 a2 a3 a4 a5 a6 : Nat → Int32} (h4 : gs_M l4 a4) (h5 : gs_M l5 a5) (h6 : gs_M l6 a6) (hK : ∀ x, K x = true → post x) :
    ∀ (n : Nat) (x1 x2 x3 : Int32), gs_s6 K l4 l5 l6 n x1 x2 x3 = true → wX_stubbornGroups_6 post a1 a2 a3 a4 a5 a6 n x1 x2 x3
  | 0, _, _, _, h => gs_ff h
  | n + 1, x1, x2, x3, h => by
    refine gs_br h (fun h => hK _ h) (fun h => ?_)
    obtain ⟨v, h⟩ := gs_rd_ok h4 (by decide) h
    obtain ⟨_, h⟩ := gs_rd_ok h5 (by decide) h
    obtain ⟨_, h⟩ := gs_rd_ok h6 (by decide) h
    exact ⟨v, gs_br h (fun h => gs_s35_ok v h (fun x y z h => gs_s6_ok h4 h5 h6 hK n x y z h)) (fun h => ⟨v, gs_s35_ok v h (fun x y z h => gs_s6_ok h4 h5 h6 hK n x y z h)⟩)⟩
theorem gs_s_ok {post : Int32 → Prop} {K : Int32 → Bool} {l4 l5 l6 : gs_L} {a1 a2 a3 a4 a5 a6 : Nat → Int32} (h4 : gs_M l4 a4) (h5 : gs_M l5 a5) (h6 : gs_M l6 a6) (h : gs_s6 K l4 l5 l6 7 0 0 0 = true) (hK : ∀ x, K x = true → post x) : wpX_stubbornGroups post (a1, a2, a3, a4, a5, a6) :=
  ⟨7, gs_s6_ok h4 h5 h6 hK 7 0 0 0 h⟩
/-! standingApart -/
def gs_a143 (K : Int32 → Bool) (x6 : Int32) : Nat → Int32 → Int32 → Bool
  | 0 => fun _ _ => false
  | n + 1 => fun x7 x8 => if 6 ≤ x8 then K x7 else gs_a143 K x6 n (x7 + ((x6 >>> (x8 &&& 31)) &&& 1)) (x8 + 1)
theorem gs_a143_ok {post : Int32 → Prop} {K : Int32 → Bool} {x6 : Int32} {a1 a2 a3 a4 a5 a6 : Nat → Int32} (hK : ∀ x, K x = true → post x) :
    ∀ (n : Nat) (x7 x8 : Int32), gs_a143 K x6 n x7 x8 = true → wX_standingApart_143 post x6 a1 a2 a3 a4 a5 a6 n x7 x8
  | 0, _, _, h => gs_ff h
  | n + 1, x7, x8, h => gs_br h (fun h => hK _ h) (fun h => nm_e (nm_e (gs_a143_ok hK n _ _ h)))
def gs_a129 (K : Int32 → Bool) (x1 x4 : Int32) : Bool := gs_a143 K (x1 &&& (x4 ^^^ (-1))) 7 0 0
theorem gs_a129_ok {post : Int32 → Prop} {K : Int32 → Bool} {x1 x4 : Int32} {a1 a2 a3 a4 a5 a6 : Nat → Int32} (hK : ∀ x, K x = true → post x) (h : gs_a129 K x1 x4 = true) : wX_standingApart_129 post x1 x4 a1 a2 a3 a4 a5 a6 :=
  nm_e ⟨7, gs_a143_ok hK 7 0 0 h⟩
def gs_a58 (K : Int32 → Bool) (l2 l6 : gs_L) (x1 x2 : Int32) : Nat → Int32 → Int32 → Int32 → Int32 → Bool
  | 0 => fun _ _ _ _ => false
  | n + 1 => fun x3 x4 x5 x6 => if 12 ≤ x6 then gs_a129 K x1 x4 else if x2 < 0 then gs_a129 K x1 x4 else gs_rd l2 x6 12 (fun e => gs_rd l6 (e >>> ((1 : Int32) &&& 31)) 6 (fun g =>
      if ((x1 >>> (g &&& 31)) &&& 1) = 0 then gs_a58 K l2 l6 x1 x2 n x3 x4 x5 (x6 + 1)
      else if g = x5 then gs_a58 K l2 l6 x1 x2 n x3 x4 g (x6 + 1)
      else gs_a58 K l2 l6 x1 x2 n (x3 ||| ((1 : Int32) <<< (g &&& 31))) (x4 ||| (x3 &&& ((1 : Int32) <<< (g &&& 31)))) g (x6 + 1)))
theorem gs_a58_ok {post : Int32 → Prop} {K : Int32 → Bool} {l2 l6 : gs_L} {x1 x2 : Int32} {a1 a2 a3 a4 a5 a6 : Nat → Int32} (h2 : gs_M l2 a2) (h6 : gs_M l6 a6) (hK : ∀ x, K x = true → post x) :
    ∀ (n : Nat) (x3 x4 x5 x6 : Int32), gs_a58 K l2 l6 x1 x2 n x3 x4 x5 x6 = true → wX_standingApart_58 post x1 x2 a1 a2 a3 a4 a5 a6 n x3 x4 x5 x6
  | 0, _, _, _, _, h => gs_ff h
  | n + 1, x3, x4, x5, x6, h => by
    refine gs_br h (fun h => gs_a129_ok hK h) (fun h => gs_br h (fun h => gs_a129_ok hK h) (fun h => ?_))
    obtain ⟨v1, h⟩ := gs_rd_ok h2 (by decide) h
    obtain ⟨v2, h⟩ := gs_rd_ok h6 (by decide) h
    exact ⟨v1, v2, nm_e (gs_br h (fun h => nm_e (gs_a58_ok h2 h6 hK n _ _ _ _ h)) (fun h => gs_br h (fun h => nm_e (gs_a58_ok h2 h6 hK n _ _ _ _ h)) (fun h => nm_e (nm_e (nm_e (gs_a58_ok h2 h6 hK n _ _ _ _ h))))))⟩
def gs_a4 (K : Int32 → Bool) (l2 l6 : gs_L) (x1 : Int32) : Nat → Int32 → Int32 → Bool
  | 0 => fun _ _ => false
  | n + 1 => fun x2 x3 => if 12 ≤ x3 then gs_a58 K l2 l6 x1 x2 13 0 0 x2 0 else gs_rd l2 x3 12 (fun e => gs_rd l6 (e >>> ((1 : Int32) &&& 31)) 6 (fun g =>
      if ((x1 >>> (g &&& 31)) &&& 1) = 0 then gs_a4 K l2 l6 x1 n x2 (x3 + 1) else gs_a4 K l2 l6 x1 n g (x3 + 1)))
theorem gs_a4_ok {post : Int32 → Prop} {K : Int32 → Bool} {l2 l6 : gs_L} {x1 : Int32} {a1 a2 a3 a4 a5 a6 : Nat → Int32} (h2 : gs_M l2 a2) (h6 : gs_M l6 a6) (hK : ∀ x, K x = true → post x) :
    ∀ (n : Nat) (x2 x3 : Int32), gs_a4 K l2 l6 x1 n x2 x3 = true → wX_standingApart_4 post x1 a1 a2 a3 a4 a5 a6 n x2 x3
  | 0, _, _, h => gs_ff h
  | n + 1, x2, x3, h => by
    refine gs_br h (fun h => ⟨13, gs_a58_ok h2 h6 hK 13 _ _ _ _ h⟩) (fun h => ?_)
    obtain ⟨v1, h⟩ := gs_rd_ok h2 (by decide) h
    obtain ⟨v2, h⟩ := gs_rd_ok h6 (by decide) h
    exact ⟨v1, v2, nm_e (gs_br h (fun h => nm_e (gs_a4_ok h2 h6 hK n _ _ h)) (fun h => nm_e (gs_a4_ok h2 h6 hK n _ _ h)))⟩
theorem gs_a_ok {post : Int32 → Prop} {K : Int32 → Bool} {l2 l6 : gs_L} {x1 : Int32} {a1 a2 a3 a4 a5 a6 : Nat → Int32} (h2 : gs_M l2 a2) (h6 : gs_M l6 a6) (h : gs_a4 K l2 l6 x1 13 (-1) 0 = true) (hK : ∀ x, K x = true → post x) : wpX_standingApart post (a1, a2, a3, a4, a5, a6) x1 :=
  ⟨13, gs_a4_ok h2 h6 hK 13 _ _ h⟩
/-! measure: the check says that it answers v -/
def gs_me (l1 : gs_L) (v : Int32) : Bool :=
  gs_lu l1 (fun l2 l3 l4 l5 l6 => gs_r6 (fun r => gs_g2 (fun m6 => gs_s6 (fun s => gs_a4 (fun t => decide ((6 - r) + t = v)) l2 m6 s 13 (-1) 0) l4 l5 m6 7 0 0 0) l4 l5 7 0 l6) l2 l3 13 0 0 0)
theorem gs_me_ok {post : Int32 → St2 → Prop} {l1 : gs_L} {v : Int32} {a1 a2 a3 a4 a5 a6 : Nat → Int32} (h1 : gs_M l1 a1) (h : gs_me l1 v = true) (hp : ∀ b2 b3 b4 b5 b6, post v (a1, b2, b3, b4, b5, b6)) : wpX_measure post (a1, a2, a3, a4, a5, a6) := by
  unfold wpX_measure
  refine gs_lu_ok h1 h (fun l2 l3 l4 l5 l6 b2 b3 b4 b5 b6 h2 h3 h4 h5 h6 h => ?_)
  refine gs_r_ok h2 h3 h (fun r h => ?_)
  refine gs_g_ok h4 h5 h6 h (fun m6 c6 hm6 h => ?_)
  refine gs_s_ok h4 h5 hm6 h (fun s h => ?_)
  refine gs_a_ok h2 hm6 h (fun t h => ?_)
  rw [of_decide_eq_true h]
  exact hp _ _ _ _ _
end
section
def gs_I : gs_L := [some 1, some 2, some 3, some 4, some 5]
theorem gs_me0 : gs_me gs_I 0 = true := by decide +kernel
/-- the row turned from i to j -/
def gs_T (i j : Nat) : gs_L := (List.range 5).map (fun k => some (if i ≤ k ∧ k ≤ j then -(nI (i + j - k + 1)) else nI (k + 1)))
def gs_tb (i j : Nat) : Bool := gs_tp5 (fun l => decide (l = gs_T i j)) 5 (nI i) (nI j) gs_I && gs_tp5 (fun l => decide (l = gs_I)) 5 (nI i) (nI j) (gs_T i j) && gs_me (gs_T i j) 1
theorem gs_t0 : ∀ j, j < 5 → gs_tb 0 j = true := by decide +kernel
theorem gs_t1 : ∀ j, j < 5 → 1 ≤ j → gs_tb 1 j = true := by decide +kernel
theorem gs_t2 : ∀ j, j < 5 → 2 ≤ j → gs_tb 2 j = true := by decide +kernel
theorem gs_t3 : ∀ j, j < 5 → 3 ≤ j → gs_tb 3 j = true := by decide +kernel
theorem gs_t4 : ∀ j, j < 5 → 4 ≤ j → gs_tb 4 j = true := by decide +kernel
theorem gs_t {i j : Nat} (hij : i ≤ j) (hj : j < 5) : gs_tb i j = true := by
  have hi : i = 0 ∨ i = 1 ∨ i = 2 ∨ i = 3 ∨ i = 4 := by omega
  rcases hi with e | e | e | e | e
  · subst e; exact gs_t0 j hj
  · subst e; exact gs_t1 j hj hij
  · subst e; exact gs_t2 j hj hij
  · subst e; exact gs_t3 j hj hij
  · subst e; exact gs_t4 j hj hij
end
section
theorem gs_da {post : Int32 → St2 → Prop} {a1 a2 a3 a4 a5 a6 : Nat → Int32} (h1 : gs_M gs_I a1) {i j : Nat} (hij : i ≤ j) (hj : j < 5) (hp : ∀ b1 b2 b3 b4 b5 b6, gs_M gs_I b1 → post 1 (b1, b2, b3, b4, b5, b6)) : wpX_distanceAfter post (a1, a2, a3, a4, a5, a6) (nI i) (nI j) := by
  have ht := gs_t hij hj
  unfold gs_tb at ht
  rw [Bool.and_eq_true, Bool.and_eq_true] at ht
  obtain ⟨⟨t1, t2⟩, t3⟩ := ht
  unfold wpX_distanceAfter
  refine br_f (nI_pos (by omega)) (br_f (nI_nlt hij (by omega)) (br_f (nI_ge (b := 5) hj (by decide)) (br_f (by decide) ?_)))
  refine ⟨5, gs_tp5_ok (fun l b hb e => ?_) 5 _ _ _ _ h1 t1⟩
  have hb' : gs_M (gs_T i j) b := by
    rw [of_decide_eq_true e] at hb
    exact hb
  refine gs_me_ok hb' t3 (fun b2 b3 b4 b5 b6 => ?_)
  refine ⟨5, gs_tp5_ok (fun l c hc e => ?_) 5 _ _ _ _ hb' t2⟩
  rw [of_decide_eq_true e] at hc
  exact hp _ _ _ _ _ _ hc
theorem gs_dn {post : Int32 → St2 → Prop} {a1 a2 a3 a4 a5 a6 : Nat → Int32} {p0 p1 : Int32} (hn : p0 < 0 ∨ p1 < p0 ∨ 4 < p1) (hp : post (-1) (a1, a2, a3, a4, a5, a6)) : wpX_distanceAfter post (a1, a2, a3, a4, a5, a6) p0 p1 := by
  unfold wpX_distanceAfter
  refine br_c (fun z => br_t rfl hp) (fun z1 => br_c (fun z => br_t rfl hp) (fun z2 => br_c (fun z => br_t rfl hp) (fun z3 => ?_)))
  exfalso
  rcases hn with z | z | z
  · exact z1 z
  · exact z2 z
  · rw [Int32.lt_iff_toInt_lt] at z
    rw [Int32.le_iff_toInt_le] at z3
    have e4 : (4 : Int32).toInt = 4 := by decide
    have e5 : (5 : Int32).toInt = 5 := by decide
    omega
theorem gs_fg14 {post : Int32 → St2 → Prop} {J7 : Int32 → (Nat → Int32) → (Nat → Int32) → (Nat → Int32) → (Nat → Int32) → (Nat → Int32) → (Nat → Int32) → Prop} {i : Nat} (hJ : ∀ b1 b2 b3 b4 b5 b6, gs_M gs_I b1 → J7 (nI (i + 1)) b1 b2 b3 b4 b5 b6) :
    ∀ (m k : Nat), k + m = 5 → i ≤ k → ∀ (a1 a2 a3 a4 a5 a6 : Nat → Int32), gs_M gs_I a1 → wX_firstGood_14 post J7 0 (nI i) (m + 1) (nI k) a1 a2 a3 a4 a5 a6
  | 0, k, hk, hik, a1, a2, a3, a4, a5, a6, h1 => pk_le 5 k (fun _ => nm_r (nI_1 i) (hJ _ _ _ _ _ _ h1)) (fun z => absurd z (by omega))
  | m + 1, k, hk, hik, a1, a2, a3, a4, a5, a6, h1 => pk_le 5 k (fun z => absurd z (by omega)) (fun z => gs_da h1 hik z (fun b1 b2 b3 b4 b5 b6 hb => br_t (by decide) (nm_r (nI_1 k) (gs_fg14 hJ m (k + 1) (by omega) (by omega) _ _ _ _ _ _ hb))))
theorem gs_fg7 {post : Int32 → St2 → Prop} (hp : ∀ b1 b2 b3 b4 b5 b6, gs_M gs_I b1 → post (-1) (b1, b2, b3, b4, b5, b6)) :
    ∀ (m i : Nat), i + m = 5 → ∀ (a1 a2 a3 a4 a5 a6 : Nat → Int32), gs_M gs_I a1 → wX_firstGood_7 post 0 (m + 1) (nI i) a1 a2 a3 a4 a5 a6
  | 0, i, hi, a1, a2, a3, a4, a5, a6, h1 => pk_le 5 i (fun _ => hp _ _ _ _ _ _ h1) (fun z => absurd z (by omega))
  | m + 1, i, hi, a1, a2, a3, a4, a5, a6, h1 => pk_le 5 i (fun z => absurd z (by omega)) (fun z => ⟨m + 1 + 1, gs_fg14 (fun b1 b2 b3 b4 b5 b6 hb => gs_fg7 hp m (i + 1) (by omega) _ _ _ _ _ _ hb) (m + 1) i hi (Nat.le_refl i) _ _ _ _ _ _ h1⟩)
theorem gs_fg {post : Int32 → St2 → Prop} {a1 a2 a3 a4 a5 a6 : Nat → Int32} (h1 : gs_M gs_I a1) (hp : ∀ b1 b2 b3 b4 b5 b6, gs_M gs_I b1 → post (-1) (b1, b2, b3, b4, b5, b6)) : wpX_firstGood post (a1, a2, a3, a4, a5, a6) := by
  unfold wpX_firstGood
  exact gs_me_ok h1 gs_me0 (fun b2 b3 b4 b5 b6 => ⟨6, gs_fg7 hp 5 0 rfl _ _ _ _ _ _ h1⟩)
theorem gs_so4 {post : Int32 → St2 → Prop} {x1 : Int32} (hp : ∀ b1 b2 b3 b4 b5 b6, gs_M gs_I b1 → post 0 (b1, b2, b3, b4, b5, b6)) :
    ∀ (m k : Nat), k + m = 9 → ∀ (a1 a2 a3 a4 a5 a6 : Nat → Int32), gs_M gs_I a1 → wX_sort_4 post x1 (m + 1) 0 (nI k) a1 a2 a3 a4 a5 a6
  | 0, k, hk, a1, a2, a3, a4, a5, a6, h1 => br_c (fun _ => hp _ _ _ _ _ _ h1) (fun _ => pk_le 9 k (fun _ => hp _ _ _ _ _ _ h1) (fun z => absurd z (by omega)))
  | m + 1, k, hk, a1, a2, a3, a4, a5, a6, h1 => br_c (fun _ => hp _ _ _ _ _ _ h1) (fun _ => pk_le 9 k (fun z => absurd z (by omega)) (fun z => gs_fg h1 (fun b1 b2 b3 b4 b5 b6 hb => br_t (by decide) (nm_r (nI_1 k) (gs_so4 hp m (k + 1) (by omega) _ _ _ _ _ _ hb)))))
theorem gs_so {post : Int32 → St2 → Prop} {a1 a2 a3 a4 a5 a6 : Nat → Int32} {x1 : Int32} (h1 : gs_M gs_I a1) (hp : ∀ b1 b2 b3 b4 b5 b6, gs_M gs_I b1 → post 0 (b1, b2, b3, b4, b5, b6)) : wpX_sort post (a1, a2, a3, a4, a5, a6) x1 :=
  ⟨10, gs_so4 hp 9 0 rfl _ _ _ _ _ _ h1⟩
/-! the row just made -/
def gs_in (K : gs_L → Bool) : Nat → Int32 → gs_L → Bool
  | 0 => fun _ _ => false
  | n + 1 => fun x1 l => if 5 ≤ x1 then K l else gs_wr l x1 5 ((x1 + 1).toInt8.toInt32) (fun l => gs_in K n (x1 + 1) l)
theorem gs_in_ok {post : St2 → Prop} {mc ms kc ks : Nat} {K : gs_L → Bool} {a2 a3 a4 a5 a6 : Nat → Int32} (hK : ∀ l a, gs_M l a → K l = true → post (a, a2, a3, a4, a5, a6)) :
    ∀ (n : Nat) (x1 : Int32) (l : gs_L) (a : Nat → Int32), gs_M l a → gs_in K n x1 l = true → wX_init_53 post mc ms kc ks n x1 a a2 a3 a4 a5 a6
  | 0, _, _, _, _, h => gs_ff h
  | n + 1, x1, l, a, hM, h => by
    refine gs_br h (fun h => hK _ _ hM h) (fun h => ?_)
    obtain ⟨v, l', hM', h⟩ := gs_wr_ok hM (by decide) h
    exact ⟨v, nm_e (nm_e (gs_in_ok hK n _ _ _ hM' h))⟩
theorem gs_in0 : gs_in (fun l => decide (l = gs_I)) 6 0 gs_U5 = true := by decide +kernel
theorem gs_init {post : St2 → Prop} (hp : ∀ b1 b2 b3 b4 b5 b6, gs_M gs_I b1 → post (b1, b2, b3, b4, b5, b6)) : wpX_init post 6 47 () := by
  refine ⟨by decide, by decide, by decide, by decide, by decide, by decide, by decide, by decide, by decide, by decide, by decide, by decide, 6, ?_⟩
  refine gs_in_ok (fun l a hM e => hp _ _ _ _ _ _ ?_) 6 0 _ _ (gs_MU5 _) gs_in0
  rw [of_decide_eq_true e] at hM
  exact hM
/-! code and at -/
def gs_cd (v0 v1 v2 v3 v4 : Int32) : Int32 := 11 * (11 * (11 * (11 * (11 * 0 + v4 + 5) + v3 + 5) + v2 + 5) + v1 + 5) + v0 + 5
theorem gs_code {post : Int32 → Prop} {a1 a2 a3 a4 a5 a6 : Nat → Int32} (h : post (gs_cd (a1 0) (a1 1) (a1 2) (a1 3) (a1 4))) : wpX_code post (a1, a2, a3, a4, a5, a6) := by
  refine ⟨6, ?_⟩
  refine br_f (by decide) ⟨pk_in 4 5 (by decide), nm_r (e' := 11 * 0 + a1 4 + 5) rfl (nm_r (e' := 3) (by decide) ?_)⟩
  refine br_f (by decide) ⟨pk_in 3 5 (by decide), nm_r (e' := 11 * (11 * 0 + a1 4 + 5) + a1 3 + 5) rfl (nm_r (e' := 2) (by decide) ?_)⟩
  refine br_f (by decide) ⟨pk_in 2 5 (by decide), nm_r (e' := 11 * (11 * (11 * 0 + a1 4 + 5) + a1 3 + 5) + a1 2 + 5) rfl (nm_r (e' := 1) (by decide) ?_)⟩
  refine br_f (by decide) ⟨pk_in 1 5 (by decide), nm_r (e' := 11 * (11 * (11 * (11 * 0 + a1 4 + 5) + a1 3 + 5) + a1 2 + 5) + a1 1 + 5) rfl (nm_r (e' := 0) (by decide) ?_)⟩
  refine br_f (by decide) ⟨pk_in 0 5 (by decide), nm_r (e' := gs_cd (a1 0) (a1 1) (a1 2) (a1 3) (a1 4)) rfl (nm_r (e' := -1) (by decide) ?_)⟩
  exact br_t (by decide) h
theorem gs_Iv {a : Nat → Int32} (h : gs_M gs_I a) : a 0 = 1 ∧ a 1 = 2 ∧ a 2 = 3 ∧ a 3 = 4 ∧ a 4 = 5 := ⟨h 0 1 rfl, h 1 2 rfl, h 2 3 rfl, h 3 4 rfl, h 4 5 rfl⟩
theorem gs_codeI {post : Int32 → Prop} {a1 a2 a3 a4 a5 a6 : Nat → Int32} (h1 : gs_M gs_I a1) (h : post 159440) : wpX_code post (a1, a2, a3, a4, a5, a6) := by
  refine gs_code ?_
  obtain ⟨e0, e1, e2, e3, e4⟩ := gs_Iv h1
  rw [e0, e1, e2, e3, e4, show gs_cd 1 2 3 4 5 = 159440 by decide +kernel]
  exact h
theorem gs_atI {post : Int32 → Prop} {a1 a2 a3 a4 a5 a6 : Nat → Int32} (h1 : gs_M gs_I a1) {p : Nat} (hp : p < 5) (h : post (nI p + 1)) : wpX_at post (a1, a2, a3, a4, a5, a6) (nI p) := by
  refine br_f (nI_pos (by omega)) (br_f (nI_ge (b := 5) hp (by decide)) (br_f (by decide) ⟨vp_in_nI hp (by decide), ?_⟩))
  rw [nI_clamp (by omega)]
  have e : a1 p = nI p + 1 := by
    obtain ⟨e0, e1, e2, e3, e4⟩ := gs_Iv h1
    have hq : p = 0 ∨ p = 1 ∨ p = 2 ∨ p = 3 ∨ p = 4 := by omega
    rcases hq with z | z | z | z | z
    · subst z; rw [e0]; decide
    · subst z; rw [e1]; decide
    · subst z; rw [e2]; decide
    · subst z; rw [e3]; decide
    · subst z; rw [e4]; decide
  rw [e]
  exact h
theorem gs_atN {post : Int32 → Prop} {a1 a2 a3 a4 a5 a6 : Nat → Int32} {p : Int32} (hn : p < 0 ∨ 4 < p) (h : post 0) : wpX_at post (a1, a2, a3, a4, a5, a6) p := by
  refine br_c (fun z => br_t rfl h) (fun z1 => br_c (fun z => br_t rfl h) (fun z3 => ?_))
  exfalso
  rcases hn with z | z
  · exact z1 z
  · rw [Int32.lt_iff_toInt_lt] at z
    rw [Int32.le_iff_toInt_le] at z3
    have e4 : (4 : Int32).toInt = 4 := by decide
    have e5 : (5 : Int32).toInt = 5 := by decide
    omega
end
section
/-! the digits of a code: what is left after k of them, the sizes seen in them, the marker that the k-th stands for -/
def gs_D : Nat → Int32 → Int32
  | 0, l => l
  | k + 1, l => gs_D k l / 11
def gs_dm (l : Int32) : Int32 := (l - l / 11 * 11) - 5
def gs_sn (s l : Int32) : Int32 := s ||| ((1 : Int32) <<< ((if 0 ≤ gs_dm l then gs_dm l else -gs_dm l) &&& 31))
def gs_S : Nat → Int32 → Int32
  | 0, _ => 0
  | k + 1, l => gs_sn (gs_S k l) (gs_D k l)
def gs_v (k : Nat) (l : Int32) : Int32 := (gs_dm (gs_D k l)).toInt8.toInt32
def gs_row (x : Int32) : Prop := ¬ x < 0 ∧ gs_D 5 x = 0 ∧ gs_S 5 x = 62
theorem gs_sp {l s : Int32} (z : 0 ≤ gs_dm l) : s ||| ((1 : Int32) <<< (gs_dm l &&& 31)) = gs_sn s l := by
  unfold gs_sn
  rw [if_pos z]
theorem gs_sm {l s : Int32} (z : ¬ 0 ≤ gs_dm l) : s ||| ((1 : Int32) <<< (-gs_dm l &&& 31)) = gs_sn s l := by
  unfold gs_sn
  rw [if_neg z]
theorem gs_byte : ∀ r, r < 11 → (nI r - 5).toInt8.toInt32 = nI r - 5 := by decide +kernel
theorem gs_5 (x y : Int32) : x + (y - 5) + 5 = x + y := by grind
theorem gs_h {y : Int32} (h : ¬ y < 0) : 11 * (y / 11) + (gs_dm y).toInt8.toInt32 + 5 = y := by
  obtain ⟨c, hc, rfl⟩ := nI_of h
  unfold gs_dm
  have e11 : (11 : Int32) = nI 11 := by rfl
  have er : nI c - nI c / 11 * 11 = nI (c % 11) := by
    rw [e11]
    exact pk_rem hc (by decide) (by decide)
  have ed : nI c / 11 = nI (c / 11) := by
    rw [e11]
    exact pk_div hc (by decide) (by decide)
  rw [er, gs_byte _ (Nat.mod_lt c (by decide)), gs_5, ed, e11, pk_mul, nI_add, Nat.div_add_mod]
theorem gs_d11 {y : Int32} (h : ¬ y < 0) : ¬ y / 11 < 0 := by
  obtain ⟨c, hc, rfl⟩ := nI_of h
  have ed : nI c / 11 = nI (c / 11) := by
    rw [show (11 : Int32) = nI 11 by rfl]
    exact pk_div hc (by decide) (by decide)
  rw [ed]
  exact nI_pos (by omega)
theorem gs_Dn {x : Int32} (h : ¬ x < 0) : ∀ k, ¬ gs_D k x < 0
  | 0 => h
  | k + 1 => gs_d11 (gs_Dn h k)
theorem gs_back {x : Int32} (h : gs_row x) : gs_cd (gs_v 0 x) (gs_v 1 x) (gs_v 2 x) (gs_v 3 x) (gs_v 4 x) = x := by
  obtain ⟨h0, h5, _⟩ := h
  have s4 : 11 * gs_D 5 x + gs_v 4 x + 5 = gs_D 4 x := gs_h (gs_Dn h0 4)
  have s3 : 11 * gs_D 4 x + gs_v 3 x + 5 = gs_D 3 x := gs_h (gs_Dn h0 3)
  have s2 : 11 * gs_D 3 x + gs_v 2 x + 5 = gs_D 2 x := gs_h (gs_Dn h0 2)
  have s1 : 11 * gs_D 2 x + gs_v 1 x + 5 = gs_D 1 x := gs_h (gs_Dn h0 1)
  have s0 : 11 * gs_D 1 x + gs_v 0 x + 5 = gs_D 0 x := gs_h (gs_Dn h0 0)
  rw [h5] at s4
  unfold gs_cd
  rw [s4, s3, s2, s1, s0]
  rfl
theorem gs_71 {post : Int32 → St2 → Prop} {x : Int32} {a2 a3 a4 a5 a6 : Nat → Int32} (hp : ∀ b1, (∀ j, j < 5 → b1 j = gs_v j x) → post 1 (b1, a2, a3, a4, a5, a6)) :
    ∀ (m k : Nat), k + m = 5 → ∀ a1 : Nat → Int32, (∀ j, j < k → a1 j = gs_v j x) → wX_load_71 post (m + 1) (gs_D k x) (nI k) a1 a2 a3 a4 a5 a6
  | 0, k, hk, a1, h => pk_le 5 k (fun _ => hp a1 (fun j hj => h j (by omega))) (fun z => absurd z (by omega))
  | m + 1, k, hk, a1, h => by
    refine pk_le 5 k (fun z => absurd z (by omega)) (fun z => ⟨by decide, vp_in_nI z (by decide), nm_r (e' := upd a1 k (gs_v k x)) (by rw [nI_clamp (by omega)]; rfl) ⟨by decide, nm_r (e' := gs_D (k + 1) x) rfl (nm_r (nI_1 k) (gs_71 hp m (k + 1) (by omega) _ (fun j hj => ?_)))⟩⟩)
    by_cases e : j = k
    · rw [e, pk_us]
    · rw [pk_un e]
      exact h j (by omega)
theorem gs_15 {post : Int32 → St2 → Prop} {x1 l : Int32} {a1 a2 a3 a4 a5 a6 : Nat → Int32} (h0 : ¬ (¬ x1 < 0 ∧ gs_D 5 l = 0 ∧ gs_S 5 l = 62) → post 0 (a1, a2, a3, a4, a5, a6)) (h1 : ¬ x1 < 0 → gs_D 5 l = 0 → gs_S 5 l = 62 → ∃ fu, wX_load_71 post fu x1 0 a1 a2 a3 a4 a5 a6) :
    ∀ (m k : Nat), k + m = 5 → wX_load_15 post x1 a1 a2 a3 a4 a5 a6 (m + 1) (gs_S k l) (gs_D k l) (nI k)
  | 0, k, hk => by
    have e : k = 5 := by omega
    subst e
    exact pk_le 5 5 (fun _ => br_c (fun z => h0 (fun t => t.1 z)) (fun z1 => br_c (fun z2 => br_c (fun z3 => h1 z1 z2 z3) (fun z3 => h0 (fun t => z3 t.2.2))) (fun z2 => h0 (fun t => z2 t.2.1)))) (fun z => absurd z (by omega))
  | m + 1, k, hk => by
    refine pk_le 5 k (fun z => absurd z (by omega)) (fun z => ⟨by decide, ?_⟩)
    refine br_c (fun z => ?_) (fun z => ?_)
    · exact nm_r (e' := gs_S (k + 1) l) (gs_sp z) ⟨by decide, nm_r (e' := gs_D (k + 1) l) rfl (nm_r (nI_1 k) (gs_15 h0 h1 m (k + 1) (by omega)))⟩
    · exact nm_r (e' := gs_S (k + 1) l) (gs_sm z) ⟨by decide, nm_r (e' := gs_D (k + 1) l) rfl (nm_r (nI_1 k) (gs_15 h0 h1 m (k + 1) (by omega)))⟩
theorem gs_neg {x : Int32} (h : ¬ 0 ≤ x) : x < 0 := by
  rw [Int32.le_iff_toInt_le] at h
  rw [Int32.lt_iff_toInt_lt]
  omega
theorem gs_load {post : Int32 → St2 → Prop} {x : Int32} {a1 a2 a3 a4 a5 a6 : Nat → Int32} (h0 : ¬ gs_row x → post 0 (a1, a2, a3, a4, a5, a6)) (h1 : gs_row x → ∀ b1, (∀ j, j < 5 → b1 j = gs_v j x) → post 1 (b1, a2, a3, a4, a5, a6)) : wpX_load post (a1, a2, a3, a4, a5, a6) x := by
  refine br_c (fun z => ⟨6, ?_⟩) (fun z => ⟨6, ?_⟩)
  · exact gs_15 (l := x) h0 (fun z1 z2 z3 => ⟨6, gs_71 (fun b1 hb => h1 ⟨z1, z2, z3⟩ b1 hb) 5 0 rfl a1 (fun j hj => absurd hj (by omega))⟩) 5 0 rfl
  · exact gs_15 (l := 0) (fun _ => h0 (fun t => t.1 (gs_neg z))) (fun z1 _ _ => absurd (gs_neg z) z1) 5 0 rfl
end
section
theorem gs_177 {post : Int32 → St0 → Prop} {mc ms kc ks : Nat} {x0 : Int32} {a1 a2 a3 a4 a5 a6 : Nat → Int32} (h1 : gs_M gs_I a1) (hp : post 1 ()) (hr : ¬ gs_row x0) : wL_lawOf_177 post mc ms x0 kc ks a1 a2 a3 a4 a5 a6 :=
  br_t rfl (gs_load (fun _ => br_t rfl (gs_codeI h1 (br_t rfl hp))) (fun t => absurd t hr))
theorem gs_178 {post : Int32 → St0 → Prop} {mc ms kc ks : Nat} {x0 : Int32} {a1 a2 a3 a4 a5 a6 : Nat → Int32} (hp : post 1 ()) (hr : gs_row x0) : wL_lawOf_178 post mc ms x0 1 kc ks a1 a2 a3 a4 a5 a6 := by
  refine br_f (by decide) (gs_load (fun t => absurd hr t) (fun _ b1 hb => br_t rfl (gs_code ?_)))
  rw [hb 0 (by decide), hb 1 (by decide), hb 2 (by decide), hb 3 (by decide), hb 4 (by decide), gs_back hr]
  exact br_t rfl hp
theorem gs_L109 {post : Int32 → St0 → Prop} {mc ms kc ks : Nat} {x0 l : Int32} {a1 a2 a3 a4 a5 a6 : Nat → Int32} (h0 : ¬ (¬ x0 < 0 ∧ gs_D 5 l = 0 ∧ gs_S 5 l = 62) → wL_lawOf_177 post mc ms x0 kc ks a1 a2 a3 a4 a5 a6) (h1 : ¬ x0 < 0 → gs_D 5 l = 0 → gs_S 5 l = 62 → wL_lawOf_178 post mc ms x0 1 kc ks a1 a2 a3 a4 a5 a6) :
    ∀ (m k : Nat), k + m = 5 → wL_lawOf_109 post mc ms x0 kc ks a1 a2 a3 a4 a5 a6 (m + 1) (gs_S k l) (gs_D k l) (nI k)
  | 0, k, hk => by
    have e : k = 5 := by omega
    subst e
    exact pk_le 5 5 (fun _ => br_c (fun z => h0 (fun t => t.1 z)) (fun z1 => br_c (fun z2 => br_c (fun z3 => h1 z1 z2 z3) (fun z3 => h0 (fun t => z3 t.2.2))) (fun z2 => h0 (fun t => z2 t.2.1)))) (fun z => absurd z (by omega))
  | m + 1, k, hk => by
    refine pk_le 5 k (fun z => absurd z (by omega)) (fun z => ⟨by decide, nm_r (e' := gs_dm (gs_D k l)) rfl ?_⟩)
    refine br_c (fun z => ?_) (fun z => ?_)
    · exact nm_r (e' := gs_S (k + 1) l) (gs_sp z) ⟨by decide, nm_r (e' := gs_D (k + 1) l) rfl (nm_r (nI_1 k) (gs_L109 h0 h1 m (k + 1) (by omega)))⟩
    · exact nm_r (e' := gs_S (k + 1) l) (gs_sm z) ⟨by decide, nm_r (e' := gs_D (k + 1) l) rfl (nm_r (nI_1 k) (gs_L109 h0 h1 m (k + 1) (by omega)))⟩
theorem gs_46 {post : Int32 → St0 → Prop} {mc ms kc ks : Nat} {x0 x1 x2 x3 x5 z0 : Int32} {a1 a2 a3 a4 a5 a6 : Nat → Int32} (h1 : gs_M gs_I a1) (hp : post 1 ())
    (ha : ∀ P : Int32 → Prop, P z0 → wpX_at P (a1, a2, a3, a4, a5, a6) x3)
    (hd : ∀ P : Int32 → St2 → Prop, (∀ b1 b2 b3 b4 b5 b6, gs_M gs_I b1 → P x5 (b1, b2, b3, b4, b5, b6)) → wpX_distanceAfter P (a1, a2, a3, a4, a5, a6) x1 x2) :
    wL_lawOf_46 post mc ms x0 x1 x2 x3 x5 z0 kc ks a1 a2 a3 a4 a5 a6 := by
  unfold wL_lawOf_46
  refine gs_codeI h1 (br_t rfl (ha _ (br_t rfl (hd _ (fun b1 b2 b3 b4 b5 b6 hb => br_t rfl (gs_so hb (fun c1 c2 c3 c4 c5 c6 hc => br_t rfl ?_)))))))
  refine br_c (fun z => ⟨6, ?_⟩) (fun z => ⟨6, ?_⟩)
  · exact gs_L109 (l := x0) (fun t => gs_177 hc hp t) (fun z1 z2 z3 => gs_178 hp ⟨z1, z2, z3⟩) 5 0 rfl
  · exact gs_L109 (l := 0) (fun _ => gs_177 hc hp (fun t => t.1 (gs_neg z))) (fun z1 _ _ => absurd (gs_neg z) z1) 5 0 rfl
theorem gs_n4 {x : Int32} (h : ¬ x < 0) (h4 : ¬ 4 < x) : ∃ j : Nat, j < 5 ∧ x = nI j := by
  obtain ⟨j, hj, rfl⟩ := nI_of h
  refine ⟨j, ?_, rfl⟩
  rcases Nat.lt_or_ge j 5 with z | z
  · exact z
  · exact absurd (nI_lt (a := 4) (b := j) (by omega) hj) h4
theorem gs_28 {post : Int32 → St0 → Prop} {mc ms kc ks : Nat} {x0 x1 x2 x3 x5 : Int32} {a1 a2 a3 a4 a5 a6 : Nat → Int32} (h1 : gs_M gs_I a1) (hp : post 1 ())
    (hd : ∀ P : Int32 → St2 → Prop, (∀ b1 b2 b3 b4 b5 b6, gs_M gs_I b1 → P x5 (b1, b2, b3, b4, b5, b6)) → wpX_distanceAfter P (a1, a2, a3, a4, a5, a6) x1 x2) :
    wL_lawOf_28 post mc ms x0 x1 x2 x3 x5 kc ks a1 a2 a3 a4 a5 a6 := by
  refine br_c (fun z => gs_46 h1 hp (fun P h => gs_atN (Or.inl z) h) hd) (fun z1 => br_c (fun z => gs_46 h1 hp (fun P h => gs_atN (Or.inr z) h) hd) (fun z2 => ?_))
  obtain ⟨p, hp5, rfl⟩ := gs_n4 z1 z2
  exact gs_46 h1 hp (fun P h => gs_atI h1 hp5 h) hd
theorem gs_lawOf {post : Int32 → St0 → Prop} (p0 p1 p2 p3 : Int32) (hp : post 1 ()) : wpL_lawOf post 7 53 () p0 p1 p2 p3 := by
  refine ⟨by decide, by decide, 6, 47, by decide, by decide, gs_init (fun b1 b2 b3 b4 b5 b6 hb => ?_)⟩
  refine br_c (fun z => gs_28 hb hp (fun P h => gs_dn (Or.inl z) (h _ _ _ _ _ _ hb))) (fun z1 => ?_)
  refine br_c (fun z => gs_28 hb hp (fun P h => gs_dn (Or.inr (Or.inl z)) (h _ _ _ _ _ _ hb))) (fun z2 => ?_)
  refine br_c (fun z => gs_28 hb hp (fun P h => gs_dn (Or.inr (Or.inr z)) (h _ _ _ _ _ _ hb))) (fun z3 => ?_)
  have z4 : ¬ p2 < 0 := by
    rw [Int32.lt_iff_toInt_lt] at z1 z2 ⊢
    omega
  obtain ⟨i, hi, rfl⟩ : ∃ i : Nat, i < 2 ^ 31 ∧ p1 = nI i := nI_of z1
  obtain ⟨j, hj, rfl⟩ := gs_n4 z4 z3
  have hij : i ≤ j := by
    rcases Nat.lt_or_ge j i with z | z
    · exact absurd (nI_lt z hi) z2
    · exact z
  exact gs_28 hb hp (fun P h => gs_da hb hij hj h)
theorem gs_cell {post : Int32 → Prop} {L : Nat} {xs : Nat → Int32} (hL : L ≤ 4) (k : Nat) (hk : k < 4) (h : ∀ v, post v) : wpL_cellAt post L xs () (nI k) :=
  pk_le L k (fun _ => h _) (fun z => ⟨vp_in_nI z (by omega), h _⟩)
theorem i_vc (xs : Nat → Int32) (L : Nat) (hL : L ≤ 4) : wpL_law (fun r => r = 1) L xs := by
  unfold wpL_law
  exact gs_cell hL 0 (by decide) (fun v0 => gs_cell hL 1 (by decide) (fun v1 => gs_cell hL 2 (by decide) (fun v2 => gs_cell hL 3 (by decide) (fun v3 => ⟨7, 53, by decide, by decide, gs_lawOf v0 v1 v2 v3 rfl⟩))))
end
