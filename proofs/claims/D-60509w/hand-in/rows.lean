section
/-! PURE: the methods as programs over a state of numbered int tables (generated from the decode rows by gen/walk.py); 'none' stands for an index out of range or fuel run out -/
abbrev KSt : Type := Nat → Nat → Int32
abbrev kt_ix (x : Int32) : Nat := x.toNatClampNeg
def kt_st (σ : KSt) (k i : Nat) (x : Int32) : KSt := fun k' => bif Nat.beq k' k then upd (σ k) i x else σ k'
def kt_chk {α : Type} (i : Int32) (n : Nat) (k : Option α) : Option α := if i < 0 ∨ n ≤ i.toNatClampNeg then none else k
def kt_chkB {α : Type} (v : Int32) (k : Option α) : Option α := if v = 0 ∨ v = 1 then k else none
def kt_chkD {α : Type} (v : Int32) (k : Option α) : Option α := if v = 0 then none else k
def kt_nm {α : Type} (x : Int32) (k : Int32 → Option α) : Option α := k x
def kt_sel {α β : Type} (a : Int32 ⊕ α) (f : Int32 → Option β) (g : α → Option β) : Option β := match a with
  | .inl v => f v
  | .inr r => g r
abbrev kt_shl (x y : Int32) : Int32 := x <<< (y &&& 31)
abbrev kt_ushr (x y : Int32) : Int32 := (x.toUInt32 >>> (y.toUInt32 &&& Int32.toUInt32 31)).toInt32
abbrev kt_bo (x : Int32) : Int32 := vp_nar .boolean x
theorem kt_chk_some {α : Type} {i : Int32} {n : Nat} {k : Option α} {r : α} (h : kt_chk i n k = some r) : vp_in i n ∧ k = some r := by
  unfold kt_chk at h
  split at h
  · cases h
  · exact ⟨‹_›, h⟩
theorem kt_chkB_some {α : Type} {v : Int32} {k : Option α} {r : α} (h : kt_chkB v k = some r) : (v = 0 ∨ v = 1) ∧ k = some r := by
  unfold kt_chkB at h
  split at h
  · exact ⟨‹_›, h⟩
  · cases h
theorem kt_chkD_some {α : Type} {v : Int32} {k : Option α} {r : α} (h : kt_chkD v k = some r) : (¬ v = 0) ∧ k = some r := by
  unfold kt_chkD at h
  split at h
  · cases h
  · exact ⟨‹_›, h⟩
theorem kt_nm_at {α : Type} {x y : Int32} {k : Int32 → Option α} {r : α} (e : y = x) (h : kt_nm x k = some r) : k y = some r := by
  subst e
  exact h
theorem kt_bnd {α β : Type} {x : Option α} {f : α → Option β} {r : β} (h : x.bind f = some r) : ∃ a, x = some a ∧ f a = some r := by
  cases x with
  | none => cases h
  | some a => exact ⟨a, rfl, h⟩
theorem kt_ift {α : Type} {c : Prop} {_ : Decidable c} {a b : Option α} {r : α} (hc : c) (h : (if c then a else b) = some r) : a = some r := by
  rw [if_pos hc] at h
  exact h
theorem kt_iff {α : Type} {c : Prop} {_ : Decidable c} {a b : Option α} {r : α} (hc : ¬ c) (h : (if c then a else b) = some r) : b = some r := by
  rw [if_neg hc] at h
  exact h
theorem kt_sel_r {α β : Type} {z : α} {f : Int32 → Option β} {g : α → Option β} {r : β} (h : kt_sel (.inr z) f g = some r) : g z = some r := h
theorem kt_sel_l {α β : Type} {v : Int32} {f : Int32 → Option β} {g : α → Option β} {r : β} (h : kt_sel (.inl v) f g = some r) : f v = some r := h
-- KeepTree.isObject(I)Z
def k_isObject (x0 : Int32) : Option (Int32) :=
  if x0 < 0 then
    some 0
  else
    if 15 < x0 then
      some 0
    else
      some 1
-- KeepTree.setSize(II)I
def k_setSize (σ : KSt) (x1 x2 : Int32) : Option (Int32 × KSt) :=
  (k_isObject x1).bind fun a1 =>
  if a1 = 0 then
    some ((-2), σ)
  else
    kt_chk x1 17 <|
    kt_nm (σ 0 (kt_ix x1)) fun y5 =>
    if 0 ≤ x2 then
      if x2 ≤ 1000 then
        kt_chk x1 17 <|
        some (y5, kt_st (kt_st σ 0 ((kt_ix x1)) x2) 3 0 0)
      else
        kt_chk x1 17 <|
        some (y5, kt_st (kt_st σ 0 ((kt_ix x1)) 1000) 3 0 0)
    else
      kt_chk x1 17 <|
      some (y5, kt_st (kt_st σ 0 ((kt_ix x1)) 0) 3 0 0)
-- KeepTree.flip(II)I
def k_flip (σ : KSt) (x1 x2 : Int32) : Option (Int32 × KSt) :=
  (k_isObject x1).bind fun a1 =>
  if a1 = 0 then
    some ((-2), σ)
  else
    (k_isObject x2).bind fun a4 =>
    if a4 = 0 then
      some ((-2), σ)
    else
      kt_chk x1 17 <|
      kt_nm ((σ 1 (kt_ix x1)) ^^^ (kt_shl 1 x2)) fun y8 =>
      kt_chk x1 17 <|
      kt_chk x1 17 <|
      some ((kt_ushr ((kt_st σ 1 ((kt_ix x1)) y8) 1 (kt_ix x1)) x2) &&& 1, kt_st (kt_st σ 1 ((kt_ix x1)) y8) 3 0 0)
-- KeepTree.setRoot(IZ)I
def k_setRoot (σ : KSt) (x1 x2 : Int32) : Option (Int32 × KSt) :=
  (k_isObject x1).bind fun a1 =>
  if a1 = 0 then
    some ((-2), σ)
  else
    kt_nm ((kt_ushr (σ 2 0) x1) &&& 1) fun y4 =>
    if x2 = 0 then
      kt_nm ((σ 2 0) &&& ((kt_shl 1 x1) ^^^ (-1))) fun y7 =>
      some (y4, kt_st (kt_st σ 2 0 y7) 3 0 0)
    else
      kt_nm ((σ 2 0) ||| (kt_shl 1 x1)) fun y9 =>
      some (y4, kt_st (kt_st σ 2 0 y9) 3 0 0)
-- KeepTree.visit(I)V
def k_visit (σ : KSt) (x1 : Int32) : Option (KSt) :=
  kt_nm (σ 4 0) fun y1 =>
  kt_chk x1 17 <|
  kt_chk (σ 4 0) 17 <|
  kt_nm ((σ 4 0) + 1) fun y5 =>
  some (kt_st (kt_st (kt_st σ 5 ((kt_ix x1)) y1) 6 ((kt_ix (σ 4 0))) x1) 4 0 y5)
-- KeepTree.lowestOf(I)I
def k_lowestOf_2 (x0 : Int32) : Nat → Int32 → Option (Int32 ⊕ (Int32))
  | 0, _ => none
  | n + 1, x1 =>
    if 16 ≤ x1 then
      some (.inr x1)
    else
      if ((kt_ushr x0 x1) &&& 1) = 0 then
        k_lowestOf_2 x0 n (x1 + 1)
      else
        some (.inl x1)
def k_lowestOf (N : Nat) (x0 : Int32) : Option (Int32) :=
  (k_lowestOf_2 x0 N 0).bind fun a1 => kt_sel a1 (fun rv => some rv) fun r3 =>
    some (-1)
-- KeepTree.numberVertices()V
def k_numberVertices_64 (N : Nat) : Nat → Int32 → Int32 → KSt → Option (Int32 × Int32 × KSt)
  | 0, _, _, _ => none
  | n + 1, x1, x2, σ =>
    if 400 ≤ x2 then
      some (x1, x2, σ)
    else
      if x1 ≤ 0 then
        some (x1, x2, σ)
      else
        kt_chk (x1 - 1) 18 <|
        kt_nm (σ 8 (kt_ix (x1 - 1))) fun y4 =>
        kt_chk (x1 - 1) 18 <|
        (k_lowestOf N (σ 9 (kt_ix (x1 - 1)))).bind fun a7 =>
        if 0 ≤ a7 then
          kt_chk (x1 - 1) 18 <|
          kt_nm ((σ 9 (kt_ix (x1 - 1))) &&& ((kt_shl 1 a7) ^^^ (-1))) fun y11 =>
          kt_chk (x1 - 1) 18 <|
          kt_chk a7 17 <|
          if 0 ≤ (σ 5 (kt_ix a7)) then
            k_numberVertices_64 N n x1 (x2 + 1) (kt_st σ 9 ((kt_ix (x1 - 1))) y11)
          else
            kt_chk y4 17 <|
            kt_nm (σ 5 (kt_ix y4)) fun y17 =>
            kt_chk (σ 4 0) 17 <|
            (k_visit (kt_st (kt_st σ 9 ((kt_ix (x1 - 1))) y11) 7 ((kt_ix (σ 4 0))) y17) a7).bind fun a20 =>
            kt_chk x1 18 <|
            kt_chk a7 17 <|
            kt_nm (a20 1 (kt_ix a7)) fun y24 =>
            kt_chk x1 18 <|
            k_numberVertices_64 N n (x1 + 1) (x2 + 1) (kt_st (kt_st a20 8 ((kt_ix x1)) a7) 9 ((kt_ix x1)) y24)
        else
          k_numberVertices_64 N n (x1 + (-1)) (x2 + 1) σ
def k_numberVertices_2 : Nat → Int32 → KSt → Option (Int32 × KSt)
  | 0, _, _ => none
  | n + 1, x1, σ =>
    if 17 ≤ x1 then
      some (x1, σ)
    else
      kt_chk x1 17 <|
      kt_chk x1 17 <|
      k_numberVertices_2 n (x1 + 1) (kt_st (kt_st σ 5 ((kt_ix x1)) (-1)) 7 ((kt_ix x1)) (-1))
def k_numberVertices (N : Nat) (σ : KSt) : Option (KSt) :=
  (k_numberVertices_2 N 0 σ).bind fun a1 =>
  (k_visit (kt_st a1.2 4 0 0) 16).bind fun a3 =>
  kt_chk 0 18 <|
  kt_chk 16 17 <|
  kt_nm (a3 1 (kt_ix 16)) fun y7 =>
  kt_chk 0 18 <|
  (k_numberVertices_64 N N 1 0 (kt_st (kt_st a3 8 ((kt_ix 0)) 16) 9 ((kt_ix 0)) y7)).bind fun a10 =>
  some a10.2.2
-- KeepTree.evaluate(I)I
def k_evaluate_72 (x1 : Int32) : Nat → Int32 → KSt → Option (Int32 × KSt)
  | 0, _, _ => none
  | n + 1, x4, σ =>
    if x4 < 0 then
      some (x4, σ)
    else
      kt_chk x4 18 <|
      kt_nm (σ 14 (kt_ix x4)) fun y3 =>
      kt_chk y3 17 <|
      kt_nm (σ 12 (kt_ix y3)) fun y6 =>
      kt_chk y6 17 <|
      kt_chk (σ 13 (kt_ix y6)) 17 <|
      kt_chk y3 17 <|
      kt_chk (σ 13 (kt_ix y3)) 17 <|
      if (σ 10 (kt_ix (σ 13 (kt_ix y3)))) ≤ (σ 10 (kt_ix (σ 13 (kt_ix y6)))) then
        kt_chk y6 17 <|
        kt_nm (σ 12 (kt_ix y6)) fun y14 =>
        kt_chk y3 17 <|
        k_evaluate_72 x1 n (x4 + (-1)) (kt_st σ 12 ((kt_ix y3)) y14)
      else
        kt_chk y6 17 <|
        kt_nm (σ 13 (kt_ix y6)) fun y18 =>
        kt_chk y3 17 <|
        kt_chk y6 17 <|
        kt_nm (σ 12 (kt_ix y6)) fun y22 =>
        kt_chk y3 17 <|
        k_evaluate_72 x1 n (x4 + (-1)) (kt_st (kt_st σ 13 ((kt_ix y3)) y18) 12 ((kt_ix y3)) y22)
def k_evaluate_23 (x1 : Int32) : Nat → Int32 → Int32 → Int32 → KSt → Option (Int32 × Int32 × Int32 × KSt)
  | 0, _, _, _, _ => none
  | n + 1, x2, x3, x4, σ =>
    if 17 ≤ x4 then
      some (x2, x3, x4, σ)
    else
      kt_chk x3 17 <|
      kt_chk (σ 12 (kt_ix x3)) 17 <|
      if (σ 12 (kt_ix (σ 12 (kt_ix x3)))) < 0 then
        some (x2, x3, x4, σ)
      else
        kt_chk x2 18 <|
        kt_chk x3 17 <|
        kt_nm (σ 12 (kt_ix x3)) fun y7 =>
        k_evaluate_23 x1 n (x2 + 1) y7 (x4 + 1) (kt_st σ 14 ((kt_ix x2)) x3)
def k_evaluate (N : Nat) (σ : KSt) (x1 : Int32) : Option (Int32 × KSt) :=
  kt_chk x1 17 <|
  if 0 ≤ (σ 12 (kt_ix x1)) then
    (k_evaluate_23 x1 N 0 x1 0 σ).bind fun a3 =>
    kt_nm (a3.1 - 1) fun y5 =>
    (k_evaluate_72 x1 N y5 a3.2.2.2).bind fun a7 =>
    kt_chk x1 17 <|
    some (a7.2 13 (kt_ix x1), a7.2)
  else
    kt_chk x1 17 <|
    some (σ 13 (kt_ix x1), σ)
-- KeepTree.findSemi(I)V
def k_findSemi_9 (N : Nat) (x1 x2 : Int32) : Nat → Int32 → KSt → Option (Int32 × KSt)
  | 0, _, _ => none
  | n + 1, x3, σ =>
    if (σ 4 0) ≤ x3 then
      some (x3, σ)
    else
      kt_chk x3 17 <|
      kt_chk (σ 6 (kt_ix x3)) 17 <|
      if ((kt_ushr (σ 1 (kt_ix (σ 6 (kt_ix x3)))) x2) &&& 1) = 0 then
        k_findSemi_9 N x1 x2 n (x3 + 1) σ
      else
        (k_evaluate N σ x3).bind fun a5 =>
        kt_chk a5.1 17 <|
        kt_chk x1 17 <|
        if (a5.2 10 (kt_ix x1)) ≤ (a5.2 10 (kt_ix a5.1)) then
          k_findSemi_9 N x1 x2 n (x3 + 1) a5.2
        else
          kt_chk a5.1 17 <|
          kt_nm (a5.2 10 (kt_ix a5.1)) fun y11 =>
          kt_chk x1 17 <|
          k_findSemi_9 N x1 x2 n (x3 + 1) (kt_st a5.2 10 ((kt_ix x1)) y11)
def k_findSemi (N : Nat) (σ : KSt) (x1 : Int32) : Option (KSt) :=
  kt_chk x1 17 <|
  kt_nm (σ 6 (kt_ix x1)) fun y2 =>
  (k_findSemi_9 N x1 y2 N 0 σ).bind fun a4 =>
  some a4.2
-- KeepTree.emptyBucket(I)V
def k_emptyBucket_9 (N : Nat) (x1 : Int32) : Nat → Int32 → Int32 → KSt → Option (Int32 × Int32 × KSt)
  | 0, _, _, _ => none
  | n + 1, x2, x3, σ =>
    if 17 ≤ x3 then
      some (x2, x3, σ)
    else
      if x2 < 0 then
        some (x2, x3, σ)
      else
        (k_evaluate N σ x2).bind fun a3 =>
        kt_chk a3.1 17 <|
        kt_chk x2 17 <|
        if (a3.2 10 (kt_ix x2)) ≤ (a3.2 10 (kt_ix a3.1)) then
          kt_chk x2 17 <|
          kt_chk x2 17 <|
          kt_nm (a3.2 16 (kt_ix x2)) fun y10 =>
          k_emptyBucket_9 N x1 n y10 (x3 + 1) (kt_st a3.2 11 ((kt_ix x2)) x1)
        else
          kt_chk x2 17 <|
          kt_chk x2 17 <|
          kt_nm (a3.2 16 (kt_ix x2)) fun y14 =>
          k_emptyBucket_9 N x1 n y14 (x3 + 1) (kt_st a3.2 11 ((kt_ix x2)) a3.1)
def k_emptyBucket (N : Nat) (σ : KSt) (x1 : Int32) : Option (KSt) :=
  kt_chk x1 17 <|
  kt_nm (σ 15 (kt_ix x1)) fun y2 =>
  (k_emptyBucket_9 N x1 N y2 0 σ).bind fun a4 =>
  kt_chk x1 17 <|
  some (kt_st a4.2.2 15 ((kt_ix x1)) (-1))
-- KeepTree.findDominators()V
def k_findDominators_126 : Nat → Int32 → KSt → Option (Int32 × KSt)
  | 0, _, _ => none
  | n + 1, x1, σ =>
    if (σ 4 0) ≤ x1 then
      some (x1, σ)
    else
      kt_chk x1 17 <|
      kt_chk x1 17 <|
      if (σ 11 (kt_ix x1)) = (σ 10 (kt_ix x1)) then
        k_findDominators_126 n (x1 + 1) σ
      else
        kt_chk x1 17 <|
        kt_chk (σ 11 (kt_ix x1)) 17 <|
        kt_nm (σ 11 (kt_ix (σ 11 (kt_ix x1)))) fun y7 =>
        kt_chk x1 17 <|
        k_findDominators_126 n (x1 + 1) (kt_st σ 11 ((kt_ix x1)) y7)
def k_findDominators_58 (N : Nat) : Nat → Int32 → KSt → Option (Int32 × KSt)
  | 0, _, _ => none
  | n + 1, x1, σ =>
    if x1 ≤ 0 then
      some (x1, σ)
    else
      (k_findSemi N σ x1).bind fun a2 =>
      kt_chk x1 17 <|
      kt_chk (a2 10 (kt_ix x1)) 17 <|
      kt_nm (a2 15 (kt_ix (a2 10 (kt_ix x1)))) fun y6 =>
      kt_chk x1 17 <|
      kt_chk x1 17 <|
      kt_chk (a2 10 (kt_ix x1)) 17 <|
      kt_chk x1 17 <|
      kt_nm (a2 7 (kt_ix x1)) fun y12 =>
      kt_chk x1 17 <|
      kt_chk x1 17 <|
      (k_emptyBucket N (kt_st (kt_st (kt_st a2 16 ((kt_ix x1)) y6) 15 ((kt_ix (a2 10 (kt_ix x1)))) x1) 12 ((kt_ix x1)) y12) (a2 7 (kt_ix x1))).bind fun a16 =>
      k_findDominators_58 N n (x1 + (-1)) a16
def k_findDominators_2 : Nat → Int32 → KSt → Option (Int32 × KSt)
  | 0, _, _ => none
  | n + 1, x1, σ =>
    if (σ 4 0) ≤ x1 then
      some (x1, σ)
    else
      kt_chk x1 17 <|
      kt_chk x1 17 <|
      kt_chk x1 17 <|
      kt_chk x1 17 <|
      kt_chk x1 17 <|
      k_findDominators_2 n (x1 + 1) (kt_st (kt_st (kt_st (kt_st (kt_st σ 10 ((kt_ix x1)) x1) 13 ((kt_ix x1)) x1) 11 ((kt_ix x1)) (-1)) 12 ((kt_ix x1)) (-1)) 15 ((kt_ix x1)) (-1))
def k_findDominators (N : Nat) (σ : KSt) : Option (KSt) :=
  (k_findDominators_2 N 0 σ).bind fun a1 =>
  kt_nm ((a1.2 4 0) - 1) fun y3 =>
  (k_findDominators_58 N N y3 a1.2).bind fun a5 =>
  (k_findDominators_126 N 1 a5.2).bind fun a7 =>
  some a7.2
-- KeepTree.walkTree()V
def k_walkTree_22 : Nat → Int32 → Int32 → Int32 → KSt → Option (Int32 × Int32 × Int32 × KSt)
  | 0, _, _, _, _ => none
  | n + 1, x1, x2, x3, σ =>
    if 40 ≤ x3 then
      some (x1, x2, x3, σ)
    else
      if x2 ≤ 0 then
        some (x1, x2, x3, σ)
      else
        kt_chk (x2 - 1) 18 <|
        kt_nm (σ 8 (kt_ix (x2 - 1))) fun y4 =>
        kt_chk y4 17 <|
        kt_nm (σ 15 (kt_ix y4)) fun y7 =>
        if 0 ≤ y7 then
          kt_chk y7 17 <|
          kt_nm (σ 16 (kt_ix y7)) fun y11 =>
          kt_chk y4 17 <|
          kt_nm (x1 + 1) fun y14 =>
          kt_chk y7 17 <|
          kt_chk x2 18 <|
          k_walkTree_22 n (x1 + 1) (x2 + 1) (x3 + 1) (kt_st (kt_st (kt_st σ 15 ((kt_ix y4)) y11) 20 ((kt_ix y7)) y14) 8 ((kt_ix x2)) y7)
        else
          kt_chk y4 17 <|
          k_walkTree_22 n x1 (x2 + (-1)) (x3 + 1) (kt_st σ 21 ((kt_ix y4)) x1)
def k_walkTree (N : Nat) (σ : KSt) : Option (KSt) :=
  kt_chk 0 18 <|
  kt_chk 16 17 <|
  (k_walkTree_22 N 0 1 0 (kt_st (kt_st σ 8 ((kt_ix 0)) 16) 20 ((kt_ix 16)) 0)).bind fun a3 =>
  some a3.2.2.2
-- KeepTree.layOutTree()V
def k_layOutTree_126 : Nat → Int32 → KSt → Option (Int32 × KSt)
  | 0, _, _ => none
  | n + 1, x1, σ =>
    if x1 ≤ 0 then
      some (x1, σ)
    else
      kt_chk x1 17 <|
      kt_nm (σ 6 (kt_ix x1)) fun y3 =>
      kt_chk y3 17 <|
      kt_nm (σ 17 (kt_ix y3)) fun y6 =>
      kt_chk y6 17 <|
      kt_chk y3 17 <|
      kt_nm ((σ 19 (kt_ix y6)) + (σ 19 (kt_ix y3))) fun y10 =>
      kt_chk y6 17 <|
      kt_chk y6 17 <|
      kt_nm (σ 15 (kt_ix y6)) fun y14 =>
      kt_chk y3 17 <|
      kt_chk y6 17 <|
      k_layOutTree_126 n (x1 + (-1)) (kt_st (kt_st (kt_st σ 19 ((kt_ix y6)) y10) 16 ((kt_ix y3)) y14) 15 ((kt_ix y6)) y3)
def k_layOutTree_65 : Nat → Int32 → KSt → Option (Int32 × KSt)
  | 0, _, _ => none
  | n + 1, x1, σ =>
    if (σ 4 0) ≤ x1 then
      some (x1, σ)
    else
      kt_chk x1 17 <|
      kt_nm (σ 6 (kt_ix x1)) fun y3 =>
      kt_chk x1 17 <|
      kt_chk (σ 11 (kt_ix x1)) 17 <|
      kt_nm (σ 6 (kt_ix (σ 11 (kt_ix x1)))) fun y7 =>
      kt_chk y3 17 <|
      kt_chk y7 17 <|
      kt_nm ((σ 18 (kt_ix y7)) + 1) fun y11 =>
      kt_chk y3 17 <|
      k_layOutTree_65 n (x1 + 1) (kt_st (kt_st σ 17 ((kt_ix y3)) y7) 18 ((kt_ix y3)) y11)
def k_layOutTree_19 : Nat → Int32 → KSt → Option (Int32 × KSt)
  | 0, _, _ => none
  | n + 1, x1, σ =>
    if 17 ≤ x1 then
      some (x1, σ)
    else
      kt_chk x1 17 <|
      if (σ 5 (kt_ix x1)) < 0 then
        kt_chk x1 17 <|
        kt_chk x1 17 <|
        k_layOutTree_19 n (x1 + 1) (kt_st (kt_st σ 19 ((kt_ix x1)) 0) 15 ((kt_ix x1)) (-1))
      else
        kt_chk x1 17 <|
        kt_nm (σ 0 (kt_ix x1)) fun y7 =>
        kt_chk x1 17 <|
        kt_chk x1 17 <|
        k_layOutTree_19 n (x1 + 1) (kt_st (kt_st σ 19 ((kt_ix x1)) y7) 15 ((kt_ix x1)) (-1))
def k_layOutTree (N : Nat) (σ : KSt) : Option (KSt) :=
  kt_chk 16 17 <|
  kt_chk 16 17 <|
  (k_layOutTree_19 N 0 (kt_st (kt_st σ 17 ((kt_ix 16)) 16) 18 ((kt_ix 16)) 0)).bind fun a3 =>
  (k_layOutTree_65 N 1 a3.2).bind fun a5 =>
  kt_nm ((a5.2 4 0) - 1) fun y7 =>
  (k_layOutTree_126 N y7 a5.2).bind fun a9 =>
  (k_walkTree N a9.2).bind fun a11 =>
  some a11
-- KeepTree.prepare()V
def k_prepare (N : Nat) (σ : KSt) : Option (KSt) :=
  if (σ 3 0) = 0 then
    kt_nm (σ 2 0) fun y2 =>
    kt_chk 16 17 <|
    (k_numberVertices N (kt_st (kt_st σ 3 0 1) 1 ((kt_ix 16)) y2)).bind fun a5 =>
    (k_findDominators N a5).bind fun a7 =>
    (k_layOutTree N a7).bind fun a9 =>
    some a9
  else
    some σ
-- KeepTree.alive(I)I
def k_alive (N : Nat) (σ : KSt) (x1 : Int32) : Option (Int32 × KSt) :=
  (k_isObject x1).bind fun a1 =>
  if a1 = 0 then
    some ((-2), σ)
  else
    (k_prepare N σ).bind fun a4 =>
    kt_chk x1 17 <|
    if (a4 5 (kt_ix x1)) < 0 then
      some (0, a4)
    else
      some (1, a4)
-- KeepTree.visible(I)I
def k_visible (x0 : Int32) : Option (Int32) :=
  if x0 = 16 then
    some (-1)
  else
    some x0
-- KeepTree.keeper(I)I
def k_keeper (N : Nat) (σ : KSt) (x1 : Int32) : Option (Int32 × KSt) :=
  (k_isObject x1).bind fun a1 =>
  if a1 = 0 then
    some ((-2), σ)
  else
    (k_prepare N σ).bind fun a4 =>
    kt_chk x1 17 <|
    if (a4 5 (kt_ix x1)) < 0 then
      some ((-1), a4)
    else
      kt_chk x1 17 <|
      (k_visible (a4 17 (kt_ix x1))).bind fun a9 =>
      some (a9, a4)
-- KeepTree.held(I)I
def k_held (N : Nat) (σ : KSt) (x1 : Int32) : Option (Int32 × KSt) :=
  (k_isObject x1).bind fun a1 =>
  if a1 = 0 then
    some ((-2), σ)
  else
    (k_prepare N σ).bind fun a4 =>
    kt_chk x1 17 <|
    if (a4 5 (kt_ix x1)) < 0 then
      some (0, a4)
    else
      kt_chk x1 17 <|
      some (a4 19 (kt_ix x1), a4)
-- KeepTree.holds(II)Z
def k_holds (σ : KSt) (x1 x2 : Int32) : Option (Int32) :=
  kt_chk x1 17 <|
  if (σ 5 (kt_ix x1)) < 0 then
    some 0
  else
    kt_chk x2 17 <|
    if 0 ≤ (σ 5 (kt_ix x2)) then
      kt_chk x1 17 <|
      kt_chk x2 17 <|
      if (σ 20 (kt_ix x2)) < (σ 20 (kt_ix x1)) then
        some 0
      else
        kt_chk x2 17 <|
        kt_chk x1 17 <|
        if (σ 21 (kt_ix x1)) < (σ 20 (kt_ix x2)) then
          some 0
        else
          some 1
    else
      some 0
-- KeepTree.guards(II)I
def k_guards (N : Nat) (σ : KSt) (x1 x2 : Int32) : Option (Int32 × KSt) :=
  (k_isObject x1).bind fun a1 =>
  if a1 = 0 then
    some ((-2), σ)
  else
    (k_isObject x2).bind fun a4 =>
    if a4 = 0 then
      some ((-2), σ)
    else
      (k_prepare N σ).bind fun a7 =>
      (k_holds a7 x1 x2).bind fun a9 =>
      if a9 = 0 then
        some (0, a7)
      else
        some (1, a7)
-- KeepTree.depth(I)I
def k_depth (N : Nat) (σ : KSt) (x1 : Int32) : Option (Int32 × KSt) :=
  (k_isObject x1).bind fun a1 =>
  if a1 = 0 then
    some ((-2), σ)
  else
    (k_prepare N σ).bind fun a4 =>
    kt_chk x1 17 <|
    if (a4 5 (kt_ix x1)) < 0 then
      some (0, a4)
    else
      kt_chk x1 17 <|
      some (a4 18 (kt_ix x1), a4)
-- KeepTree.common(II)I
def k_common_49 (σ : KSt) : Nat → Int32 → Int32 → Int32 → Option (Int32 × Int32 × Int32)
  | 0, _, _, _ => none
  | n + 1, x3, x4, x5 =>
    if 34 ≤ x5 then
      some (x3, x4, x5)
    else
      if x3 = x4 then
        some (x3, x4, x5)
      else
        kt_chk x3 17 <|
        kt_chk x4 17 <|
        if (σ 18 (kt_ix x3)) < (σ 18 (kt_ix x4)) then
          kt_chk x4 17 <|
          kt_nm (σ 17 (kt_ix x4)) fun y7 =>
          k_common_49 σ n x3 y7 (x5 + 1)
        else
          kt_chk x3 17 <|
          kt_nm (σ 17 (kt_ix x3)) fun y10 =>
          k_common_49 σ n y10 x4 (x5 + 1)
def k_common (N : Nat) (σ : KSt) (x1 x2 : Int32) : Option (Int32 × KSt) :=
  (k_isObject x1).bind fun a1 =>
  if a1 = 0 then
    some ((-2), σ)
  else
    (k_isObject x2).bind fun a4 =>
    if a4 = 0 then
      some ((-2), σ)
    else
      (k_prepare N σ).bind fun a7 =>
      kt_chk x1 17 <|
      if (a7 5 (kt_ix x1)) < 0 then
        some ((-1), a7)
      else
        kt_chk x2 17 <|
        if 0 ≤ (a7 5 (kt_ix x2)) then
          (k_common_49 a7 N x1 x2 0).bind fun a13 =>
          (k_visible a13.1).bind fun a15 =>
          some (a15, a7)
        else
          some ((-1), a7)
-- KeepTree.heaviest()I
def k_heaviest_8 (σ : KSt) : Nat → Int32 → Int32 → Option (Int32 × Int32)
  | 0, _, _ => none
  | n + 1, x1, x2 =>
    if 16 ≤ x2 then
      some (x1, x2)
    else
      kt_chk x2 17 <|
      if (σ 5 (kt_ix x2)) < 0 then
        k_heaviest_8 σ n x1 (x2 + 1)
      else
        kt_chk x2 17 <|
        if (σ 17 (kt_ix x2)) = 16 then
          if x1 < 0 then
            k_heaviest_8 σ n x2 (x2 + 1)
          else
            kt_chk x2 17 <|
            kt_chk x1 17 <|
            if (σ 19 (kt_ix x2)) ≤ (σ 19 (kt_ix x1)) then
              k_heaviest_8 σ n x1 (x2 + 1)
            else
              k_heaviest_8 σ n x2 (x2 + 1)
        else
          k_heaviest_8 σ n x1 (x2 + 1)
def k_heaviest (N : Nat) (σ : KSt) : Option (Int32 × KSt) :=
  (k_prepare N σ).bind fun a1 =>
  (k_heaviest_8 a1 N (-1) 0).bind fun a3 =>
  some (a3.1, a1)
-- KeepTree.total()I
def k_total (N : Nat) (σ : KSt) : Option (Int32 × KSt) :=
  (k_prepare N σ).bind fun a1 =>
  kt_chk 16 17 <|
  some (a1 19 (kt_ix 16), a1)
-- KeepTreeModel.bad(I)Z
def m_bad (x0 : Int32) : Option (Int32) :=
  if x0 < 0 then
    some 1
  else
    if x0 ≤ 15 then
      some 0
    else
      some 1
-- KeepTreeModel.setSize(II)I
def m_setSize (σ : KSt) (x1 x2 : Int32) : Option (Int32 × KSt) :=
  (m_bad x1).bind fun a1 =>
  if a1 = 0 then
    kt_chk x1 16 <|
    kt_nm (σ 0 (kt_ix x1)) fun y5 =>
    if 0 ≤ x2 then
      if x2 ≤ 1000 then
        kt_chk x1 16 <|
        some (y5, kt_st σ 0 ((kt_ix x1)) x2)
      else
        kt_chk x1 16 <|
        some (y5, kt_st σ 0 ((kt_ix x1)) 1000)
    else
      kt_chk x1 16 <|
      some (y5, kt_st σ 0 ((kt_ix x1)) 0)
  else
    some ((-2), σ)
-- KeepTreeModel.flip(II)I
def m_flip (σ : KSt) (x1 x2 : Int32) : Option (Int32 × KSt) :=
  (m_bad x1).bind fun a1 =>
  if a1 = 0 then
    (m_bad x2).bind fun a4 =>
    if a4 = 0 then
      kt_chk ((16 * x1) + x2) 256 <|
      if (σ 2 (kt_ix ((16 * x1) + x2))) = 0 then
        kt_chk ((16 * x1) + x2) 256 <|
        kt_chk ((16 * x1) + x2) 256 <|
        if ((kt_st σ 2 ((kt_ix ((16 * x1) + x2))) ((kt_bo 1))) 2 (kt_ix ((16 * x1) + x2))) = 0 then
          some (0, kt_st σ 2 ((kt_ix ((16 * x1) + x2))) ((kt_bo 1)))
        else
          some (1, kt_st σ 2 ((kt_ix ((16 * x1) + x2))) ((kt_bo 1)))
      else
        kt_chk ((16 * x1) + x2) 256 <|
        kt_chk ((16 * x1) + x2) 256 <|
        if ((kt_st σ 2 ((kt_ix ((16 * x1) + x2))) ((kt_bo 0))) 2 (kt_ix ((16 * x1) + x2))) = 0 then
          some (0, kt_st σ 2 ((kt_ix ((16 * x1) + x2))) ((kt_bo 0)))
        else
          some (1, kt_st σ 2 ((kt_ix ((16 * x1) + x2))) ((kt_bo 0)))
    else
      some ((-2), σ)
  else
    some ((-2), σ)
-- KeepTreeModel.setRoot(IZ)I
def m_setRoot (σ : KSt) (x1 x2 : Int32) : Option (Int32 × KSt) :=
  (m_bad x1).bind fun a1 =>
  if a1 = 0 then
    kt_chk x1 16 <|
    if (σ 1 (kt_ix x1)) = 0 then
      kt_chk x1 16 <|
      some (0, kt_st σ 1 ((kt_ix x1)) ((kt_bo x2)))
    else
      kt_chk x1 16 <|
      some (1, kt_st σ 1 ((kt_ix x1)) ((kt_bo x2)))
  else
    some ((-2), σ)
-- KeepTreeModel.find(I)V
def m_find_58 (x1 x3 : Int32) : Nat → Int32 → Int32 → KSt → Option (Int32 × Int32 × KSt)
  | 0, _, _, _ => none
  | n + 1, x2, x4, σ =>
    if 256 ≤ x4 then
      some (x2, x4, σ)
    else
      kt_nm (x4 - x4 / 16 * 16) fun y2 =>
      kt_chk x4 256 <|
      if (σ 2 (kt_ix x4)) = 0 then
        m_find_58 x1 x3 n x2 (x4 + 1) σ
      else
        kt_chk (x4 / 16) 16 <|
        if (σ 3 (kt_ix (x4 / 16))) = 0 then
          m_find_58 x1 x3 n x2 (x4 + 1) σ
        else
          kt_chk y2 16 <|
          if (σ 3 (kt_ix y2)) = 0 then
            if y2 = x1 then
              m_find_58 x1 x3 n x2 (x4 + 1) σ
            else
              kt_chk y2 16 <|
              m_find_58 x1 x3 n 1 (x4 + 1) (kt_st σ 3 ((kt_ix y2)) ((kt_bo 1)))
          else
            m_find_58 x1 x3 n x2 (x4 + 1) σ
def m_find_43 (N : Nat) (x1 : Int32) : Nat → Int32 → Int32 → KSt → Option (Int32 × Int32 × KSt)
  | 0, _, _, _ => none
  | n + 1, x2, x3, σ =>
    if 16 ≤ x3 then
      some (x2, x3, σ)
    else
      if x2 = 0 then
        some (x2, x3, σ)
      else
        (m_find_58 x1 x3 N 0 0 σ).bind fun a3 =>
        m_find_43 N x1 n a3.1 (x3 + 1) a3.2.2
def m_find_2 (x1 : Int32) : Nat → Int32 → KSt → Option (Int32 × KSt)
  | 0, _, _ => none
  | n + 1, x2, σ =>
    if 16 ≤ x2 then
      some (x2, σ)
    else
      kt_chk x2 16 <|
      if (σ 1 (kt_ix x2)) = 0 then
        kt_chk x2 16 <|
        m_find_2 x1 n (x2 + 1) (kt_st σ 3 ((kt_ix x2)) ((kt_bo 0)))
      else
        if x2 = x1 then
          kt_chk x2 16 <|
          m_find_2 x1 n (x2 + 1) (kt_st σ 3 ((kt_ix x2)) ((kt_bo 0)))
        else
          kt_chk x2 16 <|
          m_find_2 x1 n (x2 + 1) (kt_st σ 3 ((kt_ix x2)) ((kt_bo 1)))
def m_find (N : Nat) (σ : KSt) (x1 : Int32) : Option (KSt) :=
  (m_find_2 x1 N 0 σ).bind fun a1 =>
  (m_find_43 N x1 N 1 0 a1.2).bind fun a3 =>
  some a3.2.2
-- KeepTreeModel.isAlive(I)Z
def m_isAlive (N : Nat) (σ : KSt) (x1 : Int32) : Option (Int32 × KSt) :=
  (m_find N σ (-1)).bind fun a1 =>
  kt_chk x1 16 <|
  kt_chkB (a1 3 (kt_ix x1)) <| some (a1 3 (kt_ix x1), a1)
-- KeepTreeModel.alive(I)I
def m_alive (N : Nat) (σ : KSt) (x1 : Int32) : Option (Int32 × KSt) :=
  (m_bad x1).bind fun a1 =>
  if a1 = 0 then
    (m_isAlive N σ x1).bind fun a4 =>
    if a4.1 = 0 then
      some (0, a4.2)
    else
      some (1, a4.2)
  else
    some ((-2), σ)
-- KeepTreeModel.gather()V
def m_gather_65 : Nat → Int32 → KSt → Option (Int32 × KSt)
  | 0, _, _ => none
  | n + 1, x1, σ =>
    if 256 ≤ x1 then
      some (x1, σ)
    else
      kt_chk x1 256 <|
      if (σ 4 (kt_ix x1)) = 0 then
        kt_chk x1 256 <|
        m_gather_65 n (x1 + 1) (kt_st σ 4 ((kt_ix x1)) ((kt_bo 0)))
      else
        kt_chk (x1 - x1 / 16 * 16) 16 <|
        if (σ 3 (kt_ix (x1 - x1 / 16 * 16))) = 0 then
          kt_chk x1 256 <|
          m_gather_65 n (x1 + 1) (kt_st σ 4 ((kt_ix x1)) ((kt_bo 0)))
        else
          kt_chk x1 256 <|
          m_gather_65 n (x1 + 1) (kt_st σ 4 ((kt_ix x1)) ((kt_bo 1)))
def m_gather_15 (x1 : Int32) : Nat → Int32 → KSt → Option (Int32 × KSt)
  | 0, _, _ => none
  | n + 1, x2, σ =>
    if 16 ≤ x2 then
      some (x2, σ)
    else
      kt_chk x2 16 <|
      if (σ 3 (kt_ix x2)) = 0 then
        kt_chk ((16 * x1) + x2) 256 <|
        m_gather_15 x1 n (x2 + 1) (kt_st σ 4 ((kt_ix ((16 * x1) + x2))) ((kt_bo 1)))
      else
        kt_chk ((16 * x1) + x2) 256 <|
        m_gather_15 x1 n (x2 + 1) (kt_st σ 4 ((kt_ix ((16 * x1) + x2))) ((kt_bo 0)))
def m_gather_2 (N : Nat) : Nat → Int32 → KSt → Option (Int32 × KSt)
  | 0, _, _ => none
  | n + 1, x1, σ =>
    if 16 ≤ x1 then
      some (x1, σ)
    else
      (m_find N σ x1).bind fun a2 =>
      (m_gather_15 x1 N 0 a2).bind fun a4 =>
      m_gather_2 N n (x1 + 1) a4.2
def m_gather (N : Nat) (σ : KSt) : Option (KSt) :=
  (m_gather_2 N N 0 σ).bind fun a1 =>
  (m_find N a1.2 (-1)).bind fun a3 =>
  (m_gather_65 N 0 a3).bind fun a5 =>
  some a5.2
-- KeepTreeModel.both(IIIZ)Z
def m_both (σ : KSt) (x1 x2 x3 x4 : Int32) : Option (Int32) :=
  kt_chk ((16 * x1) + x2) 256 <|
  if (σ 4 (kt_ix ((16 * x1) + x2))) = 0 then
    some 0
  else
    kt_chk ((16 * x1) + x3) 256 <|
    if (σ 4 (kt_ix ((16 * x1) + x3))) = 0 then
      some 0
    else
      if x4 = 0 then
        some 1
      else
        if x1 = x2 then
          some 0
        else
          some 1
-- KeepTreeModel.last(IIZ)I
def m_last_24 (σ : KSt) (x1 x2 x3 x4 : Int32) : Nat → Int32 → Int32 → Option (Int32 × Int32)
  | 0, _, _ => none
  | n + 1, x5, x6 =>
    if 16 ≤ x6 then
      some (x5, x6)
    else
      (m_both σ x6 x1 x2 x3).bind fun a2 =>
      if a2 = 0 then
        m_last_24 σ x1 x2 x3 x4 n x5 (x6 + 1)
      else
        kt_chk ((16 * x6) + x4) 256 <|
        if (σ 4 (kt_ix ((16 * x6) + x4))) = 0 then
          m_last_24 σ x1 x2 x3 x4 n 0 (x6 + 1)
        else
          m_last_24 σ x1 x2 x3 x4 n x5 (x6 + 1)
def m_last_3 (N : Nat) (σ : KSt) (x1 x2 x3 : Int32) : Nat → Int32 → Option (Int32 ⊕ (Int32))
  | 0, _ => none
  | n + 1, x4 =>
    if 16 ≤ x4 then
      some (.inr x4)
    else
      (m_both σ x4 x1 x2 x3).bind fun a2 =>
      (m_last_24 σ x1 x2 x3 x4 N a2 0).bind fun a4 =>
      if a4.1 = 0 then
        m_last_3 N σ x1 x2 x3 n (x4 + 1)
      else
        some (.inl x4)
def m_last (N : Nat) (σ : KSt) (x1 x2 x3 : Int32) : Option (Int32) :=
  (m_last_3 N σ x1 x2 x3 N 0).bind fun a1 => kt_sel a1 (fun rv => some rv) fun r3 =>
    some (-1)
-- KeepTreeModel.keeper(I)I
def m_keeper (N : Nat) (σ : KSt) (x1 : Int32) : Option (Int32 × KSt) :=
  (m_bad x1).bind fun a1 =>
  if a1 = 0 then
    (m_gather N σ).bind fun a4 =>
    (m_last N a4 x1 x1 1).bind fun a6 =>
    some (a6, a4)
  else
    some ((-2), σ)
-- KeepTreeModel.heldBy(I)I
def m_heldBy_4 (σ : KSt) (x1 : Int32) : Nat → Int32 → Int32 → Option (Int32 × Int32)
  | 0, _, _ => none
  | n + 1, x2, x3 =>
    if 16 ≤ x3 then
      some (x2, x3)
    else
      kt_chk ((16 * x1) + x3) 256 <|
      if (σ 4 (kt_ix ((16 * x1) + x3))) = 0 then
        m_heldBy_4 σ x1 n x2 (x3 + 1)
      else
        kt_chk x3 16 <|
        kt_nm (x2 + (σ 0 (kt_ix x3))) fun y5 =>
        m_heldBy_4 σ x1 n y5 (x3 + 1)
def m_heldBy (N : Nat) (σ : KSt) (x1 : Int32) : Option (Int32) :=
  (m_heldBy_4 σ x1 N 0 0).bind fun a1 =>
  some a1.1
-- KeepTreeModel.held(I)I
def m_held (N : Nat) (σ : KSt) (x1 : Int32) : Option (Int32 × KSt) :=
  (m_bad x1).bind fun a1 =>
  if a1 = 0 then
    (m_gather N σ).bind fun a4 =>
    (m_heldBy N a4 x1).bind fun a6 =>
    some (a6, a4)
  else
    some ((-2), σ)
-- KeepTreeModel.isGuard(II)Z
def m_isGuard (N : Nat) (σ : KSt) (x1 x2 : Int32) : Option (Int32 × KSt) :=
  (m_isAlive N σ x2).bind fun a1 =>
  (m_find N a1.2 x1).bind fun a3 =>
  if a1.1 = 0 then
    some (0, a3)
  else
    kt_chk x2 16 <|
    if (a3 3 (kt_ix x2)) = 0 then
      some (1, a3)
    else
      some (0, a3)
-- KeepTreeModel.guards(II)I
def m_guards (N : Nat) (σ : KSt) (x1 x2 : Int32) : Option (Int32 × KSt) :=
  (m_bad x1).bind fun a1 =>
  if a1 = 0 then
    (m_bad x2).bind fun a4 =>
    if a4 = 0 then
      (m_isGuard N σ x1 x2).bind fun a7 =>
      if a7.1 = 0 then
        some (0, a7.2)
      else
        some (1, a7.2)
    else
      some ((-2), σ)
  else
    some ((-2), σ)
-- KeepTreeModel.depth(I)I
def m_depth_18 (σ : KSt) (x1 : Int32) : Nat → Int32 → Int32 → Option (Int32 × Int32)
  | 0, _, _ => none
  | n + 1, x2, x3 =>
    if 16 ≤ x3 then
      some (x2, x3)
    else
      kt_chk ((16 * x3) + x1) 256 <|
      if (σ 4 (kt_ix ((16 * x3) + x1))) = 0 then
        m_depth_18 σ x1 n x2 (x3 + 1)
      else
        m_depth_18 σ x1 n (x2 + 1) (x3 + 1)
def m_depth (N : Nat) (σ : KSt) (x1 : Int32) : Option (Int32 × KSt) :=
  (m_bad x1).bind fun a1 =>
  if a1 = 0 then
    (m_gather N σ).bind fun a4 =>
    (m_depth_18 a4 x1 N 0 0).bind fun a6 =>
    some (a6.1, a4)
  else
    some ((-2), σ)
-- KeepTreeModel.common(II)I
def m_common (N : Nat) (σ : KSt) (x1 x2 : Int32) : Option (Int32 × KSt) :=
  (m_bad x1).bind fun a1 =>
  if a1 = 0 then
    (m_bad x2).bind fun a4 =>
    if a4 = 0 then
      (m_gather N σ).bind fun a7 =>
      (m_last N a7 x1 x2 0).bind fun a9 =>
      some (a9, a7)
    else
      some ((-2), σ)
  else
    some ((-2), σ)
-- KeepTreeModel.heaviest()I
def m_heaviest_10 (N : Nat) (σ : KSt) : Nat → Int32 → Int32 → Int32 → Option (Int32 × Int32 × Int32)
  | 0, _, _, _ => none
  | n + 1, x1, x2, x3 =>
    if 16 ≤ x3 then
      some (x1, x2, x3)
    else
      kt_chk ((16 * x3) + x3) 256 <|
      if (σ 4 (kt_ix ((16 * x3) + x3))) = 0 then
        m_heaviest_10 N σ n x1 x2 (x3 + 1)
      else
        (m_last N σ x3 x3 1).bind fun a5 =>
        if 0 ≤ a5 then
          m_heaviest_10 N σ n x1 x2 (x3 + 1)
        else
          (m_heldBy N σ x3).bind fun a10 =>
          if a10 ≤ x2 then
            m_heaviest_10 N σ n x1 x2 (x3 + 1)
          else
            (m_heldBy N σ x3).bind fun a13 =>
            m_heaviest_10 N σ n x3 a13 (x3 + 1)
def m_heaviest (N : Nat) (σ : KSt) : Option (Int32 × KSt) :=
  (m_gather N σ).bind fun a1 =>
  (m_heaviest_10 N a1 N (-1) (-1) 0).bind fun a3 =>
  some (a3.1, a1)
-- KeepTreeModel.total()I
def m_total_9 (σ : KSt) : Nat → Int32 → Int32 → Option (Int32 × Int32)
  | 0, _, _ => none
  | n + 1, x1, x2 =>
    if 16 ≤ x2 then
      some (x1, x2)
    else
      kt_chk x2 16 <|
      if (σ 3 (kt_ix x2)) = 0 then
        m_total_9 σ n x1 (x2 + 1)
      else
        kt_chk x2 16 <|
        kt_nm (x1 + (σ 0 (kt_ix x2))) fun y5 =>
        m_total_9 σ n y5 (x2 + 1)
def m_total (N : Nat) (σ : KSt) : Option (Int32 × KSt) :=
  (m_find N σ (-1)).bind fun a1 =>
  (m_total_9 a1 N 0 0).bind fun a3 =>
  some (a3.1, a1)
end
section
/-! PLAIN LAW 1: dominators by semidominators, over numbers of a depth-first walk; no program in sight -/
/-- a is an ancestor of x, or x itself, in the tree of parents p -/
def lt_anc (p : Nat → Nat) (a x : Nat) : Prop := ∀ S : Nat → Prop, S x → (∀ y, S y → 0 < y → S (p y)) → S a
/-- w is reached from 0 over edges into others than a -/
def lt_av (E : Nat → Nat → Prop) (a w : Nat) : Prop := ∀ S : Nat → Prop, S 0 → (∀ u v, S u → E u v → v ≠ a → S v) → S w
/-- x reaches w over vertices above w -/
def lt_B (E : Nat → Nat → Prop) (w x : Nat) : Prop := ∀ S : Nat → Prop, S w → (∀ a b, E a b → S b → w < a → S a) → S x
/-- what a depth-first walk leaves: R numbers, edges E, parents p -/
def lt_G (R : Nat) (E : Nat → Nat → Prop) (p : Nat → Nat) : Prop :=
  (∀ w, 0 < w → w < R → p w < w) ∧ (∀ w, 0 < w → w < R → E (p w) w) ∧ (∀ a b, E a b → a < R ∧ b < R) ∧ (∀ a b, E a b → a < b → lt_anc p a b) ∧ (∀ a b c, a ≤ b → b ≤ c → c < R → lt_anc p a c → lt_anc p a b)
theorem lt_anc_refl (p : Nat → Nat) (x : Nat) : lt_anc p x x := fun _ h _ => h
theorem lt_anc_up {p : Nat → Nat} {a y : Nat} (h0 : 0 < y) (h : lt_anc p a (p y)) : lt_anc p a y := fun S hy hs => h S (hs y hy h0) hs
theorem lt_anc_trans {p : Nat → Nat} {a b c : Nat} (h1 : lt_anc p a b) (h2 : lt_anc p b c) : lt_anc p a c := fun S hc hs => h1 S (h2 S hc hs) hs
theorem lt_anc_p {p : Nat → Nat} {y : Nat} (h0 : 0 < y) : lt_anc p (p y) y := lt_anc_up h0 (lt_anc_refl p _)
theorem lt_anc_cases {p : Nat → Nat} {a x : Nat} (h : lt_anc p a x) : a = x ∨ (0 < x ∧ lt_anc p a (p x)) := by
  refine h (fun z => z = x ∨ (0 < x ∧ lt_anc p z (p x))) (Or.inl rfl) ?_
  intro y hy h0
  rcases hy with rfl | ⟨h1, h2⟩
  · exact Or.inr ⟨h0, lt_anc_refl p _⟩
  · exact Or.inr ⟨h1, lt_anc_trans (lt_anc_p h0) h2⟩
section
variable {R : Nat} {E : Nat → Nat → Prop} {p : Nat → Nat}
theorem lt_anc_le (hp : ∀ w, 0 < w → w < R → p w < w) {a x : Nat} (hx : x < R) (h : lt_anc p a x) : a ≤ x := by
  refine h (fun z => z ≤ x) (Nat.le_refl _) ?_
  intro y hy h0
  have := hp y h0 (by omega)
  omega
theorem lt_anc_zero (hp : ∀ w, 0 < w → w < R → p w < w) : ∀ (x : Nat), x < R → lt_anc p 0 x := by
  intro x
  induction x using Nat.strongRecOn with
  | ind x ih =>
    intro hx
    rcases Nat.eq_zero_or_pos x with rfl | h0
    · exact lt_anc_refl p 0
    · exact lt_anc_up h0 (ih (p x) (hp x h0 hx) (by have := hp x h0 hx; omega))
theorem lt_av_zero (a : Nat) : lt_av E a 0 := fun _ h _ => h
theorem lt_av_step {a u v : Nat} (h : lt_av E a u) (he : E u v) (hn : v ≠ a) : lt_av E a v := fun S h0 hs => hs u v (h S h0 hs) he hn
theorem lt_av_ne {a w : Nat} (h0 : 0 < a) (h : lt_av E a w) : w ≠ a := h (fun z => z ≠ a) (by omega) (fun _ _ _ _ h => h)
theorem lt_av_trans {a b w : Nat} (h : lt_av E a w) (hb : ¬ lt_av E a b) : lt_av E b w := by
  have := h (fun z => lt_av E a z ∧ lt_av E b z) ⟨lt_av_zero a, lt_av_zero b⟩ (fun u v hu he hn => ⟨lt_av_step hu.1 he hn, lt_av_step hu.2 he (fun h => hb (h ▸ lt_av_step hu.1 he hn))⟩)
  exact this.2
theorem lt_B_self (w : Nat) : lt_B E w w := fun _ h _ => h
theorem lt_B_step {w a b : Nat} (h : lt_B E w b) (he : E a b) (hw : w < a) : lt_B E w a := fun S h0 hs => hs a b he (h S h0 hs) hw
theorem lt_B_ge {w x : Nat} (h : lt_B E w x) : w ≤ x := h (fun z => w ≤ z) (Nat.le_refl _) (fun _ _ _ _ h => Nat.le_of_lt h)
theorem lt_B_lt (G : lt_G R E p) {w x : Nat} (hw : w < R) (h : lt_B E w x) : x < R := h (fun z => z < R) hw (fun a b he _ _ => (G.2.2.1 a b he).1)
theorem lt_B_mono {w u x : Nat} (h : lt_B E u x) (hu : lt_B E w u) (hw : w ≤ u) : lt_B E w x := h (fun z => lt_B E w z) hu (fun a b he hb hl => lt_B_step hb he (by omega))
/-- the tree's way from u down to v lies in B w, if it lies above w -/
theorem lt_B_tree (G : lt_G R E p) {w : Nat} : ∀ (v u : Nat), v < R → lt_anc p u v → w < u → lt_B E w v → lt_B E w u := by
  intro v
  induction v using Nat.strongRecOn with
  | ind v ih =>
    intro u hv ha hw hB
    rcases lt_anc_cases ha with rfl | ⟨h0, h1⟩
    · exact hB
    · have hp := G.1 v h0 hv
      have hle := lt_anc_le G.1 (by omega) h1
      exact ih (p v) hp u (by omega) h1 hw (lt_B_step hB (G.2.1 v h0 hv) (by omega))
theorem lt_B_cases (G : lt_G R E p) {w x : Nat} (hw : w < R) (h : lt_B E w x) : x = w ∨ ∃ v u, E v w ∧ w < v ∧ w < u ∧ lt_anc p u v ∧ lt_B E u x := by
  refine h (fun x => x = w ∨ ∃ v u, E v w ∧ w < v ∧ w < u ∧ lt_anc p u v ∧ lt_B E u x) (Or.inl rfl) ?_
  intro a b he hb hl
  rcases hb with rfl | ⟨v, u, h1, h2, h3, h4, h5⟩
  · exact Or.inr ⟨a, a, he, hl, hl, lt_anc_refl p a, lt_B_self a⟩
  · have hvR := (G.2.2.1 _ _ h1).1
    have huR : u < R := by have := lt_anc_le G.1 hvR h4; omega
    have hb := lt_B_ge h5
    have hbR := lt_B_lt G huR h5
    rcases Nat.lt_trichotomy a u with hc | hc | hc
    · have h6 := G.2.2.2.1 a b he (by omega)
      have h7 := G.2.2.2.2 a u b (by omega) hb hbR h6
      exact Or.inr ⟨v, a, h1, h2, hl, lt_anc_trans h7 h4, lt_B_self a⟩
    · subst hc
      exact Or.inr ⟨v, a, h1, h2, hl, h4, lt_B_self a⟩
    · exact Or.inr ⟨v, u, h1, h2, h3, h4, lt_B_step h5 he hc⟩
end
/-- s is the table of semidominators, by the rule that the algorithm follows -/
def lt_Semi (R : Nat) (E : Nat → Nat → Prop) (p s : Nat → Nat) : Prop := ∀ w, 0 < w → w < R →
  (∀ v, E v w → v ≤ w → s w ≤ v) ∧ (∀ v u, E v w → w < v → lt_anc p u v → w < u → s w ≤ s u) ∧
  ((∃ v, E v w ∧ v < w ∧ s w = v) ∨ ∃ v u, E v w ∧ w < v ∧ lt_anc p u v ∧ w < u ∧ s w = s u)
section
variable {R : Nat} {E : Nat → Nat → Prop} {p s : Nat → Nat}
theorem lt_semi_min (G : lt_G R E p) (hs : lt_Semi R E p s) : ∀ (d w : Nat), R - w = d → 0 < w → w < R → ∀ x y, lt_B E w x → E y x → y ≤ w → s w ≤ y := by
  intro d
  induction d using Nat.strongRecOn with
  | ind d ih =>
    intro w hd h0 hw x y hB he hy
    obtain ⟨s1, s2, -⟩ := hs w h0 hw
    rcases lt_B_cases G hw hB with rfl | ⟨v, u, h1, h2, h3, h4, h5⟩
    · exact s1 y he hy
    · have hvR := (G.2.2.1 _ _ h1).1
      have huR : u < R := by have := lt_anc_le G.1 hvR h4; omega
      exact Nat.le_trans (s2 v u h1 h2 h4 h3) (ih (R - u) (by omega) u rfl (by omega) huR x y h5 he (by omega))
theorem lt_semi_lt (G : lt_G R E p) (hs : lt_Semi R E p s) {w : Nat} (h0 : 0 < w) (hw : w < R) : s w < w := by
  have := (hs w h0 hw).1 (p w) (G.2.1 w h0 hw) (by have := G.1 w h0 hw; omega)
  have := G.1 w h0 hw
  omega
theorem lt_semi_path (G : lt_G R E p) (hs : lt_Semi R E p s) : ∀ (d w : Nat), R - w = d → 0 < w → w < R → ∃ x, lt_B E w x ∧ E (s w) x := by
  intro d
  induction d using Nat.strongRecOn with
  | ind d ih =>
    intro w hd h0 hw
    rcases (hs w h0 hw).2.2 with ⟨v, h1, h2, h3⟩ | ⟨v, u, h1, h2, h3, h4, h5⟩
    · exact ⟨w, lt_B_self w, by rw [h3]; exact h1⟩
    · have hvR := (G.2.2.1 _ _ h1).1
      have huR : u < R := by have := lt_anc_le G.1 hvR h3; omega
      obtain ⟨x, g1, g2⟩ := ih (R - u) (by omega) u rfl (by omega) huR
      have k1 : lt_B E w v := lt_B_step (lt_B_self w) h1 h2
      have k2 : lt_B E w u := lt_B_tree G v u hvR h3 h4 k1
      exact ⟨x, lt_B_mono g1 k2 (by omega), by rw [h5]; exact g2⟩
theorem lt_semi_anc (G : lt_G R E p) (hs : lt_Semi R E p s) {w : Nat} (h0 : 0 < w) (hw : w < R) : lt_anc p (s w) w := by
  obtain ⟨x, h1, h2⟩ := lt_semi_path G hs _ w rfl h0 hw
  have h3 := lt_semi_lt G hs h0 hw
  have h4 := lt_B_ge h1
  exact G.2.2.2.2 (s w) w x (by omega) h4 (lt_B_lt G hw h1) (G.2.2.2.1 _ _ h2 (by omega))
theorem lt_av_tree (G : lt_G R E p) {a y : Nat} (ha : lt_av E a y) : ∀ (w : Nat), w < R → lt_anc p y w → (∀ z, lt_anc p z w → y < z → z ≠ a) → lt_av E a w := by
  intro w
  induction w using Nat.strongRecOn with
  | ind w ih =>
    intro hw h1 h2
    rcases lt_anc_cases h1 with rfl | ⟨h0, h3⟩
    · exact ha
    · have hp := G.1 w h0 hw
      have hle := lt_anc_le G.1 (by omega) h3
      exact lt_av_step (ih (p w) hp (by omega) h3 (fun z hz => h2 z (lt_anc_up h0 hz))) (G.2.1 w h0 hw) (h2 w (lt_anc_refl p w) (by omega))
theorem lt_av_semi (G : lt_G R E p) (hs : lt_Semi R E p s) {a w : Nat} (h0 : 0 < w) (hw : w < R) (haw : a < w) (ha : lt_av E a (s w)) : lt_av E a w := by
  obtain ⟨x, h1, h2⟩ := lt_semi_path G hs _ w rfl h0 hw
  have h4 := lt_B_ge h1
  have h5 := h1 (fun z => w ≤ z ∧ (lt_av E a z → lt_av E a w)) ⟨Nat.le_refl _, id⟩ (fun c b he hb hl => ⟨by omega, fun hc => hb.2 (lt_av_step hc he (by omega))⟩)
  exact h5.2 (lt_av_step ha h2 (by omega))
/-- the way into the part below lo -/
theorem lt_Z_pred (G : lt_G R E p) (hs : lt_Semi R E p s) {w lo mm : Nat} (hw : w < R) (hlo : lo < w) (hla : lt_anc p lo w) (hm : ∀ u, lo < u → lt_anc p u w → mm ≤ s u) {x y : Nat} (hx : ∃ u, lo < u ∧ lt_anc p u w ∧ lt_B E u x) (he : E y x) : (∃ u, lo < u ∧ lt_anc p u w ∧ lt_B E u y) ∨ (mm ≤ y ∧ y ≤ lo ∧ lt_anc p y lo) := by
  obtain ⟨u, h1, h2, h3⟩ := hx
  have huR : u < R := by have := lt_anc_le G.1 hw h2; omega
  have hxu := lt_B_ge h3
  have hxR := lt_B_lt G huR h3
  rcases Nat.lt_trichotomy u y with hc | hc | hc
  · exact Or.inl ⟨u, h1, h2, lt_B_step h3 he hc⟩
  · subst hc
    exact Or.inl ⟨u, h1, h2, lt_B_self u⟩
  · have k1 := lt_semi_min G hs _ u rfl (by omega) huR x y h3 he (by omega)
    have k2 := hm u h1 h2
    have k3 := G.2.2.2.2 y u x (by omega) hxu hxR (G.2.2.2.1 y x he (by omega))
    have k4 := lt_anc_trans k3 h2
    rcases Nat.lt_or_ge lo y with hd | hd
    · exact Or.inl ⟨y, hd, k4, lt_B_self y⟩
    · exact Or.inr ⟨by omega, hd, G.2.2.2.2 y lo w hd (by omega) hw k4⟩
/-- THE THEOREM: i made by the rule is the nearest strict dominator -/
theorem lt_main (G : lt_G R E p) (hs : lt_Semi R E p s) (i : Nat → Nat) (hi : ∀ w, 0 < w → w < R → ∃ u, s w < u ∧ lt_anc p u w ∧ (∀ u', s w < u' → lt_anc p u' w → s u ≤ s u') ∧ (s u < s w → i w = i u) ∧ (s w ≤ s u → i w = s w)) :
    ∀ w, 0 < w → w < R → i w < w ∧ lt_anc p (i w) (s w) ∧ ∀ a, 0 < a → a ≠ w → (lt_av E a w ↔ lt_av E a (i w)) := by
  intro w
  induction w using Nat.strongRecOn with
  | ind w ih =>
    intro h0 hw
    obtain ⟨u, h1, h2, h3, h4, h5⟩ := hi w h0 hw
    have hsw := lt_semi_lt G hs h0 hw
    have hsa := lt_semi_anc G hs h0 hw
    have huw := lt_anc_le G.1 hw h2
    rcases Nat.lt_or_ge (s u) (s w) with hc | hc
    · -- the second case: the dominator of u
      have hne : u ≠ w := fun h => by rw [h] at hc; omega
      have hu0 : 0 < u := by omega
      have huR : u < R := by omega
      obtain ⟨k1, k2, k3⟩ := ih u (by omega) hu0 huR
      rw [h4 hc]
      have hsu := lt_semi_anc G hs hu0 huR
      have hsuw : lt_anc p (s u) (s w) := G.2.2.2.2 (s u) (s w) w (by omega) (by omega) hw (lt_anc_trans hsu h2)
      have hisw : lt_anc p (i u) (s w) := lt_anc_trans k2 hsuw
      have his : i u ≤ s u := lt_anc_le G.1 (by omega) k2
      refine ⟨by omega, hisw, ?_⟩
      intro a ha0 haw
      constructor
      · intro hav
        rcases Nat.eq_zero_or_pos (i u) with hz | hz
        · rw [hz]; exact lt_av_zero a
        · refine Classical.byContradiction fun hno => ?_
          have g1 : lt_av E (i u) w := lt_av_trans hav hno
          have g2 : ¬ lt_av E (i u) u := fun h => lt_av_ne hz ((k3 (i u) hz (by omega)).mp h) rfl
          have g3 := g1 (fun x => lt_av E (i u) x ∧ ¬ ∃ u', s w < u' ∧ lt_anc p u' w ∧ lt_B E u' x) ⟨lt_av_zero _, by rintro ⟨u', q1, q2, q3⟩; have := lt_B_ge q3; omega⟩ (by
            rintro y x ⟨q1, q2⟩ he hn
            refine ⟨lt_av_step q1 he hn, fun hx => ?_⟩
            rcases lt_Z_pred G hs hw hsw hsa h3 hx he with q3 | ⟨q3, q4, q5⟩
            · exact q2 q3
            · refine g2 (lt_av_tree G q1 u huR ?_ ?_)
              · exact G.2.2.2.2 y u w (by omega) (by omega) hw (lt_anc_trans q5 hsa)
              · intro z _ hz2
                omega)
          exact g3.2 ⟨w, hsw, lt_anc_refl p w, lt_B_self w⟩
      · intro hav
        by_cases hax : lt_anc p a w ∧ i u < a
        · obtain ⟨q1, q2⟩ := hax
          have q3 := lt_anc_le G.1 hw q1
          rcases Nat.lt_or_ge a u with hd | hd
          · have q4 : lt_av E a u := (k3 a ha0 (by omega)).mpr hav
            exact lt_av_tree G q4 w hw h2 (fun z _ hz => by omega)
          · have q4 : lt_av E a (s w) := lt_av_tree G hav (s w) (by omega) hisw (fun z hz _ => by have := lt_anc_le G.1 (by omega) hz; omega)
            exact lt_av_semi G hs h0 hw (by omega) q4
        · exact lt_av_tree G hav w hw (lt_anc_trans hisw hsa) (fun z hz hl h => hax ⟨h ▸ hz, h ▸ hl⟩)
    · -- the first case: the semidominator
      rw [h5 hc]
      refine ⟨hsw, lt_anc_refl p _, ?_⟩
      intro a ha0 haw
      constructor
      · intro hav
        rcases Nat.eq_zero_or_pos (s w) with hz | hz
        · rw [hz]; exact lt_av_zero a
        · refine Classical.byContradiction fun hno => ?_
          have g1 : lt_av E (s w) w := lt_av_trans hav hno
          have g3 := g1 (fun x => x ≠ s w ∧ ¬ ∃ u', s w < u' ∧ lt_anc p u' w ∧ lt_B E u' x) ⟨by omega, by rintro ⟨u', q1, q2, q3⟩; have := lt_B_ge q3; omega⟩ (by
            rintro y x ⟨q1, q2⟩ he hn
            refine ⟨hn, fun hx => ?_⟩
            rcases lt_Z_pred G hs hw hsw hsa (mm := s w) (fun u' r1 r2 => Nat.le_trans hc (h3 u' r1 r2)) hx he with q3 | ⟨q3, q4, q5⟩
            · exact q2 q3
            · exact q1 (by omega))
          exact g3.2 ⟨w, hsw, lt_anc_refl p w, lt_B_self w⟩
      · intro hav
        by_cases hax : lt_anc p a w ∧ s w < a
        · obtain ⟨q1, q2⟩ := hax
          have q3 := lt_anc_le G.1 hw q1
          exact lt_av_semi G hs h0 hw (by omega) hav
        · exact lt_av_tree G hav w hw hsa (fun z hz hl h => hax ⟨h ▸ hz, h ▸ hl⟩)
end
end
section
/-! PLAIN LAW 2: numbers, bits, sums; the rows b_* of the first family are the kit's (laws/BITS) -/
def bt (x : Int32) (i : Nat) : Bool := x.toBitVec.getLsbD i
theorem b_ext {x y : Int32} (h : ∀ i, i < 32 → bt x i = bt y i) : x = y := Int32.toBitVec_inj.mp (BitVec.eq_of_getLsbD_eq (fun i hi => h i hi))
theorem b_or (x y : Int32) (i : Nat) : bt (x ||| y) i = (bt x i || bt y i) := by unfold bt; rw [Int32.toBitVec_or, BitVec.getLsbD_or]
theorem b_and (x y : Int32) (i : Nat) : bt (x &&& y) i = (bt x i && bt y i) := by unfold bt; rw [Int32.toBitVec_and, BitVec.getLsbD_and]
theorem b_xor (x y : Int32) (i : Nat) : bt (x ^^^ y) i = (bt x i ^^ bt y i) := by unfold bt; rw [Int32.toBitVec_xor, BitVec.getLsbD_xor]
theorem b_m1 : ∀ i, i < 32 → bt (-1) i = true := by decide +kernel
theorem b_0 (i : Nat) : bt 0 i = false := BitVec.getLsbD_zero
theorem s_l : ∀ n, n < 32 → ((nI n &&& 31).toBitVec.smod 32).toNat = n := by decide +kernel
theorem s_u : ∀ n, n < 32 → (((nI n).toUInt32 &&& Int32.toUInt32 31).toBitVec % 32).toNat = n := by decide +kernel
theorem b_shl (n : Nat) (hn : n < 32) (x : Int32) {i : Nat} (hi : i < 32) : bt (x <<< (nI n &&& 31)) i = (decide (n ≤ i) && bt x (i - n)) := by
  unfold bt
  rw [Int32.toBitVec_shiftLeft]
  show (x.toBitVec <<< ((nI n &&& 31).toBitVec.smod 32).toNat).getLsbD i = _
  rw [s_l n hn, BitVec.getLsbD_shiftLeft]
  rcases Nat.lt_or_ge i n with h | h
  · simp [h, Nat.not_le.mpr h]
  · simp [hi, h, Nat.not_lt.mpr h]
theorem b_ushr (n : Nat) (hn : n < 32) (x : Int32) (i : Nat) : bt ((x.toUInt32 >>> ((nI n).toUInt32 &&& Int32.toUInt32 31)).toInt32) i = bt x (n + i) := by
  show (x.toUInt32 >>> ((nI n).toUInt32 &&& Int32.toUInt32 31)).toBitVec.getLsbD i = x.toUInt32.toBitVec.getLsbD (n + i)
  rw [UInt32.toBitVec_shiftRight]
  show (x.toUInt32.toBitVec >>> (((nI n).toUInt32 &&& Int32.toUInt32 31).toBitVec % 32).toNat).getLsbD i = _
  rw [s_u n hn, BitVec.getLsbD_ushiftRight]
theorem b_1 : ∀ i, i < 32 → bt 1 i = decide (i = 0) := by decide +kernel
/-- the lowest bit alone -/
theorem b_and1 (y : Int32) : y &&& 1 = if bt y 0 then 1 else 0 := by
  apply b_ext
  intro i hi
  rw [b_and, b_1 i hi]
  by_cases h0 : i = 0
  · subst h0
    cases h : bt y 0
    · simp [b_0]
    · simp [b_1]
  · cases h : bt y 0
    · simp [h0, b_0]
    · simp [h0, b_1 i hi]
theorem b_tst (m : Int32) {i : Nat} (hi : i < 32) : (kt_ushr m (nI i)) &&& 1 = if bt m i then 1 else 0 := by
  rw [b_and1, kt_ushr, b_ushr i hi]
  rfl
theorem b_tst0 (m : Int32) {i : Nat} (hi : i < 32) : ((kt_ushr m (nI i)) &&& 1) = 0 ↔ bt m i = false := by
  rw [b_tst m hi]
  cases bt m i <;> simp
theorem b_one (k : Nat) (hk : k < 32) {i : Nat} (hi : i < 32) : bt (kt_shl 1 (nI k)) i = decide (i = k) := by
  rw [kt_shl, b_shl k hk 1 hi]
  by_cases h : k ≤ i
  · rw [b_1 (i - k) (by omega)]
    by_cases h2 : i = k
    · subst h2; simp
    · have : i - k ≠ 0 := by omega
      simp [h2, this]
  · have : i ≠ k := by omega
    simp [h, this]
/-- the bit k cleared -/
theorem b_clr (m : Int32) (k : Nat) (hk : k < 32) {i : Nat} (hi : i < 32) : bt (m &&& ((kt_shl 1 (nI k)) ^^^ (-1))) i = (bt m i && !decide (i = k)) := by
  rw [b_and, b_xor, b_one k hk hi, b_m1 i hi]
  simp
theorem b_set (m : Int32) (k : Nat) (hk : k < 32) {i : Nat} (hi : i < 32) : bt (m ||| (kt_shl 1 (nI k))) i = (bt m i || decide (i = k)) := by
  rw [b_or, b_one k hk hi]
theorem b_flp (m : Int32) (k : Nat) (hk : k < 32) {i : Nat} (hi : i < 32) : bt (m ^^^ (kt_shl 1 (nI k))) i = (bt m i ^^ decide (i = k)) := by
  rw [b_xor, b_one k hk hi]
theorem kt_ixn {j : Nat} (h : j < 2 ^ 31) : kt_ix (nI j) = j := nI_clamp h
theorem kt_ixs {j : Nat} (h : j < 300) : kt_ix (nI j) = j := nI_clamp (by omega)
theorem kt_chkn {α : Type} {j n : Nat} {k : Option α} (h : j < n) (hn : n < 2 ^ 31 := by decide) : kt_chk (nI j) n k = k := by
  unfold kt_chk
  rw [if_neg (nI_in h hn)]
theorem kt_rd (σ : KSt) (k i : Nat) (x : Int32) (k' i' : Nat) : kt_st σ k i x k' i' = if k' = k ∧ i' = i then x else σ k' i' := by
  unfold kt_st
  by_cases h : k' = k
  · subst h
    rw [Nat.beq_refl]
    by_cases h2 : i' = i
    · subst h2; simp [upd]
    · simp [upd, h2]
  · have : Nat.beq k' k = false := by
      cases hb : Nat.beq k' k
      · rfl
      · exact absurd (Nat.eq_of_beq_eq_true hb) h
    rw [this]
    simp [h]
theorem kt_rd_ne {σ : KSt} {k i k' i' : Nat} {x : Int32} (h : k' ≠ k) : kt_st σ k i x k' i' = σ k' i' := by
  rw [kt_rd, if_neg (fun q => h q.1)]
theorem kt_rd_eq {σ : KSt} {k i : Nat} {x : Int32} : kt_st σ k i x k i = x := by
  rw [kt_rd, if_pos ⟨rfl, rfl⟩]
theorem kt_rd_ni {σ : KSt} {k i i' : Nat} {x : Int32} (h : i' ≠ i) : kt_st σ k i x k i' = σ k i' := by
  rw [kt_rd, if_neg (fun q => h q.2)]
theorem nI_m1 {a : Nat} : nI (a + 1) - 1 = nI a := nI_pred a
theorem nI_a1 (a : Nat) : nI a + 1 = nI (a + 1) := nI_1 a
theorem nI_n0 : (-1 : Int32) < 0 := by decide
theorem nI_ltm {a : Nat} (h : a < 2 ^ 31) : ¬ nI a < 0 := nI_pos h
theorem nI_ne_m1 {a : Nat} (h : a < 2 ^ 31) : nI a ≠ -1 := fun e => nI_pos h (by rw [e]; decide)
theorem nI_inj {a b : Nat} (ha : a < 2 ^ 31) (hb : b < 2 ^ 31) (h : nI a = nI b) : a = b := (nI_eq ha hb).mp h
/-- sums -/
def kt_sum (f : Nat → Nat) : Nat → Nat
  | 0 => 0
  | n + 1 => kt_sum f n + f n
theorem kt_sum_cg {f g : Nat → Nat} : ∀ {n : Nat}, (∀ i, i < n → f i = g i) → kt_sum f n = kt_sum g n
  | 0, _ => rfl
  | n + 1, h => by
    show kt_sum f n + f n = kt_sum g n + g n
    rw [kt_sum_cg (fun i hi => h i (by omega)), h n (by omega)]
theorem kt_sum_add {f g h : Nat → Nat} : ∀ {n : Nat}, (∀ i, i < n → f i = g i + h i) → kt_sum f n = kt_sum g n + kt_sum h n
  | 0, _ => rfl
  | n + 1, e => by
    show kt_sum f n + f n = kt_sum g n + g n + (kt_sum h n + h n)
    rw [kt_sum_add (fun i hi => e i (by omega)), e n (by omega)]
    omega
theorem kt_sum_le {f : Nat → Nat} {c : Nat} : ∀ {n : Nat}, (∀ i, i < n → f i ≤ c) → kt_sum f n ≤ c * n
  | 0, _ => Nat.zero_le _
  | n + 1, h => by
    show kt_sum f n + f n ≤ c * (n + 1)
    have h1 := kt_sum_le (n := n) (fun i hi => h i (by omega))
    have h2 := h n (by omega)
    rw [Nat.mul_add]
    omega
theorem kt_sum_0 {f : Nat → Nat} : ∀ {n : Nat}, (∀ i, i < n → f i = 0) → kt_sum f n = 0
  | 0, _ => rfl
  | n + 1, h => by
    show kt_sum f n + f n = 0
    rw [kt_sum_0 (fun i hi => h i (by omega)), h n (by omega)]
theorem kt_sum_one {a : Nat} : ∀ {n : Nat}, a < n → kt_sum (fun i => if i = a then 1 else 0) n = 1
  | 0, h => absurd h (by omega)
  | n + 1, h => by
    show kt_sum (fun i => if i = a then 1 else 0) n + (if n = a then 1 else 0) = 1
    by_cases e : n = a
    · rw [if_pos e, kt_sum_0 (fun i hi => if_neg (by omega))]
    · rw [if_neg e, kt_sum_one (by omega)]
theorem kt_sum_pt {a v : Nat} : ∀ {n : Nat}, a < n → kt_sum (fun i => if i = a then v else 0) n = v
  | 0, h => absurd h (by omega)
  | n + 1, h => by
    show kt_sum (fun i => if i = a then v else 0) n + (if n = a then v else 0) = v
    by_cases e : n = a
    · rw [if_pos e, kt_sum_0 (fun i hi => if_neg (by omega)), Nat.zero_add]
    · rw [if_neg e, kt_sum_pt (by omega), Nat.add_zero]
/-- the set bits below 16 -/
def kt_cnt (m : Int32) : Nat := kt_sum (fun i => if bt m i then 1 else 0) 16
theorem kt_cnt_le (m : Int32) : kt_cnt m ≤ 16 := by
  have := kt_sum_le (f := fun i => if bt m i then 1 else 0) (c := 1) (n := 16) (fun i _ => by split <;> omega)
  unfold kt_cnt
  omega
theorem kt_cnt_clr (m : Int32) {k : Nat} (hk : k < 16) (hb : bt m k = true) : kt_cnt m = kt_cnt (m &&& ((kt_shl 1 (nI k)) ^^^ (-1))) + 1 := by
  unfold kt_cnt
  have e := kt_sum_add (f := fun i => if bt m i then 1 else 0) (g := fun i => if bt (m &&& ((kt_shl 1 (nI k)) ^^^ (-1))) i then 1 else 0) (h := fun i => if i = k then 1 else 0) (n := 16) (fun i hi => by
    rw [b_clr m k (by omega) (by omega)]
    by_cases h : i = k
    · subst h; simp [hb]
    · simp [h])
  rw [e, kt_sum_one hk]
-- lowestOf
theorem kt_lo_loop (m : Int32) : ∀ (n i : Nat), i ≤ 16 → 16 < i + n → ∃ r, k_lowestOf_2 m n (nI i) = some r ∧ ((∃ j, j < 16 ∧ bt m j = true ∧ r = .inl (nI j)) ∨ (∃ z, r = .inr z ∧ ∀ j, i ≤ j → j < 16 → bt m j = false)) := by
  intro n
  induction n with
  | zero => intro i h1 h2; omega
  | succ n ih =>
    intro i h1 h2
    rw [k_lowestOf_2]
    rcases Nat.lt_or_ge i 16 with h | h
    · rw [if_neg (show ¬ ((16 : Int32) ≤ nI i) from nI_ge (b := 16) h (by omega))]
      by_cases hb : bt m i = true
      · rw [if_neg (fun q => by rw [b_tst0 m (by omega)] at q; rw [hb] at q; cases q)]
        exact ⟨_, rfl, Or.inl ⟨i, h, hb, rfl⟩⟩
      · have hb : bt m i = false := by cases h : bt m i; rfl; exact absurd h hb
        rw [if_pos ((b_tst0 m (by omega)).mpr hb), nI_a1]
        obtain ⟨r, e, q⟩ := ih (i + 1) (by omega) (by omega)
        refine ⟨r, e, ?_⟩
        rcases q with q | ⟨z, q1, q2⟩
        · exact Or.inl q
        · refine Or.inr ⟨z, q1, fun j hj1 hj2 => ?_⟩
          rcases Nat.lt_or_ge i j with hj | hj
          · exact q2 j hj hj2
          · rw [show j = i by omega]; exact hb
    · rw [if_pos (show (16 : Int32) ≤ nI i from nI_le (a := 16) h (by omega))]
      exact ⟨_, rfl, Or.inr ⟨_, rfl, fun j h1 h2 => by omega⟩⟩
theorem kt_lo (m : Int32) {N : Nat} (hN : 16 < N) : ∃ r, k_lowestOf N m = some r ∧ ((∃ j, j < 16 ∧ bt m j = true ∧ r = nI j) ∨ (r = -1 ∧ ∀ j, j < 16 → bt m j = false)) := by
  obtain ⟨r, e, q⟩ := kt_lo_loop m N 0 (by omega) (by omega)
  rw [k_lowestOf]
  rw [show nI 0 = 0 from rfl] at e
  rw [e]
  rcases q with ⟨j, h1, h2, rfl⟩ | ⟨z, rfl, h⟩
  · exact ⟨nI j, rfl, Or.inl ⟨j, h1, h2, rfl⟩⟩
  · exact ⟨-1, rfl, Or.inr ⟨rfl, fun j hj => h j (by omega) hj⟩⟩
end
section
/-! PLAIN LAW 3: the linked forest with its labels; numbers from c on are linked -/
def lt_FI (R : Nat) (p : Nat → Nat) (c : Nat) (s lab an : Nat → Nat) : Prop :=
  (∀ i, i < c → i < R → lab i = i) ∧ ∀ x, c ≤ x → x < R → lt_anc p (an x) x ∧ an x < x ∧ (∀ u, lt_anc p u x → an x < u → c ≤ u) ∧ lt_anc p (lab x) x ∧ an x < lab x ∧ ∀ u, lt_anc p u x → an x < u → s (lab x) ≤ s u
def lt_ID (p s : Nat → Nat) (v i : Nat) : Prop := ∃ u, s v < u ∧ lt_anc p u v ∧ (∀ u', s v < u' → lt_anc p u' v → s u ≤ s u') ∧ ((s u < s v ∧ i = u) ∨ (s v ≤ s u ∧ i = s v))
section
variable {R : Nat} {E : Nat → Nat → Prop} {p s lab an : Nat → Nat} {c : Nat}
theorem lt_FI_comp (G : lt_G R E p) (F : lt_FI R p c s lab an) {y l' : Nat} (hy : c ≤ y) (hyR : y < R) (hab : c ≤ an y) (hl : (l' = lab y ∧ s (lab y) ≤ s (lab (an y))) ∨ (l' = lab (an y) ∧ s (lab (an y)) < s (lab y))) : lt_FI R p c s (va_up lab y l') (va_up an y (an (an y))) := by
  obtain ⟨F1, F2⟩ := F
  refine ⟨fun i h1 h2 => ?_, fun x h1 h2 => ?_⟩
  · unfold va_up
    rw [if_neg (by omega)]
    exact F1 i h1 h2
  · by_cases hx : x = y
    · subst hx
      obtain ⟨a1, a2, a3, a4, a5, a6⟩ := F2 x h1 h2
      obtain ⟨b1, b2, b3, b4, b5, b6⟩ := F2 (an x) hab (by omega)
      simp only [va_up, if_pos]
      have low : ∀ u, lt_anc p u x → u ≤ an x → lt_anc p u (an x) := fun u hu hle => G.2.2.2.2 u (an x) x hle (by omega) h2 hu
      refine ⟨lt_anc_trans b1 a1, by omega, fun u hu hl2 => ?_, ?_, ?_, fun u hu hl2 => ?_⟩
      · rcases Nat.lt_or_ge (an x) u with q | q
        · exact a3 u hu q
        · exact b3 u (low u hu q) hl2
      · rcases hl with ⟨rfl, _⟩ | ⟨rfl, _⟩
        · exact a4
        · exact lt_anc_trans b4 a1
      · rcases hl with ⟨rfl, _⟩ | ⟨rfl, _⟩
        · omega
        · exact b5
      · rcases Nat.lt_or_ge (an x) u with q | q
        · have := a6 u hu q
          rcases hl with ⟨rfl, _⟩ | ⟨rfl, _⟩ <;> omega
        · have := b6 u (low u hu q) hl2
          rcases hl with ⟨rfl, _⟩ | ⟨rfl, _⟩ <;> omega
    · simp only [va_up, if_neg hx]
      exact F2 x h1 h2
theorem lt_FI_link (G : lt_G R E p) {w : Nat} (h0 : 0 < w) (hw : w < R) (F : lt_FI R p (w + 1) s lab an) : lt_FI R p w s lab (va_up an w (p w)) := by
  obtain ⟨F1, F2⟩ := F
  refine ⟨fun i h1 h2 => F1 i (by omega) h2, fun x h1 h2 => ?_⟩
  by_cases hx : x = w
  · subst hx
    have hl := F1 x (by omega) hw
    have hp := G.1 x h0 hw
    simp only [va_up, if_pos]
    rw [hl]
    have only : ∀ u, lt_anc p u x → p x < u → u = x := fun u hu hl2 => by
      rcases lt_anc_cases hu with q | ⟨_, q⟩
      · exact q
      · have := lt_anc_le G.1 (by omega) q
        omega
    exact ⟨lt_anc_p h0, hp, fun u hu hl2 => by rw [only u hu hl2]; exact Nat.le_refl _, lt_anc_refl p x, hp, fun u hu hl2 => by rw [only u hu hl2]; exact Nat.le_refl _⟩
  · simp only [va_up, if_neg hx]
    obtain ⟨a1, a2, a3, a4, a5, a6⟩ := F2 x (by omega) h2
    exact ⟨a1, a2, fun u hu hl => by have := a3 u hu hl; omega, a4, a5, a6⟩
theorem lt_FI_s {s' : Nat → Nat} (F : lt_FI R p c s lab an) (h : ∀ i, c ≤ i → i < R → s' i = s i) (hp : ∀ w, 0 < w → w < R → p w < w) : lt_FI R p c s' lab an := by
  obtain ⟨F1, F2⟩ := F
  refine ⟨F1, fun x h1 h2 => ?_⟩
  obtain ⟨a1, a2, a3, a4, a5, a6⟩ := F2 x h1 h2
  refine ⟨a1, a2, a3, a4, a5, fun u hu hl => ?_⟩
  have q1 := lt_anc_le hp h2 a4
  have q2 := lt_anc_le hp h2 hu
  rw [h (lab x) (a3 _ a4 a5) (by omega), h u (a3 u hu hl) (by omega)]
  exact a6 u hu hl
theorem lt_child (hp : ∀ w, 0 < w → w < R → p w < w) {q : Nat} : ∀ (v : Nat), v < R → lt_anc p q v → q ≠ v → ∃ x, 0 < x ∧ x < R ∧ p x = q ∧ lt_anc p x v := by
  intro v
  induction v using Nat.strongRecOn with
  | ind v ih =>
    intro hv ha hn
    rcases lt_anc_cases ha with h | ⟨h0, h1⟩
    · exact absurd h hn
    · by_cases hq : q = p v
      · exact ⟨v, h0, hv, hq.symm, lt_anc_refl p v⟩
      · obtain ⟨x, g1, g2, g3, g4⟩ := ih (p v) (hp v h0 hv) (by have := hp v h0 hv; omega) h1 hq
        exact ⟨x, g1, g2, g3, lt_anc_up h0 g4⟩
theorem lt_bucket (G : lt_G R E p) {w v u : Nat} (h0 : 0 < w) (hwv : w ≤ v) (hv : v < R) (hu : lt_anc p u v) (hq : p w < u) : w ≤ u := by
  refine Classical.byContradiction fun hc => ?_
  have h1 := G.2.2.2.2 u w v (by omega) hwv hv hu
  rcases lt_anc_cases h1 with h | ⟨_, h⟩
  · omega
  · have := lt_anc_le G.1 (by have := G.1 w h0 (by omega); omega) h
    omega
/-- the last pass: what the table of dominators holds behind number k -/
def lt_Hi (p s g : Nat → Nat) (w : Nat) : Prop := ∃ u, s w < u ∧ lt_anc p u w ∧ (∀ u', s w < u' → lt_anc p u' w → s u ≤ s u') ∧ (s u < s w → g w = g u) ∧ (s w ≤ s u → g w = s w)
theorem lt_Hi_keep (hp : ∀ w, 0 < w → w < R → p w < w) {g : Nat → Nat} {w k x : Nat} (hw : w < k) (hk : k ≤ R) (h : lt_Hi p s g w) : lt_Hi p s (va_up g k x) w := by
  obtain ⟨u, h1, h2, h3, h4, h5⟩ := h
  have := lt_anc_le hp (by omega) h2
  refine ⟨u, h1, h2, h3, fun q => ?_, fun q => ?_⟩
  · simp only [va_up, if_neg (show w ≠ k by omega), if_neg (show u ≠ k by omega)]
    exact h4 q
  · simp only [va_up, if_neg (show w ≠ k by omega)]
    exact h5 q
theorem lt_Hi_same {g : Nat → Nat} {k : Nat} (h : lt_ID p s k (g k)) (e : g k = s k) : lt_Hi p s g k := by
  obtain ⟨u, h1, h2, h3, h4⟩ := h
  refine ⟨u, h1, h2, h3, fun q => ?_, fun q => e⟩
  rcases h4 with ⟨_, h4⟩ | ⟨h4, _⟩ <;> omega
theorem lt_Hi_new (hp : ∀ w, 0 < w → w < R → p w < w) {g : Nat → Nat} {k : Nat} (hk : k < R) (h : lt_ID p s k (g k)) (e : g k ≠ s k) : lt_Hi p s (va_up g k (g (g k))) k ∧ g k < k ∧ s k < g k := by
  obtain ⟨u, h1, h2, h3, h4⟩ := h
  rcases h4 with ⟨h4, h5⟩ | ⟨_, h5⟩
  · have hu := lt_anc_le hp hk h2
    have hne : u ≠ k := fun q => by rw [q] at h4; omega
    refine ⟨⟨u, h1, h2, h3, fun q => ?_, fun q => by omega⟩, by omega, by omega⟩
    simp only [va_up, if_pos, if_neg hne]
    rw [h5]
  · exact absurd h5 e
end
end
section
/-! PLAIN LAW 4: evaluate -/
def kd_A (R c : Nat) (s lab an : Nat → Nat) (σ : KSt) : Prop := (∀ i, i < R → σ 10 i = nI (s i) ∧ s i < R) ∧ (∀ i, i < R → σ 13 i = nI (lab i) ∧ lab i < R) ∧ (∀ i, c ≤ i → i < R → σ 12 i = nI (an i) ∧ an i < R) ∧ (∀ i, i < c → i < R → σ 12 i = -1)
theorem nI_am1 (i : Nat) : nI i + (-1) = nI i - 1 := by rw [Int32.sub_eq_add_neg]
theorem nI_0m1 : nI 0 - 1 = -1 := by decide
theorem kt_c17 {i : Nat} (h : i < 17) : ¬ ((17 : Int32) ≤ nI i) := nI_ge (b := 17) h (by omega)
theorem kt_z (i : Nat) (h : i < 300) : (0 : Int32) ≤ nI i := nI_pos' (by omega)
theorem kt_nz (i : Nat) (h : i < 300) : ¬ nI i < 0 := nI_pos (by omega)
section
variable {R : Nat} {E : Nat → Nat → Prop} {p s : Nat → Nat} {c : Nat}
theorem kd_ev1 (hR : R ≤ 17) (x1 : Int32) {lab an : Nat → Nat} (F : lt_FI R p c s lab an) : ∀ (n k : Nat) (σ : KSt) (pt : Nat → Nat), kd_A R c s lab an σ → (∀ j, j < k → σ 14 j = nI (pt j)) → (∀ j, j < k → an (pt j) = pt (j + 1)) → (∀ j, j ≤ k → c ≤ pt j ∧ pt j < R ∧ pt j + j ≤ 16) → 17 < n + k →
    ∃ (k' : Nat) (σ' : KSt) (pt' : Nat → Nat), k_evaluate_23 x1 n (nI k) (nI (pt k)) (nI k) σ = some (nI k', nI (pt' k'), nI k', σ') ∧ kd_A R c s lab an σ' ∧ (∀ j, j < k' → σ' 14 j = nI (pt' j)) ∧ (∀ j, j < k' → an (pt' j) = pt' (j + 1)) ∧ (∀ j, j ≤ k' → c ≤ pt' j ∧ pt' j < R ∧ pt' j + j ≤ 16) ∧ pt' 0 = pt 0 ∧ an (pt' k') < c ∧ (∀ q, q ≠ 14 → σ' q = σ q) := by
  intro n
  induction n with
  | zero => intro k σ pt _ _ _ h4 h5; have := h4 k (Nat.le_refl k); omega
  | succ n ih =>
    intro k σ pt hA h2 h3 h4 h5
    obtain ⟨g1, g2, g3⟩ := h4 k (Nat.le_refl k)
    have hk : k ≤ 16 := by omega
    obtain ⟨f1, f2, -, -, -, -⟩ := F.2 (pt k) g1 g2
    have e1 : σ 12 (pt k) = nI (an (pt k)) := (hA.2.2.1 _ g1 g2).1
    have e0 : an (pt k) < R := (hA.2.2.1 _ g1 g2).2
    rw [k_evaluate_23, if_neg (kt_c17 (by omega)), kt_chkn (by omega), kt_ixs (by omega), e1, kt_chkn (by omega), kt_ixs (by omega)]
    rcases Nat.lt_or_ge (an (pt k)) c with hc | hc
    · rw [hA.2.2.2 _ hc e0, if_pos nI_n0]
      exact ⟨k, σ, pt, rfl, hA, h2, h3, h4, rfl, hc, fun _ _ => rfl⟩
    · have e2 := hA.2.2.1 _ hc e0
      rw [e2.1, if_neg (kt_nz _ (by omega)), kt_chkn (by omega), kt_chkn (by omega), kt_ixs (by omega), kt_nm, nI_a1]
      have hA' : kd_A R c s lab an (kt_st σ 14 k (nI (pt k))) := by
        refine ⟨fun i hi => ?_, fun i hi => ?_, fun i hi hi2 => ?_, fun i hi hi2 => ?_⟩
        · rw [kt_rd_ne (by decide)]; exact hA.1 i hi
        · rw [kt_rd_ne (by decide)]; exact hA.2.1 i hi
        · rw [kt_rd_ne (by decide)]; exact hA.2.2.1 i hi hi2
        · rw [kt_rd_ne (by decide)]; exact hA.2.2.2 i hi hi2
      have hpk : va_up pt (k + 1) (an (pt k)) (k + 1) = an (pt k) := if_pos rfl
      have hpo : ∀ j, j ≤ k → va_up pt (k + 1) (an (pt k)) j = pt j := fun j hj => if_neg (by omega)
      obtain ⟨k', σ', pt', r1, r2, r3, r4, r5, r6, r7, r8⟩ := ih (k + 1) (kt_st σ 14 k (nI (pt k))) (va_up pt (k + 1) (an (pt k))) hA' (fun j hj => by
          rw [hpo j (by omega)]
          by_cases q : j = k
          · subst q; rw [kt_rd_eq]
          · rw [kt_rd_ni q]; exact h2 j (by omega)) (fun j hj => by
          rw [hpo j (by omega)]
          by_cases q : j = k
          · subst q; rw [hpk]
          · rw [hpo (j + 1) (by omega)]; exact h3 j (by omega)) (fun j hj => by
          by_cases q : j = k + 1
          · subst q; rw [hpk]; omega
          · rw [hpo j (by omega)]; exact h4 j (by omega)) (by omega)
      rw [hpk] at r1
      refine ⟨k', σ', pt', r1, r2, r3, r4, r5, by rw [r6, hpo 0 (by omega)], r7, fun q hq => ?_⟩
      rw [r8 q hq]
      funext i
      exact kt_rd_ne hq
theorem kd_ev2 (hR : R ≤ 17) (G : lt_G R E p) (x1 : Int32) {pt : Nat → Nat} {k rt : Nat} (hk : k ≤ 16) (hrt : rt < c) (hpt : ∀ j, j ≤ k → c ≤ pt j ∧ pt j < R) (hdec : ∀ i j, i < j → j ≤ k → pt j < pt i) : ∀ (n i : Nat) (σ : KSt) (lab an : Nat → Nat), lt_FI R p c s lab an → kd_A R c s lab an σ → (∀ j, j < k → σ 14 j = nI (pt j)) → (∀ j, j < i → an (pt j) = pt (j + 1)) → (∀ j, i ≤ j → j ≤ k → an (pt j) = rt) → i ≤ k → i < n →
    ∃ (r : Int32 × KSt) (lab' an' : Nat → Nat), k_evaluate_72 x1 n (nI i - 1) σ = some r ∧ lt_FI R p c s lab' an' ∧ kd_A R c s lab' an' r.2 ∧ an' (pt 0) = rt ∧ (∀ q, q ≠ 12 → q ≠ 13 → r.2 q = σ q) := by
  intro n
  induction n with
  | zero => intro i σ lab an _ _ _ _ _ _ h; omega
  | succ n ih =>
    intro i σ lab an F hA h1 h2 h3 h4 h5
    rcases Nat.eq_zero_or_pos i with rfl | hi
    · rw [k_evaluate_72, nI_0m1, if_pos nI_n0]
      exact ⟨_, lab, an, rfl, F, hA, h3 0 (Nat.le_refl _) (Nat.zero_le _), fun _ _ _ => rfl⟩
    · obtain ⟨i, rfl⟩ : ∃ j, i = j + 1 := ⟨i - 1, by omega⟩
      have gy := hpt i (by omega)
      have gab := hpt (i + 1) (by omega)
      have ey : σ 14 i = nI (pt i) := h1 i (by omega)
      have ea : an (pt i) = pt (i + 1) := h2 i (by omega)
      have e12 : σ 12 (pt i) = nI (pt (i + 1)) := by rw [(hA.2.2.1 _ gy.1 gy.2).1, ea]
      have e12b : σ 12 (pt (i + 1)) = nI rt := by rw [(hA.2.2.1 _ gab.1 gab.2).1, h3 (i + 1) (by omega) (by omega)]
      have l1 := hA.2.1 _ gy.2
      have l2 := hA.2.1 _ gab.2
      have s1 := hA.1 _ l1.2
      have s2 := hA.1 _ l2.2
      rw [k_evaluate_72, nI_m1, if_neg (kt_nz _ (by omega)), kt_chkn (by omega), kt_ixs (by omega), ey, kt_nm, kt_chkn (by omega), kt_ixs (by omega), e12, kt_nm, kt_chkn (by omega), kt_ixs (by omega), l2.1, kt_chkn (by omega), kt_chkn (by omega), l1.1, kt_chkn (by omega), kt_ixs (by omega), kt_ixs (by omega), s1.1, s2.1, e12b, nI_am1]
      have hne : ∀ j, j ≤ k → j ≠ i → pt j ≠ pt i := fun j hj hn => by
        rcases Nat.lt_or_ge j i with q | q
        · have := hdec j i q (by omega); omega
        · have := hdec i j (by omega) hj; omega
      have hrtR : rt < R := by omega
      have fin : ∀ (l' : Nat) (σ1 : KSt), l' < R → ((l' = lab (pt i) ∧ s (lab (pt i)) ≤ s (lab (an (pt i)))) ∨ (l' = lab (an (pt i)) ∧ s (lab (an (pt i))) < s (lab (pt i)))) → (∀ j, σ1 13 j = if j = pt i then nI l' else σ 13 j) → (∀ j, σ1 12 j = if j = pt i then nI rt else σ 12 j) → (∀ q, q ≠ 12 → q ≠ 13 → σ1 q = σ q) → ∃ (r : Int32 × KSt) (lab' an' : Nat → Nat), k_evaluate_72 x1 n (nI i - 1) σ1 = some r ∧ lt_FI R p c s lab' an' ∧ kd_A R c s lab' an' r.2 ∧ an' (pt 0) = rt ∧ (∀ q, q ≠ 12 → q ≠ 13 → r.2 q = σ q) := by
        intro l' σ1 hl' hl k13 k12 krest
        have F' := lt_FI_comp G F gy.1 gy.2 (by rw [ea]; exact gab.1) hl
        have eaa : an (an (pt i)) = rt := by rw [ea]; exact h3 (i + 1) (by omega) (by omega)
        rw [eaa] at F'
        obtain ⟨r, lab', an', r1, r2, r3, r4, r5⟩ := ih i σ1 (va_up lab (pt i) l') (va_up an (pt i) rt) F' (by
          refine ⟨fun j hj => ?_, fun j hj => ?_, fun j hj hj2 => ?_, fun j hj hj2 => ?_⟩
          · rw [krest 10 (by decide) (by decide)]; exact hA.1 j hj
          · rw [k13 j]
            unfold va_up
            by_cases q : j = pt i
            · rw [if_pos q, if_pos q]; exact ⟨rfl, hl'⟩
            · rw [if_neg q, if_neg q]; exact hA.2.1 j hj
          · rw [k12 j]
            unfold va_up
            by_cases q : j = pt i
            · rw [if_pos q, if_pos q]; exact ⟨rfl, hrtR⟩
            · rw [if_neg q, if_neg q]; exact hA.2.2.1 j hj hj2
          · rw [k12 j, if_neg (by omega)]; exact hA.2.2.2 j hj hj2) (fun j hj => by rw [krest 14 (by decide) (by decide)]; exact h1 j hj) (fun j hj => by
            unfold va_up
            rw [if_neg (hne j (by omega) (by omega))]; exact h2 j (by omega)) (fun j hj hj2 => by
            unfold va_up
            by_cases q : pt j = pt i
            · rw [if_pos q]
            · rw [if_neg q]
              have : j ≠ i := fun e => q (by rw [e])
              exact h3 j (by omega) hj2) (by omega) (by omega)
        exact ⟨r, lab', an', r1, r2, r3, r4, fun q hq1 hq2 => by rw [r5 q hq1 hq2, krest q hq1 hq2]⟩
      by_cases hcmp : s (lab (pt i)) ≤ s (lab (pt (i + 1)))
      · rw [if_pos (nI_le hcmp (by omega)), kt_chkn (by omega), kt_nm, kt_chkn (by omega)]
        refine fin (lab (pt i)) _ l1.2 (Or.inl ⟨rfl, by rw [ea]; exact hcmp⟩) (fun j => ?_) (fun j => ?_) (fun q hq1 hq2 => ?_)
        · rw [kt_rd_ne (by decide)]
          by_cases q : j = pt i
          · rw [if_pos q, q, l1.1]
          · rw [if_neg q]
        · rw [kt_rd]; simp
        · funext j; exact kt_rd_ne hq1
      · rw [if_neg (fun q => hcmp ((nI_leI (by omega) (by omega)).mp q)), kt_chkn (by omega), kt_nm, kt_chkn (by omega), kt_chkn (by omega), kt_nm, kt_chkn (by omega)]
        refine fin (lab (pt (i + 1))) _ l2.2 (Or.inr ⟨by rw [ea], by rw [ea]; omega⟩) (fun j => ?_) (fun j => ?_) (fun q hq1 hq2 => ?_)
        · rw [kt_rd_ne (by decide), kt_rd]; simp
        · rw [kt_rd]
          by_cases q : j = pt i
          · rw [if_pos ⟨rfl, q⟩, if_pos q]
          · rw [if_neg (fun z => q z.2), if_neg q, kt_rd_ne (by decide)]
        · funext j; rw [kt_rd_ne hq1, kt_rd_ne hq2]
theorem kd_eval (hR : R ≤ 17) (G : lt_G R E p) {lab an : Nat → Nat} {σ : KSt} {v N : Nat} (F : lt_FI R p c s lab an) (hA : kd_A R c s lab an σ) (hv : v < R) (hN : 17 < N) :
    ∃ (u : Nat) (σ' : KSt) (lab' an' : Nat → Nat), k_evaluate N σ (nI v) = some (nI u, σ') ∧ lt_FI R p c s lab' an' ∧ kd_A R c s lab' an' σ' ∧ (∀ q, q ≠ 12 → q ≠ 13 → q ≠ 14 → σ' q = σ q) ∧ u < R ∧ (v < c → u = v) ∧ (c ≤ v → lt_anc p u v ∧ c ≤ u ∧ ∀ u', lt_anc p u' v → c ≤ u' → s u ≤ s u') := by
  rw [k_evaluate, kt_chkn (by omega), kt_ixs (by omega)]
  have hl := hA.2.1 v hv
  rcases Nat.lt_or_ge v c with hc | hc
  · rw [hA.2.2.2 v hc hv, if_neg (by decide), kt_chkn (by omega), hl.1, F.1 v hc hv]
    exact ⟨v, σ, lab, an, rfl, F, hA, fun _ _ _ _ => rfl, hv, fun _ => rfl, fun h => by omega⟩
  · rw [(hA.2.2.1 v hc hv).1, if_pos (kt_z _ (by have := (hA.2.2.1 v hc hv).2; omega))]
    obtain ⟨k', σ1, pt, r1, r2, r3, r4, r5, r6, r7, r8⟩ := kd_ev1 hR (nI v) F N 0 σ (fun _ => v) hA (fun j hj => by omega) (fun j hj => by omega) (fun j hj => ⟨hc, hv, by omega⟩) (by omega)
    rw [show nI 0 = 0 from rfl] at r1
    have hk16 : k' ≤ 16 := by have := r5 k' (Nat.le_refl _); omega
    have hst : ∀ j, j < k' → pt (j + 1) < pt j := fun j hj => by
      have q := r5 j (by omega)
      have := (F.2 (pt j) q.1 q.2.1).2.1
      rw [r4 j hj] at this
      exact this
    have hdec : ∀ d i, i + d + 1 ≤ k' → pt (i + d + 1) < pt i := by
      intro d
      induction d with
      | zero => intro i h; exact hst i (by omega)
      | succ d ihd =>
        intro i h
        have h1 := ihd i (by omega)
        have h2 := hst (i + d + 1) (by omega)
        have h3 : i + (d + 1) + 1 = i + d + 1 + 1 := by omega
        rw [h3]
        omega
    obtain ⟨r, lab', an', q1, q2, q3, q4, q5⟩ := kd_ev2 hR G (nI v) (pt := pt) (k := k') (rt := an (pt k')) hk16 r7 (fun j hj => ⟨(r5 j hj).1, (r5 j hj).2.1⟩) (fun i j h1 h2 => by
      have := hdec (j - i - 1) i (by omega)
      rw [show i + (j - i - 1) + 1 = j by omega] at this
      exact this) N k' σ1 lab an F r2 r3 r4 (fun j h1 h2 => by rw [show j = k' by omega]) (Nat.le_refl _) (by omega)
    rw [r1]
    show ∃ u σ' lab' an', (kt_nm (nI k' - 1) fun y5 => (k_evaluate_72 (nI v) N y5 σ1).bind fun a7 => kt_chk (nI v) 17 (some (a7.2 13 v, a7.2))) = some (nI u, σ') ∧ _
    rw [kt_nm, q1]
    show ∃ u σ' lab' an', kt_chk (nI v) 17 (some (r.2 13 v, r.2)) = some (nI u, σ') ∧ _
    rw [kt_chkn (by omega), (q3.2.1 v hv).1]
    have hp0 : pt 0 = v := r6
    have hq := q2.2 v hc hv
    rw [hp0] at q4
    rw [q4] at hq
    obtain ⟨b1, b2, b3, b4, b5, b6⟩ := hq
    refine ⟨lab' v, r.2, lab', an', rfl, q2, q3, fun q h1 h2 h3 => by rw [q5 q h1 h2, r8 q h3], (q3.2.1 v hv).2, fun h => by omega, fun _ => ⟨b4, b3 _ b4 b5, fun u' hu' hc' => b6 u' hu' (by omega)⟩⟩
end
end
section
/-! PLAIN LAW 5: findSemi, emptyBucket, findDominators -/
/-- edges between numbers -/
def kd_E (R : Nat) (e : Nat → Nat → Bool) (ord : Nat → Nat) (a b : Nat) : Prop := a < R ∧ b < R ∧ 0 < b ∧ e (ord a) (ord b) = true
/-- what numberVertices left, as the later passes read it -/
def kd_G (R : Nat) (e : Nat → Nat → Bool) (ord p : Nat → Nat) (σ : KSt) : Prop := σ 4 0 = nI R ∧ (∀ i, i < R → σ 6 i = nI (ord i) ∧ ord i < 17) ∧ (∀ i, 0 < i → i < R → ord i < 16) ∧ (∀ i, 0 < i → i < R → σ 7 i = nI (p i)) ∧ (∀ v w, v < 17 → w < 16 → bt (σ 1 v) w = e v w)
theorem kd_G_keep {R : Nat} {e : Nat → Nat → Bool} {ord p : Nat → Nat} {σ σ' : KSt} (h : kd_G R e ord p σ) (h1 : σ' 1 = σ 1) (h4 : σ' 4 = σ 4) (h6 : σ' 6 = σ 6) (h7 : σ' 7 = σ 7) : kd_G R e ord p σ' := by
  unfold kd_G
  rw [h1, h4, h6, h7]
  exact h
def lt_SA (E : Nat → Nat → Prop) (p s : Nat → Nat) (w : Nat) : Prop := (∀ v, E v w → v ≤ w → s w ≤ v) ∧ (∀ v u, E v w → w < v → lt_anc p u v → w < u → s w ≤ s u) ∧ ((∃ v, E v w ∧ v < w ∧ s w = v) ∨ ∃ v u, E v w ∧ w < v ∧ lt_anc p u v ∧ w < u ∧ s w = s u)
/-- the state of findSemi's loop: numbers below v are looked at -/
def kd_J (E : Nat → Nat → Prop) (p s : Nat → Nat) (w v : Nat) : Prop := s w ≤ w ∧ (∀ v', v' < v → E v' w → v' ≤ w → s w ≤ v') ∧ (∀ v' u, v' < v → E v' w → w < v' → lt_anc p u v' → w < u → s w ≤ s u) ∧ (s w = w ∨ (∃ v', E v' w ∧ v' < w ∧ s w = v') ∨ ∃ v' u, E v' w ∧ w < v' ∧ lt_anc p u v' ∧ w < u ∧ s w = s u)
section
variable {R : Nat} {e : Nat → Nat → Bool} {ord p : Nat → Nat} {N : Nat}
theorem kd_A_keep {c : Nat} {s lab an : Nat → Nat} {σ σ' : KSt} (h : kd_A R c s lab an σ) (h1 : σ' 10 = σ 10) (h2 : σ' 12 = σ 12) (h3 : σ' 13 = σ 13) : kd_A R c s lab an σ' := by
  unfold kd_A
  rw [h1, h2, h3]
  exact h
theorem kd_fs (hR : R ≤ 17) (G : lt_G R (kd_E R e ord) p) (hN : 17 < N) {w : Nat} (h0 : 0 < w) (hw : w < R) : ∀ (n v : Nat) (σ : KSt) (s lab an : Nat → Nat), kd_G R e ord p σ → lt_FI R p (w + 1) s lab an → kd_A R (w + 1) s lab an σ → (∀ i, i < w → s i = i) → kd_J (kd_E R e ord) p s w v → v ≤ R → R < n + v →
    ∃ (r : Int32 × KSt) (s' lab' an' : Nat → Nat), k_findSemi_9 N (nI w) (nI (ord w)) n (nI v) σ = some r ∧ (∀ i, i ≠ w → s' i = s i) ∧ lt_FI R p (w + 1) s' lab' an' ∧ kd_A R (w + 1) s' lab' an' r.2 ∧ kd_J (kd_E R e ord) p s' w R ∧ (∀ q, q ≠ 10 → q ≠ 12 → q ≠ 13 → q ≠ 14 → r.2 q = σ q) := by
  intro n
  induction n with
  | zero => intro v σ s lab an _ _ _ _ _ h1 h2; omega
  | succ n ih =>
    intro v σ s lab an hG F hA hsi J hv hn
    rw [k_findSemi_9, hG.1]
    rcases Nat.lt_or_ge v R with hvR | hvR
    · have ho := hG.2.1 v hvR
      have how := hG.2.2.1 w h0 hw
      rw [if_neg (nI_ge hvR (by omega)), kt_chkn (by omega), kt_ixs (by omega), ho.1, kt_chkn (by omega), kt_ixs (by omega)]
      have hb := hG.2.2.2.2 (ord v) (ord w) ho.2 how
      by_cases hE : e (ord v) (ord w) = true
      · have hEv : kd_E R e ord v w := ⟨hvR, hw, h0, hE⟩
        rw [if_neg (fun q => by rw [b_tst0 _ (by omega), hb, hE] at q; cases q)]
        obtain ⟨u, σ1, lab1, an1, e1, F1, A1, k1, huR, hu1, hu2⟩ := kd_eval hR G F hA hvR hN
        have sw := A1.1 w hw
        have su := A1.1 u huR
        simp only [e1, Option.bind_some]
        rw [kt_chkn (by omega), kt_chkn (by omega), kt_ixs (by omega), kt_ixs (by omega), sw.1, su.1]
        have hG1 : kd_G R e ord p σ1 := kd_G_keep hG (k1 1 (by decide) (by decide) (by decide)) (k1 4 (by decide) (by decide) (by decide)) (k1 6 (by decide) (by decide) (by decide)) (k1 7 (by decide) (by decide) (by decide))
        obtain ⟨J1, J2, J3, J4⟩ := J
        by_cases hcmp : s w ≤ s u
        · rw [if_pos (nI_le hcmp (by omega)), nI_a1]
          have J' : kd_J (kd_E R e ord) p s w (v + 1) := by
            refine ⟨J1, fun v' h1 h2 h3 => ?_, fun v' u' h1 h2 h3 h4 h5 => ?_, J4⟩
            · rcases Nat.lt_or_ge v' v with q | q
              · exact J2 v' q h2 h3
              · have hvv : v' = v := by omega
                subst hvv
                have := hu1 (by omega)
                subst this
                rcases Nat.lt_or_ge u w with q2 | q2
                · have := hsi u q2; omega
                · omega
            · rcases Nat.lt_or_ge v' v with q | q
              · exact J3 v' u' q h2 h3 h4 h5
              · have hvv : v' = v := by omega
                subst hvv
                exact Nat.le_trans hcmp ((hu2 (by omega)).2.2 u' h4 (by omega))
          obtain ⟨r, s', lab', an', r1, r2, r3, r4, r5, r6⟩ := ih (v + 1) σ1 s lab1 an1 hG1 F1 A1 hsi J' (by omega) (by omega)
          exact ⟨r, s', lab', an', r1, r2, r3, r4, r5, fun q h1 h2 h3 h4 => by rw [r6 q h1 h2 h3 h4, k1 q h2 h3 h4]⟩
        · rw [if_neg (fun q => hcmp ((nI_leI (by omega) (by omega)).mp q)), kt_chkn (by omega), kt_nm, kt_chkn (by omega), nI_a1]
          have hne : u ≠ w := fun q => hcmp (by rw [q]; exact Nat.le_refl _)
          have hsn : ∀ i, i ≠ w → va_up s w (s u) i = s i := fun i hi => if_neg hi
          have hsw : va_up s w (s u) w = s u := if_pos rfl
          have F2 : lt_FI R p (w + 1) (va_up s w (s u)) lab1 an1 := lt_FI_s F1 (fun i h1 h2 => hsn i (by omega)) G.1
          have A2 : kd_A R (w + 1) (va_up s w (s u)) lab1 an1 (kt_st σ1 10 w (nI (s u))) := by
            refine ⟨fun i hi => ?_, fun i hi => ?_, fun i hi hi2 => ?_, fun i hi hi2 => ?_⟩
            · by_cases q : i = w
              · subst q; rw [hsw, kt_rd_eq]; exact ⟨rfl, su.2⟩
              · rw [hsn i q, kt_rd_ni q]; exact A1.1 i hi
            · rw [kt_rd_ne (by decide)]; exact A1.2.1 i hi
            · rw [kt_rd_ne (by decide)]; exact A1.2.2.1 i hi hi2
            · rw [kt_rd_ne (by decide)]; exact A1.2.2.2 i hi hi2
          have hG2 : kd_G R e ord p (kt_st σ1 10 w (nI (s u))) := kd_G_keep hG1 (by funext j; exact kt_rd_ne (by decide)) (by funext j; exact kt_rd_ne (by decide)) (by funext j; exact kt_rd_ne (by decide)) (by funext j; exact kt_rd_ne (by decide))
          have J' : kd_J (kd_E R e ord) p (va_up s w (s u)) w (v + 1) := by
            unfold kd_J
            rw [hsw]
            refine ⟨by omega, fun v' h1 h2 h3 => ?_, fun v' u' h1 h2 h3 h4 h5 => ?_, ?_⟩
            · rcases Nat.lt_or_ge v' v with q | q
              · have := J2 v' q h2 h3; omega
              · have hvv : v' = v := by omega
                subst hvv
                have := hu1 (by omega)
                subst this
                have := hsi u (by omega)
                omega
            · rw [hsn u' (by omega)]
              rcases Nat.lt_or_ge v' v with q | q
              · have := J3 v' u' q h2 h3 h4 h5; omega
              · have hvv : v' = v := by omega
                subst hvv
                exact (hu2 (by omega)).2.2 u' h4 (by omega)
            · right
              rcases Nat.lt_or_ge w v with q | q
              · right
                obtain ⟨g1, g2, g3⟩ := hu2 (by omega)
                exact ⟨v, u, hEv, q, g1, by omega, (hsn u hne).symm⟩
              · left
                have := hu1 (by omega)
                subst this
                exact ⟨u, hEv, by omega, hsi u (by omega)⟩
          obtain ⟨r, s', lab', an', r1, r2, r3, r4, r5, r6⟩ := ih (v + 1) _ (va_up s w (s u)) lab1 an1 hG2 F2 A2 (fun i hi => by rw [hsn i (by omega)]; exact hsi i hi) J' (by omega) (by omega)
          refine ⟨r, s', lab', an', r1, fun i hi => by rw [r2 i hi, hsn i hi], r3, r4, r5, fun q h1 h2 h3 h4 => ?_⟩
          rw [r6 q h1 h2 h3 h4, ← k1 q h2 h3 h4]
          funext j
          exact kt_rd_ne h1
      · have hE' : e (ord v) (ord w) = false := by cases h : e (ord v) (ord w); rfl; exact absurd h hE
        rw [if_pos (by rw [b_tst0 _ (by omega), hb, hE']), nI_a1]
        obtain ⟨J1, J2, J3, J4⟩ := J
        have J' : kd_J (kd_E R e ord) p s w (v + 1) := by
          refine ⟨J1, fun v' h1 h2 h3 => ?_, fun v' u' h1 h2 h3 h4 h5 => ?_, J4⟩
          · rcases Nat.lt_or_ge v' v with q | q
            · exact J2 v' q h2 h3
            · rw [show v' = v by omega] at h2
              exact absurd h2.2.2.2 hE
          · rcases Nat.lt_or_ge v' v with q | q
            · exact J3 v' u' q h2 h3 h4 h5
            · rw [show v' = v by omega] at h2
              exact absurd h2.2.2.2 hE
        exact ih (v + 1) σ s lab an hG F hA hsi J' (by omega) (by omega)
    · rw [if_pos (nI_le hvR (by omega))]
      have : v = R := by omega
      subst this
      exact ⟨_, s, lab, an, rfl, fun _ _ => rfl, F, hA, J, fun _ _ _ _ _ => rfl⟩
theorem kd_findSemi (hR : R ≤ 17) (G : lt_G R (kd_E R e ord) p) (hN : 17 < N) {w : Nat} (h0 : 0 < w) (hw : w < R) {σ : KSt} {s lab an : Nat → Nat} (hG : kd_G R e ord p σ) (F : lt_FI R p (w + 1) s lab an) (hA : kd_A R (w + 1) s lab an σ) (hsi : ∀ i, i ≤ w → s i = i) :
    ∃ (σ' : KSt) (s' lab' an' : Nat → Nat), k_findSemi N σ (nI w) = some σ' ∧ (∀ i, i ≠ w → s' i = s i) ∧ lt_FI R p (w + 1) s' lab' an' ∧ kd_A R (w + 1) s' lab' an' σ' ∧ lt_SA (kd_E R e ord) p s' w ∧ (∀ q, q ≠ 10 → q ≠ 12 → q ≠ 13 → q ≠ 14 → σ' q = σ q) := by
  obtain ⟨r, s', lab', an', r1, r2, r3, r4, r5, r6⟩ := kd_fs hR G hN h0 hw N 0 σ s lab an hG F hA (fun i hi => hsi i (by omega)) ⟨by rw [hsi w (by omega)]; exact Nat.le_refl _, fun v' h => by omega, fun v' u h => by omega, Or.inl (hsi w (by omega))⟩ (Nat.zero_le _) (by omega)
  rw [show nI 0 = 0 from rfl] at r1
  rw [k_findSemi, kt_chkn (by omega), kt_nm, kt_ixs (by omega), (hG.2.1 w hw).1]
  simp only [r1, Option.bind_some]
  refine ⟨r.2, s', lab', an', rfl, r2, r3, r4, ?_, r6⟩
  obtain ⟨J1, J2, J3, J4⟩ := r5
  have hE : kd_E R e ord (p w) w := G.2.1 w h0 hw
  have hp := G.1 w h0 hw
  have := J2 (p w) (by omega) hE (by omega)
  refine ⟨fun v hv hl => J2 v hv.1 hv hl, fun v u hv hl => J3 v u hv.1 hv hl, ?_⟩
  rcases J4 with h | h
  · omega
  · exact h
/-- a bucket's chain -/
def kd_ch (f : Nat → Int32) : Int32 → List Nat → Prop
  | h, [] => h = -1
  | h, x :: l => h = nI x ∧ kd_ch f (f x) l
theorem kd_ch_cg {f g : Nat → Int32} : ∀ {l : List Nat} {h : Int32}, (∀ x, x ∈ l → g x = f x) → kd_ch f h l → kd_ch g h l
  | [], _, _, h => h
  | x :: l, _, e, h => ⟨h.1, by
    rw [e x List.mem_cons_self]
    exact kd_ch_cg (fun y hy => e y (List.mem_cons_of_mem _ hy)) h.2⟩
theorem kd_eb (hR : R ≤ 17) (G : lt_G R (kd_E R e ord) p) (hN : 17 < N) {w : Nat} (h0 : 0 < w) (hw : w < R) {s : Nat → Nat} : ∀ (n : Nat) (l : List Nat) (stp : Nat) (h : Int32) (σ : KSt) (lab an : Nat → Nat), kd_ch (σ 16) h l → l.Pairwise (· < ·) → (∀ x, x ∈ l → w ≤ x ∧ x < R ∧ s x = p w ∧ stp < x) → lt_FI R p w s lab an → kd_A R w s lab an σ → stp ≤ 16 → 17 < n + stp →
    ∃ (r : Int32 × Int32 × KSt) (lab' an' : Nat → Nat), k_emptyBucket_9 N (nI (p w)) n h (nI stp) σ = some r ∧ lt_FI R p w s lab' an' ∧ kd_A R w s lab' an' r.2.2 ∧ (∀ q, q ≠ 11 → q ≠ 12 → q ≠ 13 → q ≠ 14 → r.2.2 q = σ q) ∧ (∀ i, i ∉ l → r.2.2 11 i = σ 11 i) ∧ (∀ x, x ∈ l → ∃ i, r.2.2 11 x = nI i ∧ i < R ∧ lt_ID p s x i) := by
  intro n
  induction n with
  | zero => intro l stp h σ lab an _ _ _ _ _ h1 h2; omega
  | succ n ih =>
    intro l stp h σ lab an hch hpw hl F hA hst hn
    rw [k_emptyBucket_9, if_neg (kt_c17 (by omega))]
    cases l with
    | nil =>
      rw [show h = -1 from hch, if_pos nI_n0]
      exact ⟨_, lab, an, rfl, F, hA, fun _ _ _ _ _ => rfl, fun _ _ => rfl, fun x hx => by cases hx⟩
    | cons v l =>
      obtain ⟨hh, hch⟩ := hch
      obtain ⟨g1, g2, g3, g4⟩ := hl v List.mem_cons_self
      have hpl := List.pairwise_cons.mp hpw
      rw [hh, if_neg (kt_nz _ (by omega))]
      obtain ⟨u, σ1, lab1, an1, e1, F1, A1, k1, huR, hu1, hu2⟩ := kd_eval hR G F hA g2 hN
      obtain ⟨q1, q2, q3⟩ := hu2 g1
      have sv := A1.1 v g2
      have su := A1.1 u huR
      have hpw0 := G.1 w h0 hw
      simp only [e1, Option.bind_some]
      rw [kt_chkn (by omega), kt_chkn (by omega), kt_ixs (by omega), kt_ixs (by omega), sv.1, su.1]
      have fin : ∀ i, i < R → lt_ID p s v i → ∃ (r : Int32 × Int32 × KSt) (lab' an' : Nat → Nat), k_emptyBucket_9 N (nI (p w)) n (σ1 16 v) (nI (stp + 1)) (kt_st σ1 11 v (nI i)) = some r ∧ lt_FI R p w s lab' an' ∧ kd_A R w s lab' an' r.2.2 ∧ (∀ q, q ≠ 11 → q ≠ 12 → q ≠ 13 → q ≠ 14 → r.2.2 q = σ q) ∧ (∀ i, i ∉ v :: l → r.2.2 11 i = σ 11 i) ∧ (∀ x, x ∈ v :: l → ∃ i, r.2.2 11 x = nI i ∧ i < R ∧ lt_ID p s x i) := by
        intro i hi hid
        have k16 : kt_st σ1 11 v (nI i) 16 = σ 16 := by
          rw [← k1 16 (by decide) (by decide) (by decide)]
          funext j; exact kt_rd_ne (by decide)
        obtain ⟨r, lab', an', r1, r2, r3, r4, r5, r6⟩ := ih l (stp + 1) (σ1 16 v) (kt_st σ1 11 v (nI i)) lab1 an1 (by
            rw [k16, k1 16 (by decide) (by decide) (by decide)]; exact hch) hpl.2 (fun x hx => by
            have h1 := hl x (List.mem_cons_of_mem _ hx)
            have h2 := hpl.1 x hx
            exact ⟨h1.1, h1.2.1, h1.2.2.1, by omega⟩) F1 (kd_A_keep A1 (by funext j; exact kt_rd_ne (by decide)) (by funext j; exact kt_rd_ne (by decide)) (by funext j; exact kt_rd_ne (by decide))) (by omega) (by omega)
        have hvl : v ∉ l := fun hx => by have := hpl.1 v hx; omega
        refine ⟨r, lab', an', r1, r2, r3, fun q h1 h2 h3 h4 => ?_, fun j hj => ?_, fun x hx => ?_⟩
        · rw [r4 q h1 h2 h3 h4, ← k1 q h2 h3 h4]
          funext j; exact kt_rd_ne h1
        · rw [r5 j (fun z => hj (List.mem_cons_of_mem _ z)), kt_rd_ni (fun z => hj (by rw [z]; exact List.mem_cons_self)), k1 11 (by decide) (by decide) (by decide)]
        · rcases List.mem_cons.mp hx with rfl | hx
          · exact ⟨i, by rw [r5 x hvl, kt_rd_eq], hi, hid⟩
          · exact r6 x hx
      have hall : ∀ u', s v < u' → lt_anc p u' v → s u ≤ s u' := fun u' h1 h2 => q3 u' h2 (lt_bucket G h0 g1 g2 h2 (by omega))
      by_cases hcmp : s v ≤ s u
      · rw [if_pos (nI_le hcmp (by omega)), kt_chkn (by omega), kt_chkn (by omega), kt_nm, nI_a1]
        exact fin (p w) (by omega) ⟨u, by omega, q1, hall, Or.inr ⟨hcmp, g3.symm⟩⟩
      · rw [if_neg (fun q => hcmp ((nI_leI (by omega) (by omega)).mp q)), kt_chkn (by omega), kt_chkn (by omega), kt_nm, nI_a1]
        exact fin u huR ⟨u, by omega, q1, hall, Or.inl ⟨by omega, rfl⟩⟩
/-- the main loop's state: numbers from c on are done -/
def kd_M (R : Nat) (e : Nat → Nat → Bool) (ord p : Nat → Nat) (c : Nat) (s lab an : Nat → Nat) (bk : Nat → List Nat) (σ : KSt) : Prop :=
  kd_G R e ord p σ ∧ lt_FI R p c s lab an ∧ kd_A R c s lab an σ ∧ (∀ i, i < c → s i = i) ∧ (∀ w, c ≤ w → 0 < w → w < R → lt_SA (kd_E R e ord) p s w) ∧
  (∀ i, i < R → kd_ch (σ 16) (σ 15 i) (bk i) ∧ (bk i).Pairwise (· < ·)) ∧ (∀ i x, i < R → x ∈ bk i → c ≤ x ∧ x < R ∧ s x = i ∧ ∀ x', c ≤ x' → x' < R → p x' = i → ¬ lt_anc p x' x) ∧
  (∀ v, c ≤ v → 0 < v → v < R → v ∈ bk (s v) ∨ ∃ i, σ 11 v = nI i ∧ i < R ∧ lt_ID p s v i ∧ ∀ u, s v < u → lt_anc p u v → c ≤ u)
theorem lt_SA_cg {E : Nat → Nat → Prop} {s s' : Nat → Nat} {w : Nat} (h : lt_SA E p s w) (hs : ∀ i, w ≤ i → s' i = s i) : lt_SA E p s' w := by
  obtain ⟨h1, h2, h3⟩ := h
  refine ⟨fun v a b => by rw [hs w (by omega)]; exact h1 v a b, fun v u a b c d => by rw [hs w (by omega), hs u (by omega)]; exact h2 v u a b c d, ?_⟩
  rcases h3 with ⟨v, a, b, c⟩ | ⟨v, u, a, b, c, d, f⟩
  · exact Or.inl ⟨v, a, b, by rw [hs w (by omega)]; exact c⟩
  · exact Or.inr ⟨v, u, a, b, c, d, by rw [hs w (by omega), hs u (by omega)]; exact f⟩
theorem lt_ID_cg {s s' : Nat → Nat} {v i lo : Nat} (hp : ∀ w, 0 < w → w < R → p w < w) (hv : v < R) (h : lt_ID p s v i) (hs : ∀ i, i ≠ lo → s' i = s i) (hlo : ∀ u, s v < u → lt_anc p u v → u ≠ lo) (hvl : v ≠ lo) : lt_ID p s' v i := by
  obtain ⟨u, h1, h2, h3, h4⟩ := h
  have hu := hlo u h1 h2
  refine ⟨u, by rw [hs v hvl]; exact h1, h2, fun u' a b => ?_, ?_⟩
  · rw [hs v hvl] at a
    rw [hs u hu, hs u' (hlo u' a b)]
    exact h3 u' a b
  · rw [hs u hu, hs v hvl]
    exact h4
theorem kd_loop (hR : R ≤ 17) (G : lt_G R (kd_E R e ord) p) (hN : 17 < N) : ∀ (n w : Nat) (σ : KSt) (s lab an : Nat → Nat) (bk : Nat → List Nat), kd_M R e ord p (w + 1) s lab an bk σ → w < R → w < n →
    ∃ (r : Int32 × KSt) (s' lab' an' : Nat → Nat) (bk' : Nat → List Nat), k_findDominators_58 N n (nI w) σ = some r ∧ kd_M R e ord p 1 s' lab' an' bk' r.2 ∧ (∀ q, q < 10 ∨ 16 < q → r.2 q = σ q) := by
  intro n
  induction n with
  | zero => intro w σ s lab an bk _ _ h; omega
  | succ n ih =>
    intro w σ s lab an bk hM hw hn
    rcases Nat.eq_zero_or_pos w with rfl | h0
    · rw [k_findDominators_58, if_pos (show nI 0 ≤ 0 by decide)]
      exact ⟨_, s, lab, an, bk, rfl, hM, fun _ _ => rfl⟩
    · obtain ⟨hG, F, hA, hsi, hSA, hch, hbk, hid⟩ := hM
      rw [k_findDominators_58, if_neg (nI_nle h0 (by omega))]
      obtain ⟨σ1, s1, lab1, an1, e1, hs1, F1, A1, SA1, k1⟩ := kd_findSemi hR G hN h0 hw hG F hA (fun i hi => hsi i (by omega))
      have k15 := k1 15 (by decide) (by decide) (by decide) (by decide)
      have k16 := k1 16 (by decide) (by decide) (by decide) (by decide)
      have k11 := k1 11 (by decide) (by decide) (by decide) (by decide)
      have hG1 : kd_G R e ord p σ1 := kd_G_keep hG (k1 1 (by decide) (by decide) (by decide) (by decide)) (k1 4 (by decide) (by decide) (by decide) (by decide)) (k1 6 (by decide) (by decide) (by decide) (by decide)) (k1 7 (by decide) (by decide) (by decide) (by decide))
      have sw := A1.1 w hw
      have hpw := G.1 w h0 hw
      have hsw : s1 w < w := by
        have := SA1.1 (p w) (G.2.1 w h0 hw) (by omega)
        omega
      simp only [e1, Option.bind_some]
      rw [kt_chkn (by omega), kt_ixs (by omega), sw.1, kt_chkn (by omega), kt_ixs (by omega), kt_nm, kt_chkn (by omega), kt_chkn (by omega), kt_chkn (by omega), (hG1.2.2.2.1 w h0 hw), kt_chkn (by omega), kt_nm, kt_chkn (by omega), kt_chkn (by omega)]
      -- the pushed and linked state
      obtain ⟨σ2, eσ2⟩ : ∃ z, z = kt_st (kt_st (kt_st σ1 16 w (σ1 15 (s1 w))) 15 (s1 w) (nI w)) 12 w (nI (p w)) := ⟨_, rfl⟩
      rw [← eσ2]
      have c12 : ∀ i, σ2 12 i = if i = w then nI (p w) else σ1 12 i := fun i => by
        rw [eσ2, kt_rd]
        by_cases q : i = w
        · rw [if_pos ⟨rfl, q⟩, if_pos q]
        · rw [if_neg (fun z => q z.2), if_neg q, kt_rd_ne (by decide), kt_rd_ne (by decide)]
      have c15 : ∀ i, σ2 15 i = if i = s1 w then nI w else σ1 15 i := fun i => by
        rw [eσ2, kt_rd_ne (by decide), kt_rd]
        by_cases q : i = s1 w
        · rw [if_pos ⟨rfl, q⟩, if_pos q]
        · rw [if_neg (fun z => q z.2), if_neg q, kt_rd_ne (by decide)]
      have c16 : ∀ i, σ2 16 i = if i = w then σ1 15 (s1 w) else σ1 16 i := fun i => by
        rw [eσ2, kt_rd_ne (by decide), kt_rd_ne (by decide), kt_rd]
        by_cases q : i = w
        · rw [if_pos ⟨rfl, q⟩, if_pos q]
        · rw [if_neg (fun z => q z.2), if_neg q]
      have co : ∀ q, q ≠ 12 → q ≠ 15 → q ≠ 16 → σ2 q = σ1 q := fun q h1 h2 h3 => by
        funext j
        rw [eσ2, kt_rd_ne h1, kt_rd_ne h2, kt_rd_ne h3]
      have F2 := lt_FI_link G h0 hw F1
      have A2 : kd_A R w s1 lab1 (va_up an1 w (p w)) σ2 := by
        refine ⟨fun i hi => ?_, fun i hi => ?_, fun i hi hi2 => ?_, fun i hi hi2 => ?_⟩
        · rw [co 10 (by decide) (by decide) (by decide)]; exact A1.1 i hi
        · rw [co 13 (by decide) (by decide) (by decide)]; exact A1.2.1 i hi
        · rw [c12]
          unfold va_up
          by_cases q : i = w
          · rw [if_pos q, if_pos q]; exact ⟨rfl, by omega⟩
          · rw [if_neg q, if_neg q]; exact A1.2.2.1 i (by omega) hi2
        · rw [c12, if_neg (by omega)]; exact A1.2.2.2 i (by omega) hi2
      -- the buckets behind the push
      obtain ⟨bk1, ebk1⟩ : ∃ z, z = va_up bk (s1 w) (w :: bk (s1 w)) := ⟨_, rfl⟩
      have hold : ∀ i x, i < R → x ∈ bk i → w + 1 ≤ x := fun i x hi hx => (hbk i x hi hx).1
      have hch1 : ∀ i, i < R → kd_ch (σ2 16) (σ2 15 i) (bk1 i) ∧ (bk1 i).Pairwise (· < ·) := by
        intro i hi
        have keep : kd_ch (σ2 16) (σ 15 i) (bk i) := kd_ch_cg (fun x hx => by
          rw [c16, if_neg (by have := hold i x hi hx; omega), k16]) (hch i hi).1
        rw [ebk1]
        unfold va_up
        by_cases q : i = s1 w
        · subst q
          rw [if_pos rfl, c15, if_pos rfl]
          refine ⟨⟨rfl, ?_⟩, List.pairwise_cons.mpr ⟨fun x hx => by have := hold _ x hi hx; omega, (hch _ hi).2⟩⟩
          rw [c16, if_pos rfl, k15]
          exact keep
        · rw [if_neg q, c15, if_neg q, k15]
          exact ⟨keep, (hch i hi).2⟩
      have hmem1 : ∀ i x, x ∈ bk1 i → (x = w ∧ i = s1 w) ∨ x ∈ bk i := by
        intro i x hx
        rw [ebk1] at hx
        unfold va_up at hx
        by_cases q : i = s1 w
        · rw [if_pos q] at hx
          rcases List.mem_cons.mp hx with h | h
          · exact Or.inl ⟨h, q⟩
          · rw [q]; exact Or.inr h
        · rw [if_neg q] at hx
          exact Or.inr hx
      have hs1x : ∀ i x, i < R → x ∈ bk1 i → w ≤ x ∧ x < R ∧ s1 x = i := by
        intro i x hi hx
        rcases hmem1 i x hx with ⟨rfl, rfl⟩ | hx
        · exact ⟨Nat.le_refl _, hw, rfl⟩
        · have := hbk i x hi hx
          exact ⟨by omega, this.2.1, by rw [hs1 x (by omega)]; exact this.2.2.1⟩
      have hpR : p w < R := by omega
      obtain ⟨r, lab3, an3, e3, F3, A3, k3, n3, i3⟩ := kd_eb hR G hN h0 hw (s := s1) N (bk1 (p w)) 0 (σ2 15 (p w)) σ2 lab1 (va_up an1 w (p w)) (hch1 _ hpR).1 (hch1 _ hpR).2 (fun x hx => by
        have := hs1x _ x hpR hx
        exact ⟨this.1, this.2.1, this.2.2, by omega⟩) F2 A2 (by omega) (by omega)
      rw [show nI 0 = 0 from rfl] at e3
      rw [k_emptyBucket, kt_chkn (by omega), kt_ixs (by omega), kt_nm]
      simp only [e3, Option.bind_some]
      rw [kt_chkn (by omega)]
      simp only [Option.bind_some]
      rw [nI_am1]
      obtain ⟨w, rfl⟩ : ∃ z, w = z + 1 := ⟨w - 1, by omega⟩
      rw [nI_m1]
      obtain ⟨σ4, eσ4⟩ : ∃ z, z = kt_st r.2.2 15 (p (w + 1)) (-1) := ⟨_, rfl⟩
      rw [← eσ4]
      have k4 : ∀ q, q ≠ 15 → σ4 q = r.2.2 q := fun q hq => by funext j; rw [eσ4]; exact kt_rd_ne hq
      have d15 : ∀ i, σ4 15 i = if i = p (w + 1) then -1 else σ2 15 i := fun i => by
        rw [eσ4, kt_rd, k3 15 (by decide) (by decide) (by decide) (by decide)]
        by_cases q : i = p (w + 1)
        · rw [if_pos ⟨rfl, q⟩, if_pos q]
        · rw [if_neg (fun z => q z.2), if_neg q]
      have hq : ∀ q, q ≠ 10 → q ≠ 11 → q ≠ 12 → q ≠ 13 → q ≠ 14 → q ≠ 15 → q ≠ 16 → σ4 q = σ q := fun q h0 h1 h2 h3 h4 h5 h6 => by
        rw [k4 q h5, k3 q h1 h2 h3 h4, co q h2 h5 h6, k1 q h0 h2 h3 h4]
      have hM' : kd_M R e ord p (w + 1) s1 lab3 an3 (va_up bk1 (p (w + 1)) []) σ4 := by
        refine ⟨kd_G_keep hG (hq 1 (by decide) (by decide) (by decide) (by decide) (by decide) (by decide) (by decide)) (hq 4 (by decide) (by decide) (by decide) (by decide) (by decide) (by decide) (by decide)) (hq 6 (by decide) (by decide) (by decide) (by decide) (by decide) (by decide) (by decide)) (hq 7 (by decide) (by decide) (by decide) (by decide) (by decide) (by decide) (by decide)), F3, kd_A_keep A3 (k4 10 (by decide)) (k4 12 (by decide)) (k4 13 (by decide)), fun i hi => by rw [hs1 i (by omega)]; exact hsi i (by omega), ?_, ?_, ?_, ?_⟩
        · intro w' h1 h2 h3
          rcases Nat.lt_or_ge (w + 1) w' with q | q
          · exact lt_SA_cg (hSA w' (by omega) h2 h3) (fun i hi => hs1 i (by omega))
          · rw [show w' = w + 1 by omega]; exact SA1
        · intro i hi
          rw [d15, k4 16 (by decide), k3 16 (by decide) (by decide) (by decide) (by decide)]
          unfold va_up
          by_cases q : i = p (w + 1)
          · rw [if_pos q, if_pos q]; exact ⟨rfl, List.Pairwise.nil⟩
          · rw [if_neg q, if_neg q]; exact hch1 i hi
        · intro i x hi hx
          unfold va_up at hx
          by_cases q : i = p (w + 1)
          · rw [if_pos q] at hx; cases hx
          · rw [if_neg q] at hx
            have g := hs1x i x hi hx
            refine ⟨g.1, g.2.1, g.2.2, fun x' h1 h2 h3 h4 => ?_⟩
            rcases Nat.lt_or_ge (w + 1) x' with z | z
            · rcases hmem1 i x hx with ⟨rfl, rfl⟩ | hx
              · have := lt_anc_le G.1 hw h4; omega
              · exact (hbk i x hi hx).2.2.2 x' (by omega) h2 h3 h4
            · exact q (by rw [← h3]; congr 1; omega)
        · intro v h1 h2 h3
          rw [k4 11 (by decide)]
          by_cases hin : v ∈ bk1 (p (w + 1))
          · obtain ⟨i, g1, g2, g3⟩ := i3 v hin
            have g4 := hs1x _ v hpR hin
            exact Or.inr ⟨i, g1, g2, g3, fun u a b => lt_bucket G h0 g4.1 g4.2.1 b (by omega)⟩
          · rw [n3 v hin, co 11 (by decide) (by decide) (by decide), k11]
            by_cases hvw : v = w + 1
            · subst hvw
              left
              unfold va_up
              have hmem : w + 1 ∈ bk1 (s1 (w + 1)) := by rw [ebk1]; unfold va_up; rw [if_pos rfl]; exact List.mem_cons_self
              by_cases q : s1 (w + 1) = p (w + 1)
              · rw [← q] at hin; exact absurd hmem hin
              · rw [if_neg q]; exact hmem
            · rw [hs1 v hvw]
              rcases hid v (by omega) h2 h3 with h | ⟨i, g1, g2, g3, g4⟩
              · left
                unfold va_up
                have hmem : v ∈ bk1 (s v) := by
                  rw [ebk1]; unfold va_up
                  by_cases q : s v = s1 (w + 1)
                  · rw [if_pos q, ← q]; exact List.mem_cons_of_mem _ h
                  · rw [if_neg q]; exact h
                by_cases q : s v = p (w + 1)
                · rw [← q] at hin; exact absurd hmem hin
                · rw [if_neg q]; exact hmem
              · right
                exact ⟨i, g1, g2, lt_ID_cg G.1 h3 g3 hs1 (fun u a b => by have := g4 u a b; omega) hvw, fun u a b => by have := g4 u a b; omega⟩
      obtain ⟨r', s', lab', an', bk', r1, r2, r3⟩ := ih w σ4 s1 lab3 an3 _ hM' (by omega) (by omega)
      exact ⟨r', s', lab', an', bk', r1, r2, fun q h => by rw [r3 q h]; exact hq q (by omega) (by omega) (by omega) (by omega) (by omega) (by omega) (by omega)⟩
/-- the tables at the start -/
theorem kd_init (hR : R ≤ 17) : ∀ (n i : Nat) (σ : KSt), kd_G R e ord p σ → (∀ j, j < i → σ 10 j = nI j ∧ σ 13 j = nI j ∧ σ 12 j = -1 ∧ σ 15 j = -1) → i ≤ R → R < n + i →
    ∃ r : Int32 × KSt, k_findDominators_2 n (nI i) σ = some r ∧ kd_G R e ord p r.2 ∧ (∀ j, j < R → r.2 10 j = nI j ∧ r.2 13 j = nI j ∧ r.2 12 j = -1 ∧ r.2 15 j = -1) ∧ (∀ q, q < 10 ∨ 16 < q → r.2 q = σ q) := by
  intro n
  induction n with
  | zero => intro i σ _ _ h1 h2; omega
  | succ n ih =>
    intro i σ hG hj hi hn
    rw [k_findDominators_2, hG.1]
    rcases Nat.lt_or_ge i R with h | h
    · rw [if_neg (nI_ge h (by omega)), kt_chkn (by omega), kt_chkn (by omega), kt_chkn (by omega), kt_chkn (by omega), kt_chkn (by omega), kt_ixs (by omega), nI_a1]
      obtain ⟨σ1, e1⟩ : ∃ z, z = kt_st (kt_st (kt_st (kt_st (kt_st σ 10 i (nI i)) 13 i (nI i)) 11 i (-1)) 12 i (-1)) 15 i (-1) := ⟨_, rfl⟩
      rw [← e1]
      have ho : ∀ q, q < 10 ∨ 16 < q → σ1 q = σ q := fun q hq => by
        funext j
        rw [e1, kt_rd_ne (by omega), kt_rd_ne (by omega), kt_rd_ne (by omega), kt_rd_ne (by omega), kt_rd_ne (by omega)]
      have hG1 : kd_G R e ord p σ1 := kd_G_keep hG (ho 1 (by omega)) (ho 4 (by omega)) (ho 6 (by omega)) (ho 7 (by omega))
      obtain ⟨r, r1, r2, r3, r4⟩ := ih (i + 1) σ1 hG1 (fun j hj2 => by
        rw [e1]
        by_cases q : j = i
        · subst q
          refine ⟨?_, ?_, ?_, ?_⟩ <;> simp [kt_rd]
        · have := hj j (by omega)
          refine ⟨?_, ?_, ?_, ?_⟩ <;> simp [kt_rd, q, this]) (by omega) (by omega)
      exact ⟨r, r1, r2, r3, fun q hq => by rw [r4 q hq, ho q hq]⟩
    · rw [if_pos (nI_le h (by omega))]
      exact ⟨_, rfl, hG, fun j hj2 => hj j (by omega), fun _ _ => rfl⟩
/-- the last pass -/
theorem kd_last (hR : R ≤ 17) (hp : ∀ w, 0 < w → w < R → p w < w) {s : Nat → Nat} : ∀ (n k : Nat) (σ : KSt) (g : Nat → Nat), σ 4 0 = nI R → (∀ i, i < R → σ 10 i = nI (s i) ∧ s i < R) → (∀ i, 0 < i → i < R → σ 11 i = nI (g i) ∧ g i < R) → (∀ w, 0 < w → w < k → lt_Hi p s g w) → (∀ w, k ≤ w → w < R → lt_ID p s w (g w)) → 0 < k → k ≤ R → R < n + k →
    ∃ (r : Int32 × KSt) (g' : Nat → Nat), k_findDominators_126 n (nI k) σ = some r ∧ (∀ i, 0 < i → i < R → r.2 11 i = nI (g' i) ∧ g' i < R) ∧ (∀ w, 0 < w → w < R → lt_Hi p s g' w) ∧ (∀ q, q ≠ 11 → r.2 q = σ q) := by
  intro n
  induction n with
  | zero => intro k σ g _ _ _ _ _ _ h1 h2; omega
  | succ n ih =>
    intro k σ g h4 hs hg hH hI h0 hk hn
    rw [k_findDominators_126, h4]
    rcases Nat.lt_or_ge k R with h | h
    · have gk := hg k h0 h
      have sk := hs k h
      rw [if_neg (nI_ge h (by omega)), kt_chkn (by omega), kt_chkn (by omega), kt_ixs (by omega), gk.1, sk.1, nI_a1]
      by_cases hc : g k = s k
      · rw [if_pos (by rw [hc])]
        exact ih (k + 1) σ g h4 hs hg (fun w a b => by
          rcases Nat.lt_or_ge w k with q | q
          · exact hH w a q
          · rw [show w = k by omega]; exact lt_Hi_same (hI k (Nat.le_refl _) h) hc) (fun w a b => hI w (by omega) b) (by omega) (by omega) (by omega)
      · obtain ⟨H1, H2, H3⟩ := lt_Hi_new hp h (hI k (Nat.le_refl _) h) hc
        have gg := hg (g k) (by omega) (by omega)
        rw [if_neg (fun q => hc (nI_inj (by omega) (by omega) q)), kt_chkn (by omega), kt_chkn (by omega), kt_ixs (by omega), gg.1, kt_nm, kt_chkn (by omega)]
        have up0 : va_up g k (g (g k)) k = g (g k) := if_pos rfl
        have upn : ∀ i, i ≠ k → va_up g k (g (g k)) i = g i := fun i hi => if_neg hi
        obtain ⟨r, g', r1, r2, r3, r4⟩ := ih (k + 1) (kt_st σ 11 k (nI (g (g k)))) (va_up g k (g (g k))) (by rw [kt_rd_ne (by decide)]; exact h4) (fun i hi => by rw [kt_rd_ne (by decide)]; exact hs i hi) (fun i a b => by
          by_cases q : i = k
          · subst q; rw [kt_rd_eq, up0]; exact ⟨rfl, gg.2⟩
          · rw [kt_rd_ni q, upn i q]; exact hg i a b) (fun w a b => by
          rcases Nat.lt_or_ge w k with q | q
          · exact lt_Hi_keep hp q hk (hH w a q)
          · rw [show w = k by omega]; exact H1) (fun w a b => by rw [upn w (by omega)]; exact hI w (by omega) b) (by omega) (by omega) (by omega)
        exact ⟨r, g', r1, r2, r3, fun q hq => by rw [r4 q hq]; funext j; exact kt_rd_ne hq⟩
    · rw [if_pos (nI_le h (by omega))]
      exact ⟨_, g, rfl, hg, fun w a b => hH w a (by omega), fun _ _ => rfl⟩
/-- findDominators: the table 11 holds the nearest strict dominators -/
theorem kd_findDominators (hR : R ≤ 17) (hR1 : 1 ≤ R) (G : lt_G R (kd_E R e ord) p) (hN : 17 < N) {σ : KSt} (hG : kd_G R e ord p σ) :
    ∃ (σ' : KSt) (g : Nat → Nat), k_findDominators N σ = some σ' ∧ (∀ w, 0 < w → w < R → σ' 11 w = nI (g w) ∧ g w < w ∧ ∀ a, 0 < a → a ≠ w → (lt_av (kd_E R e ord) a w ↔ lt_av (kd_E R e ord) a (g w))) ∧ (∀ q, q < 10 ∨ 16 < q → σ' q = σ q) := by
  obtain ⟨r1, e1, g1, g2, g3⟩ := kd_init (e := e) (ord := ord) (p := p) hR N 0 σ hG (fun j hj => by omega) (Nat.zero_le _) (by omega)
  rw [show nI 0 = 0 from rfl] at e1
  rw [k_findDominators]
  simp only [e1, Option.bind_some]
  obtain ⟨w, hw⟩ : ∃ w, R = w + 1 := ⟨R - 1, by omega⟩
  rw [g1.1, kt_nm, show nI R - 1 = nI w by rw [hw]; exact nI_m1]
  have hM : kd_M R e ord p (w + 1) (fun i => i) (fun i => i) (fun i => i) (fun _ => []) r1.2 := by
    refine ⟨g1, ⟨fun i _ _ => rfl, fun x h1 h2 => by omega⟩, ⟨fun i hi => ⟨(g2 i hi).1, hi⟩, fun i hi => ⟨(g2 i hi).2.1, hi⟩, fun i h1 h2 => by omega, fun i h1 h2 => (g2 i h2).2.2.1⟩, fun i _ => rfl, fun w' h1 h2 h3 => by omega, fun i hi => ⟨(g2 i hi).2.2.2, List.Pairwise.nil⟩, fun i x hi hx => (by cases hx), fun v h1 h2 h3 => by omega⟩
  obtain ⟨r2, s, lab, an, bk, e2, M, k2⟩ := kd_loop hR G hN N w r1.2 _ _ _ _ hM (by omega) (by omega)
  simp only [e2, Option.bind_some]
  obtain ⟨hG2, F, hA, hsi, hSA, hch, hbk, hid⟩ := M
  have hSemi : lt_Semi R (kd_E R e ord) p s := fun w h1 h2 => hSA w h1 h1 h2
  have hid2 : ∀ v, 0 < v → v < R → ∃ i, r2.2 11 v = nI i ∧ i < R ∧ lt_ID p s v i := by
    intro v h1 h2
    rcases hid v h1 h1 h2 with h | ⟨i, a, b, c, _⟩
    · exfalso
      have hsv := lt_semi_lt G hSemi h1 h2
      obtain ⟨x, x1, x2, x3, x4⟩ := lt_child G.1 v h2 (lt_semi_anc G hSemi h1 h2) (by omega)
      exact (hbk (s v) v (by omega) h).2.2.2 x x1 x2 x3 x4
    · exact ⟨i, a, b, c⟩
  obtain ⟨g, hg⟩ : ∃ g : Nat → Nat, ∀ v, 0 < v → v < R → r2.2 11 v = nI (g v) ∧ g v < R ∧ lt_ID p s v (g v) := by
    refine ⟨fun v => kt_ix (r2.2 11 v), fun v h1 h2 => ?_⟩
    obtain ⟨i, a, b, c⟩ := hid2 v h1 h2
    show r2.2 11 v = nI (kt_ix (r2.2 11 v)) ∧ kt_ix (r2.2 11 v) < R ∧ lt_ID p s v (kt_ix (r2.2 11 v))
    rw [a, kt_ixs (by omega)]
    exact ⟨rfl, b, c⟩
  obtain ⟨r3, g', e3, b1, b2, b3⟩ := kd_last hR G.1 N 1 r2.2 g hG2.1 hA.1 (fun i a b => ⟨(hg i a b).1, (hg i a b).2.1⟩) (fun w a b => by omega) (fun w a b => (hg w a b).2.2) (by omega) hR1 (by omega)
  rw [show nI 1 = 1 from rfl] at e3
  simp only [e3, Option.bind_some]
  have T := lt_main G hSemi g' b2
  refine ⟨r3.2, g', rfl, fun w h1 h2 => ⟨(b1 w h1 h2).1, (T w h1 h2).1, (T w h1 h2).2.2⟩, fun q hq => ?_⟩
  rw [b3 q (by omega), k2 q hq, g3 q hq]
end
end
section
/-! PLAIN LAW 6: numberVertices -/
theorem kt_php : ∀ (n R : Nat) (f : Nat → Nat), (∀ i, i < R → f i < n) → (∀ i j, i < R → j < R → f i = f j → i = j) → R ≤ n := by
  intro n
  induction n with
  | zero =>
    intro R f h1 _
    rcases Nat.eq_zero_or_pos R with h | h
    · omega
    · have := h1 0 h; omega
  | succ n ih =>
    intro R f h1 h2
    rcases Nat.eq_zero_or_pos R with h | h
    · omega
    · by_cases hx : ∃ i, i < R ∧ f i = n
      · obtain ⟨i0, a, b⟩ := hx
        have := ih (R - 1) (fun i => if i = i0 then f (R - 1) else f i) (fun i hi => by
          show (if i = i0 then f (R - 1) else f i) < n
          by_cases q : i = i0
          · rw [if_pos q]
            have h3 := h1 (R - 1) (by omega)
            have h4 : f (R - 1) ≠ n := fun z => by have := h2 (R - 1) i0 (by omega) a (by omega); omega
            omega
          · rw [if_neg q]
            have h3 := h1 i (by omega)
            have h4 : f i ≠ n := fun z => q (h2 i i0 (by omega) a (by omega))
            omega) (fun i j hi hj z => by
          have z : (if i = i0 then f (R - 1) else f i) = (if j = i0 then f (R - 1) else f j) := z
          by_cases q : i = i0
          · by_cases q2 : j = i0
            · omega
            · rw [if_pos q, if_neg q2] at z
              have := h2 (R - 1) j (by omega) (by omega) z; omega
          · by_cases q2 : j = i0
            · rw [if_neg q, if_pos q2] at z
              have := h2 i (R - 1) (by omega) (by omega) z; omega
            · rw [if_neg q, if_neg q2] at z
              exact h2 i j (by omega) (by omega) z)
        omega
      · have := ih R f (fun i hi => by
          have h3 := h1 i hi
          have h4 : f i ≠ n := fun z => hx ⟨i, hi, z⟩
          omega) h2
        omega
theorem lt_anc_cg {p p' : Nat → Nat} {a x : Nat} (hp : ∀ y, 0 < y → y ≤ x → p y < y) (h : ∀ y, 0 < y → y ≤ x → p' y = p y) (ha : lt_anc p a x) : lt_anc p' a x := by
  intro S hx hs
  exact (ha (fun z => z ≤ x ∧ S z) ⟨Nat.le_refl _, hx⟩ (fun y hy h0 => ⟨by have := hp y h0 hy.1; omega, by rw [← h y h0 hy.1]; exact hs y hy.2 h0⟩)).2
/-- the state of the walk: R numbers given, d of them on the stack -/
def kn_I (e : Nat → Nat → Bool) (R d : Nat) (ord p stk : Nat → Nat) (σ : KSt) : Prop :=
  (σ 4 0 = nI R ∧ 1 ≤ R ∧ R ≤ 17 ∧ d ≤ R) ∧
  (∀ v w, v < 17 → w < 16 → bt (σ 1 v) w = e v w) ∧
  (ord 0 = 16 ∧ (∀ i, i < R → σ 6 i = nI (ord i)) ∧ (∀ i, 0 < i → i < R → ord i < 16) ∧ (∀ i j, i < R → j < R → ord i = ord j → i = j)) ∧
  ((∀ i, i < R → σ 5 (ord i) = nI i) ∧ (∀ v, v < 17 → (∀ i, i < R → ord i ≠ v) → σ 5 v = -1)) ∧
  (∀ i, 0 < i → i < R → σ 7 i = nI (p i) ∧ p i < i ∧ e (ord (p i)) (ord i) = true) ∧
  ((∀ j, j < d → stk j < R ∧ σ 8 j = nI (ord (stk j))) ∧ (0 < d → stk 0 = 0) ∧ (∀ j, j + 1 < d → 0 < stk (j + 1) ∧ p (stk (j + 1)) = stk j)) ∧
  (∀ j w, j < d → w < 16 → e (ord (stk j)) w = true → bt (σ 9 j) w = true ∨ ∃ i, i < R ∧ ord i = w) ∧
  (∀ i w, i < R → (∀ j, j < d → stk j ≠ i) → w < 16 → e (ord i) w = true → ∃ i', i' < R ∧ ord i' = w) ∧
  (∀ a b, kd_E R e ord a b → a < b → lt_anc p a b) ∧
  (∀ a b c, a ≤ b → b ≤ c → c < R → lt_anc p a c → lt_anc p a b) ∧
  (∀ j b, j < d → stk j ≤ b → b < R → lt_anc p (stk j) b)
def kn_mu (σ : KSt) (d R : Nat) : Nat := kt_sum (fun j => kt_cnt (σ 9 j) + 1) d + 17 * (17 - R)
theorem kn_visit {σ : KSt} {R w : Nat} (h : σ 4 0 = nI R) (hR : R < 17) (hw : w < 17) : k_visit σ (nI w) = some (kt_st (kt_st (kt_st σ 5 w (nI R)) 6 R (nI w)) 4 0 (nI (R + 1))) := by
  rw [k_visit, h, kt_nm, kt_chkn hw, kt_chkn hR, kt_nm, nI_a1, kt_ixs (by omega), kt_ixs (by omega)]
theorem kt_c400 {i : Nat} (h : i < 400) : ¬ ((400 : Int32) ≤ nI i) := nI_ge (b := 400) h (by omega)
/-- the ancestors of what is on the stack are on the stack -/
theorem kn_up {p stk : Nat → Nat} {d : Nat} (h0 : 0 < d → stk 0 = 0) (hs : ∀ j, j + 1 < d → 0 < stk (j + 1) ∧ p (stk (j + 1)) = stk j) {a : Nat} : ∀ j, j < d → lt_anc p a (stk j) → ∃ i, i ≤ j ∧ a = stk i := by
  intro j
  induction j with
  | zero =>
    intro hj ha
    rcases lt_anc_cases ha with h | ⟨h, _⟩
    · exact ⟨0, Nat.le_refl _, h⟩
    · rw [h0 hj] at h; omega
  | succ j ih =>
    intro hj ha
    rcases lt_anc_cases ha with h | ⟨_, h⟩
    · exact ⟨j + 1, Nat.le_refl _, h⟩
    · rw [(hs j hj).2] at h
      obtain ⟨i, a1, a2⟩ := ih (by omega) h
      exact ⟨i, by omega, a2⟩
section
variable {e : Nat → Nat → Bool} {N : Nat}
theorem kn_pop {R d : Nat} {ord p stk : Nat → Nat} {σ : KSt} (I : kn_I e R (d + 1) ord p stk σ) (hz : ∀ j, j < 16 → bt (σ 9 d) j = false) : kn_I e R d ord p stk σ := by
  obtain ⟨⟨a1, a2, a3, a4⟩, b, c, dd, f, ⟨g1, g2, g3⟩, h, i, j, k, l⟩ := I
  refine ⟨⟨a1, a2, a3, by omega⟩, b, c, dd, f, ⟨fun x hx => g1 x (by omega), fun _ => g2 (by omega), fun x hx => g3 x (by omega)⟩, fun x w hx => h x w (by omega), fun x w hx hn hw he => ?_, j, k, fun x b hx => l x b (by omega)⟩
  by_cases q : stk d = x
  · subst q
    rcases h d w (by omega) hw he with z | z
    · rw [hz w hw] at z; cases z
    · exact z
  · exact i x w hx (fun y hy => by
      rcases Nat.lt_or_ge y d with z | z
      · exact hn y z
      · rw [show y = d by omega]; exact q) hw he
theorem kn_skip {R d w0 : Nat} {ord p stk : Nat → Nat} {σ : KSt} (I : kn_I e R (d + 1) ord p stk σ) (hw0 : w0 < 16) (hr : ∃ i, i < R ∧ ord i = w0) : kn_I e R (d + 1) ord p stk (kt_st σ 9 d ((σ 9 d) &&& ((kt_shl 1 (nI w0)) ^^^ (-1)))) := by
  obtain ⟨⟨a1, a2, a3, a4⟩, b, ⟨c1, c2, c3, c4⟩, ⟨d1, d2⟩, f, ⟨g1, g2, g3⟩, h, i, j, k, l⟩ := I
  refine ⟨⟨by rw [kt_rd_ne (by decide)]; exact a1, a2, a3, a4⟩, fun v w hv hw => by rw [kt_rd_ne (by decide)]; exact b v w hv hw, ⟨c1, fun i hi => by rw [kt_rd_ne (by decide)]; exact c2 i hi, c3, c4⟩, ⟨fun i hi => by rw [kt_rd_ne (by decide)]; exact d1 i hi, fun v hv hn => by rw [kt_rd_ne (by decide)]; exact d2 v hv hn⟩, fun i h1 h2 => by rw [kt_rd_ne (by decide)]; exact f i h1 h2, ⟨fun j hj => by rw [kt_rd_ne (by decide)]; exact g1 j hj, g2, g3⟩, fun x w hx hw he => ?_, i, j, k, l⟩
  rcases h x w hx hw he with z | z
  · by_cases q : x = d
    · subst q
      rw [kt_rd_eq, b_clr _ w0 (by omega) (by omega), z]
      by_cases q2 : w = w0
      · subst q2; exact Or.inr hr
      · left; simp [q2]
    · rw [kt_rd_ni q]; exact Or.inl z
  · exact Or.inr z
theorem kn_push {R d w0 : Nat} {ord p stk : Nat → Nat} {σ σ' : KSt} (I : kn_I e R (d + 1) ord p stk σ) (hw0 : w0 < 16) (hb : bt (σ 9 d) w0 = true) (he0 : e (ord (stk d)) w0 = true) (hn : ∀ i, i < R → ord i ≠ w0)
    (k4 : σ' 4 0 = nI (R + 1)) (k1 : σ' 1 = σ 1) (k5 : ∀ v, σ' 5 v = if v = w0 then nI R else σ 5 v) (k6 : ∀ i, σ' 6 i = if i = R then nI w0 else σ 6 i) (k7 : ∀ i, σ' 7 i = if i = R then nI (stk d) else σ 7 i) (k8 : ∀ i, σ' 8 i = if i = d + 1 then nI w0 else σ 8 i)
    (k9 : ∀ i, σ' 9 i = if i = d + 1 then σ 1 w0 else if i = d then (σ 9 d) &&& ((kt_shl 1 (nI w0)) ^^^ (-1)) else σ 9 i) : R < 17 ∧ kn_I e (R + 1) (d + 2) (va_up ord R w0) (va_up p R (stk d)) (va_up stk (d + 1) R) σ' := by
  obtain ⟨⟨a1, a2, a3, a4⟩, b, ⟨c1, c2, c3, c4⟩, ⟨d1, d2⟩, f, ⟨g1, g2, g3⟩, h, i, j, k, l⟩ := I
  have hordlt : ∀ x, x < R → ord x < 17 := fun x hx => by
    rcases Nat.eq_zero_or_pos x with q | q
    · subst q; omega
    · have := c3 x q hx; omega
  have o0 : va_up ord R w0 R = w0 := if_pos rfl
  have on : ∀ x, x ≠ R → va_up ord R w0 x = ord x := fun x hx => if_neg hx
  have p0 : va_up p R (stk d) R = stk d := if_pos rfl
  have pn : ∀ x, x ≠ R → va_up p R (stk d) x = p x := fun x hx => if_neg hx
  have s0 : va_up stk (d + 1) R (d + 1) = R := if_pos rfl
  have sn : ∀ x, x ≠ d + 1 → va_up stk (d + 1) R x = stk x := fun x hx => if_neg hx
  have gd := g1 d (by omega)
  have inj' : ∀ x y, x < R + 1 → y < R + 1 → va_up ord R w0 x = va_up ord R w0 y → x = y := fun x y hx hy z => by
    by_cases q : x = R
    · by_cases q2 : y = R
      · omega
      · rw [q, o0, on y q2] at z; exact absurd z.symm (hn y (by omega))
    · by_cases q2 : y = R
      · rw [q2, o0, on x q] at z; exact absurd z (hn x (by omega))
      · rw [on x q, on y q2] at z; exact c4 x y (by omega) (by omega) z
  have hR17 : R + 1 ≤ 17 := kt_php 17 (R + 1) (va_up ord R w0) (fun x hx => by
    by_cases q : x = R
    · rw [q, o0]; omega
    · rw [on x q]; exact hordlt x (by omega)) inj'
  have hpl : ∀ y, 0 < y → y < R → p y < y := fun y h1 h2 => (f y h1 h2).2.1
  -- ancestors below R stay
  have up : ∀ {a x : Nat}, x < R → lt_anc p a x → lt_anc (va_up p R (stk d)) a x := fun hx ha => lt_anc_cg (fun y h1 h2 => hpl y h1 (by omega)) (fun y h1 h2 => pn y (by omega)) ha
  have down : ∀ {a x : Nat}, x < R → lt_anc (va_up p R (stk d)) a x → lt_anc p a x := fun hx ha => lt_anc_cg (fun y h1 h2 => by rw [pn y (by omega)]; exact hpl y h1 (by omega)) (fun y h1 h2 => (pn y (by omega)).symm) ha
  have newR : ∀ {a : Nat}, lt_anc p a (stk d) → lt_anc (va_up p R (stk d)) a R := fun ha => lt_anc_up (by omega) (by rw [p0]; exact up gd.1 ha)
  have onstk : ∀ y, y ≤ d → lt_anc p (stk y) (stk d) := fun y hy => by
    have : ∀ z y, y + z = d → lt_anc p (stk y) (stk d) := by
      intro z
      induction z with
      | zero => intro y hz; rw [show y = d by omega]; exact lt_anc_refl p _
      | succ z ih =>
        intro y hz
        have h1 := g3 y (by omega)
        have h2 := ih (y + 1) (by omega)
        refine lt_anc_trans ?_ h2
        rw [← h1.2]
        exact lt_anc_p h1.1
    exact this (d - y) y (by omega)
  refine ⟨by omega, ⟨k4, by omega, hR17, by omega⟩, fun v w hv hw => by rw [k1]; exact b v w hv hw, ⟨by rw [on 0 (by omega)]; exact c1, fun x hx => ?_, fun x h1 h2 => ?_, inj'⟩, ⟨fun x hx => ?_, fun v hv hnv => ?_⟩, fun x h1 h2 => ?_, ⟨fun x hx => ?_, fun _ => by rw [sn 0 (by omega)]; exact g2 (by omega), fun x hx => ?_⟩, fun x w hx hw he => ?_, fun x w hx hns hw he => ?_, fun a b hE hab => ?_, fun a b c hab hbc hc ha => ?_, fun x b hx hb1 hb2 => ?_⟩
  · rw [k6]
    by_cases q : x = R
    · rw [if_pos q, q, o0]
    · rw [if_neg q, on x q]; exact c2 x (by omega)
  · by_cases q : x = R
    · rw [q, o0]; exact hw0
    · rw [on x q]; exact c3 x h1 (by omega)
  · rw [k5]
    by_cases q : x = R
    · rw [q, o0, if_pos rfl]
    · rw [on x q, if_neg (hn x (by omega))]; exact d1 x (by omega)
  · rw [k5, if_neg (fun q => hnv R (by omega) (by rw [o0, q]))]
    exact d2 v hv (fun x hx z => hnv x (by omega) (by rw [on x (by omega)]; exact z))
  · rw [k7]
    by_cases q : x = R
    · subst q
      rw [if_pos rfl, p0, o0, on _ (by omega)]
      exact ⟨rfl, gd.1, he0⟩
    · have fx := f x h1 (by omega)
      rw [if_neg q, pn x q, on x q, on _ (by omega)]
      exact fx
  · rw [k8]
    by_cases q : x = d + 1
    · rw [q, s0, if_pos rfl, o0]; exact ⟨by omega, rfl⟩
    · have gx := g1 x (by omega)
      rw [sn x q, if_neg q, on _ (by omega)]
      exact ⟨by omega, gx.2⟩
  · by_cases q : x = d
    · subst q
      rw [s0, sn _ (by omega), p0]
      exact ⟨by omega, rfl⟩
    · have gx := g3 x (by omega)
      have gs := g1 (x + 1) (by omega)
      rw [sn (x + 1) (by omega), sn x (by omega), pn _ (by omega)]
      exact gx
  · rw [k9]
    by_cases q : x = d + 1
    · rw [if_pos q]
      rw [q, s0, o0] at he
      left
      rw [b w0 w (by omega) hw]; exact he
    · rw [if_neg q]
      rw [sn x q, on _ (by have := g1 x (by omega); omega)] at he
      rcases h x w (by omega) hw he with z | ⟨y, y1, y2⟩
      · by_cases q2 : x = d
        · rw [if_pos q2, b_clr _ w0 (by omega) (by omega)]
          by_cases q3 : w = w0
          · exact Or.inr ⟨R, by omega, by rw [o0, q3]⟩
          · left; rw [← q2, z]; simp [q3]
        · rw [if_neg q2]; exact Or.inl z
      · exact Or.inr ⟨y, by omega, by rw [on y (by omega)]; exact y2⟩
  · have hxR : x ≠ R := fun q => hns (d + 1) (by omega) (by rw [s0, q])
    rw [on x hxR] at he
    obtain ⟨y, y1, y2⟩ := i x w (by omega) (fun y hy => by have := hns y (by omega); rw [sn y (by omega)] at this; exact this) hw he
    exact ⟨y, by omega, by rw [on y (by omega)]; exact y2⟩
  · obtain ⟨E1, E2, E3, E4⟩ := hE
    rw [on a (by omega)] at E4
    by_cases q : b = R
    · rw [q, o0] at E4
      rw [q]
      -- a must be on the stack
      have : ∃ y, y < d + 1 ∧ stk y = a := by
        refine Classical.byContradiction fun hc => ?_
        obtain ⟨y, y1, y2⟩ := i a w0 (by omega) (fun y hy z => hc ⟨y, hy, z⟩) hw0 E4
        exact hn y y1 y2
      obtain ⟨y, y1, y2⟩ := this
      rw [← y2]
      exact newR (onstk y (by omega))
    · rw [on b q] at E4
      exact up (by omega) (j a b ⟨by omega, by omega, E3, E4⟩ hab)
  · by_cases q : c = R
    · rw [q] at ha hbc
      by_cases q2 : b = R
      · rw [q2]; exact ha
      · rcases lt_anc_cases ha with z | ⟨_, z⟩
        · omega
        · rw [p0] at z
          obtain ⟨y, y1, y2⟩ := kn_up g2 g3 d (by omega) (down gd.1 z)
          rw [y2] at hab ⊢
          exact up (by omega) (l y b (by omega) hab (by omega))
    · exact up (by omega) (k a b c hab hbc (by omega) (down (by omega) ha))
  · by_cases q : x = d + 1
    · rw [q, s0] at hb1 ⊢
      rw [show b = R by omega]
      exact lt_anc_refl _ _
    · rw [sn x q] at hb1 ⊢
      by_cases q2 : b = R
      · rw [q2]; exact newR (onstk x (by omega))
      · exact up (by omega) (l x b (by omega) hb1 (by omega))
theorem kn_sum_up {f g : Nat → Nat} {d : Nat} (h : ∀ j, j < d → f j = g j) : kt_sum f (d + 1) + g d = kt_sum g (d + 1) + f d := by
  show kt_sum f d + f d + g d = kt_sum g d + g d + f d
  rw [kt_sum_cg h]
  omega
theorem kn_loop (hN : 16 < N) : ∀ (n stp R d : Nat) (ord p stk : Nat → Nat) (σ : KSt), kn_I e R d ord p stk σ → (∀ j w, j < d → w < 16 → bt (σ 9 j) w = true → e (ord (stk j)) w = true) → stp + kn_mu σ d R ≤ 289 → kn_mu σ d R < n →
    ∃ (r : Int32 × Int32 × KSt) (R' : Nat) (ord' p' stk' : Nat → Nat), k_numberVertices_64 N n (nI d) (nI stp) σ = some r ∧ kn_I e R' 0 ord' p' stk' r.2.2 ∧ (∀ q, q < 4 ∨ 9 < q → r.2.2 q = σ q) := by
  intro n
  induction n with
  | zero => intro stp R d ord p stk σ _ _ _ h; omega
  | succ n ih =>
    intro stp R d ord p stk σ I hU hm hn
    rw [k_numberVertices_64, if_neg (kt_c400 (by omega))]
    rcases Nat.eq_zero_or_pos d with rfl | hd
    · rw [if_pos (show nI 0 ≤ 0 by decide)]
      exact ⟨_, R, ord, p, stk, rfl, I, fun _ _ => rfl⟩
    · obtain ⟨d, rfl⟩ : ∃ z, d = z + 1 := ⟨d - 1, by omega⟩
      have hdR : d + 1 ≤ R := I.1.2.2.2
      have hR17 : R ≤ 17 := I.1.2.2.1
      have gd := I.2.2.2.2.2.1.1 d (by omega)
      have hordlt : ∀ x, x < R → ord x < 17 := fun x hx => by
        rcases Nat.eq_zero_or_pos x with q | q
        · subst q; have := I.2.2.1.1; omega
        · have := I.2.2.1.2.2.1 x q hx; omega
      rw [if_neg (nI_nle hd (by omega)), nI_m1, kt_chkn (by omega), kt_ixs (by omega), kt_nm, kt_chkn (by omega), gd.2]
      obtain ⟨a, ea, ha⟩ := kt_lo (σ 9 d) hN
      simp only [ea, Option.bind_some]
      rcases ha with ⟨w0, hw0, hb, rfl⟩ | ⟨rfl, hz⟩
      · rw [if_pos (kt_z w0 (by omega)), kt_chkn (by omega), kt_nm, kt_chkn (by omega), kt_chkn (by omega), kt_ixs (by omega)]
        have he0 := hU d w0 (by omega) hw0 hb
        have hcnt := kt_cnt_clr (σ 9 d) hw0 hb
        by_cases hr : ∃ i, i < R ∧ ord i = w0
        · obtain ⟨i0, i1, i2⟩ := hr
          have e5 : σ 5 w0 = nI i0 := by rw [← i2]; exact I.2.2.2.1.1 i0 i1
          rw [e5, if_pos (kt_z i0 (by omega)), nI_a1]
          have I' := kn_skip I hw0 ⟨i0, i1, i2⟩
          have hmu : kn_mu (kt_st σ 9 d ((σ 9 d) &&& ((kt_shl 1 (nI w0)) ^^^ (-1)))) (d + 1) R + 1 = kn_mu σ (d + 1) R := by
            unfold kn_mu
            have := kn_sum_up (f := fun j => kt_cnt (kt_st σ 9 d ((σ 9 d) &&& ((kt_shl 1 (nI w0)) ^^^ (-1))) 9 j) + 1) (g := fun j => kt_cnt (σ 9 j) + 1) (d := d) (fun j hj => by rw [kt_rd_ni (by omega)])
            simp only [kt_rd_eq] at this
            omega
          obtain ⟨r, R', ord', p', stk', r1, r2, r3⟩ := ih (stp + 1) R (d + 1) ord p stk _ I' (fun j w hj hw hbw => by
            by_cases q : j = d
            · subst q
              rw [kt_rd_eq, b_clr _ w0 (by omega) (by omega)] at hbw
              exact hU j w hj hw (by cases hh : bt (σ 9 j) w; rw [hh] at hbw; exact absurd hbw (by simp); rfl)
            · rw [kt_rd_ni q] at hbw; exact hU j w hj hw hbw) (by omega) (by omega)
          exact ⟨r, R', ord', p', stk', r1, r2, fun q hq => by rw [r3 q hq]; funext j; exact kt_rd_ne (by omega)⟩
        · have hn0 : ∀ i, i < R → ord i ≠ w0 := fun i hi z => hr ⟨i, hi, z⟩
          have e5 : σ 5 w0 = -1 := I.2.2.2.1.2 w0 (by omega) hn0
          have hso := hordlt (stk d) gd.1
          have e5s : σ 5 (ord (stk d)) = nI (stk d) := I.2.2.2.1.1 (stk d) gd.1
          have hRlt : R < 17 := by
            have := kt_php 17 (R + 1) (va_up ord R w0) (fun x hx => by
              by_cases q : x = R
              · rw [q, show va_up ord R w0 R = w0 from if_pos rfl]; omega
              · rw [show va_up ord R w0 x = ord x from if_neg q]; exact hordlt x (by omega)) (fun x y hx hy z => by
              by_cases q : x = R
              · by_cases q2 : y = R
                · omega
                · rw [q, show va_up ord R w0 R = w0 from if_pos rfl, show va_up ord R w0 y = ord y from if_neg q2] at z; exact absurd z.symm (hn0 y (by omega))
              · by_cases q2 : y = R
                · rw [q2, show va_up ord R w0 R = w0 from if_pos rfl, show va_up ord R w0 x = ord x from if_neg q] at z; exact absurd z (hn0 x (by omega))
                · rw [show va_up ord R w0 x = ord x from if_neg q, show va_up ord R w0 y = ord y from if_neg q2] at z; exact I.2.2.1.2.2.2 x y (by omega) (by omega) z)
            omega
          rw [e5, if_neg (by decide), kt_chkn (by omega), kt_ixs (by omega), e5s, kt_nm, I.1.1, kt_chkn (by omega), kt_ixs (by omega)]
          have hv := kn_visit (σ := kt_st (kt_st σ 9 d ((σ 9 d) &&& ((kt_shl 1 (nI w0)) ^^^ (-1)))) 7 R (nI (stk d))) (R := R) (w := w0) (by rw [kt_rd_ne (by decide), kt_rd_ne (by decide)]; exact I.1.1) hRlt (by omega)
          simp only [hv, Option.bind_some]
          rw [kt_chkn (by omega), kt_chkn (by omega), kt_nm, kt_chkn (by omega), kt_ixs (by omega), nI_a1, nI_a1, kt_rd_ne (by decide), kt_rd_ne (by decide), kt_rd_ne (by decide), kt_rd_ne (by decide), kt_rd_ne (by decide)]
          obtain ⟨σ', eσ⟩ : ∃ z, z = kt_st (kt_st (kt_st (kt_st (kt_st (kt_st (kt_st σ 9 d ((σ 9 d) &&& ((kt_shl 1 (nI w0)) ^^^ (-1)))) 7 R (nI (stk d))) 5 w0 (nI R)) 6 R (nI w0)) 4 0 (nI (R + 1))) 8 (d + 1) (nI w0)) 9 (d + 1) (σ 1 w0) := ⟨_, rfl⟩
          rw [← eσ]
          have k9 : ∀ i, σ' 9 i = if i = d + 1 then σ 1 w0 else if i = d then (σ 9 d) &&& ((kt_shl 1 (nI w0)) ^^^ (-1)) else σ 9 i := fun i => by rw [eσ]; simp [kt_rd]
          obtain ⟨-, I'⟩ := kn_push (σ' := σ') I hw0 hb he0 hn0 (by rw [eσ]; simp [kt_rd]) (by rw [eσ]; funext i; simp [kt_rd]) (fun v => by rw [eσ]; simp [kt_rd]) (fun i => by rw [eσ]; simp [kt_rd]) (fun i => by rw [eσ]; simp [kt_rd]) (fun i => by rw [eσ]; simp [kt_rd]) k9
          have hmu : kn_mu σ' (d + 2) (R + 1) + 1 ≤ kn_mu σ (d + 1) R := by
            unfold kn_mu
            have h1 := kn_sum_up (f := fun j => kt_cnt (σ' 9 j) + 1) (g := fun j => kt_cnt (σ 9 j) + 1) (d := d) (fun j hj => by
              show kt_cnt (σ' 9 j) + 1 = kt_cnt (σ 9 j) + 1
              rw [k9, if_neg (by omega), if_neg (by omega)])
            have h2 : kt_sum (fun j => kt_cnt (σ' 9 j) + 1) (d + 2) = kt_sum (fun j => kt_cnt (σ' 9 j) + 1) (d + 1) + (kt_cnt (σ' 9 (d + 1)) + 1) := rfl
            have h3 := kt_cnt_le (σ' 9 (d + 1))
            have h4 : kt_cnt (σ' 9 d) + 1 = kt_cnt (σ 9 d) := by
              rw [k9, if_neg (by omega), if_pos rfl]; exact hcnt.symm
            have h1 : kt_sum (fun j => kt_cnt (σ' 9 j) + 1) (d + 1) + (kt_cnt (σ 9 d) + 1) = kt_sum (fun j => kt_cnt (σ 9 j) + 1) (d + 1) + (kt_cnt (σ' 9 d) + 1) := h1
            omega
          obtain ⟨r, R', ord', p', stk', r1, r2, r3⟩ := ih (stp + 1) (R + 1) (d + 2) _ _ _ σ' I' (fun j w hj hw hbw => by
            rw [k9] at hbw
            have hsj : ∀ x, x ≠ d + 1 → va_up stk (d + 1) R x = stk x := fun x hx => if_neg hx
            have hoj : ∀ x, x ≠ R → va_up ord R w0 x = ord x := fun x hx => if_neg hx
            by_cases q : j = d + 1
            · rw [if_pos q] at hbw
              rw [q, show va_up stk (d + 1) R (d + 1) = R from if_pos rfl, show va_up ord R w0 R = w0 from if_pos rfl]
              rw [I.2.1 w0 w (by omega) hw] at hbw
              exact hbw
            · rw [if_neg q] at hbw
              have gj := I.2.2.2.2.2.1.1 j (by omega)
              rw [hsj j q, hoj _ (by omega)]
              by_cases q2 : j = d
              · rw [if_pos q2, b_clr _ w0 (by omega) (by omega)] at hbw
                exact hU j w (by omega) hw (by rw [q2]; cases hh : bt (σ 9 d) w; rw [hh] at hbw; exact absurd hbw (by simp); rfl)
              · rw [if_neg q2] at hbw
                exact hU j w (by omega) hw hbw) (by omega) (by omega)
          exact ⟨r, R', ord', p', stk', r1, r2, fun q hq => by
            rw [r3 q hq, eσ]; funext j
            rw [kt_rd_ne (by omega), kt_rd_ne (by omega), kt_rd_ne (by omega), kt_rd_ne (by omega), kt_rd_ne (by omega), kt_rd_ne (by omega), kt_rd_ne (by omega)]⟩
      · rw [if_neg (by decide), nI_am1, nI_m1, nI_a1]
        have I' := kn_pop I hz
        have hmu : kn_mu σ d R + 1 ≤ kn_mu σ (d + 1) R := by
          unfold kn_mu
          have : kt_sum (fun j => kt_cnt (σ 9 j) + 1) (d + 1) = kt_sum (fun j => kt_cnt (σ 9 j) + 1) d + (kt_cnt (σ 9 d) + 1) := rfl
          omega
        exact ih (stp + 1) R d ord p stk σ I' (fun j w hj => hU j w (by omega)) (by omega) (by omega)
theorem kn_init : ∀ (n i : Nat) (σ : KSt), (∀ j, j < i → σ 5 j = -1) → i ≤ 17 → 17 < n + i →
    ∃ r : Int32 × KSt, k_numberVertices_2 n (nI i) σ = some r ∧ (∀ j, j < 17 → r.2 5 j = -1) ∧ (∀ q, q ≠ 5 → q ≠ 7 → r.2 q = σ q) := by
  intro n
  induction n with
  | zero => intro i σ _ h1 h2; omega
  | succ n ih =>
    intro i σ hj hi hn
    rw [k_numberVertices_2]
    rcases Nat.lt_or_ge i 17 with h | h
    · rw [if_neg (kt_c17 h), kt_chkn (by omega), kt_chkn (by omega), kt_ixs (by omega), nI_a1]
      obtain ⟨r, r1, r2, r3⟩ := ih (i + 1) (kt_st (kt_st σ 5 i (-1)) 7 i (-1)) (fun j hj2 => by
        rw [kt_rd_ne (by decide), kt_rd]
        by_cases q : j = i
        · rw [if_pos ⟨rfl, q⟩]
        · rw [if_neg (fun z => q z.2)]; exact hj j (by omega)) (by omega) (by omega)
      exact ⟨r, r1, r2, fun q h1 h2 => by rw [r3 q h1 h2]; funext j; rw [kt_rd_ne h2, kt_rd_ne h1]⟩
    · rw [if_pos (show (17 : Int32) ≤ nI i from nI_le (a := 17) h (by omega))]
      exact ⟨_, rfl, fun j hj2 => hj j (by omega), fun _ _ _ => rfl⟩
/-- numberVertices: what a depth-first walk leaves -/
theorem kn_number (hN : 400 < N) {σ : KSt} (hb : ∀ v w, v < 17 → w < 16 → bt (σ 1 v) w = e v w) :
    ∃ (σ' : KSt) (R : Nat) (ord p : Nat → Nat), k_numberVertices N σ = some σ' ∧ kn_I e R 0 ord p (fun _ => 0) σ' ∧ (∀ q, q < 4 ∨ 9 < q → σ' q = σ q) := by
  obtain ⟨r1, e1, g1, g2⟩ := kn_init N 0 σ (fun j hj => by omega) (by omega) (by omega)
  rw [show nI 0 = 0 from rfl] at e1
  have hv := kn_visit (σ := kt_st r1.2 4 0 0) (R := 0) (w := 16) (by rw [kt_rd_eq]; rfl) (by omega) (by omega)
  rw [show nI 16 = 16 from rfl] at hv
  rw [k_numberVertices]
  simp only [e1, hv, Option.bind_some]
  rw [show (0 : Int32) = nI 0 from rfl, show (16 : Int32) = nI 16 from rfl, kt_chkn (by omega), kt_chkn (by omega), kt_nm, kt_chkn (by omega), kt_ixs (by omega), kt_ixs (by omega)]
  obtain ⟨σ2, eσ⟩ : ∃ z, z = kt_st (kt_st (kt_st (kt_st (kt_st (kt_st r1.2 4 0 (nI 0)) 5 16 (nI 0)) 6 0 (nI 16)) 4 0 (nI (0 + 1))) 8 0 (nI 16)) 9 0 ((kt_st (kt_st (kt_st (kt_st r1.2 4 0 (nI 0)) 5 16 (nI 0)) 6 0 (nI 16)) 4 0 (nI (0 + 1))) 1 16) := ⟨_, rfl⟩
  rw [← eσ]
  have k1 : σ2 1 = σ 1 := by rw [← g2 1 (by decide) (by decide), eσ]; funext j; simp [kt_rd]
  have k4 : σ2 4 0 = nI 1 := by rw [eσ]; simp [kt_rd]
  have k5 : ∀ v, σ2 5 v = if v = 16 then nI 0 else r1.2 5 v := fun v => by rw [eσ]; simp [kt_rd]
  have k6 : σ2 6 0 = nI 16 := by rw [eσ]; simp [kt_rd]
  have k8 : σ2 8 0 = nI 16 := by rw [eσ]; simp [kt_rd]
  have k9 : σ2 9 0 = σ 1 16 := by rw [← g2 1 (by decide) (by decide), eσ]; simp [kt_rd]
  have I : kn_I e 1 1 (fun _ => 16) (fun _ => 0) (fun _ => 0) σ2 := by
    refine ⟨⟨k4, by omega, by omega, by omega⟩, fun v w hv hw => by rw [k1]; exact hb v w hv hw, ⟨rfl, fun i hi => by rw [show i = 0 by omega]; exact k6, fun i h1 h2 => by omega, fun i j h1 h2 _ => by omega⟩, ⟨fun i hi => by rw [k5, if_pos rfl, show i = 0 by omega], fun v hv hn => by rw [k5, if_neg (fun q => hn 0 (by omega) q.symm)]; exact g1 v hv⟩, fun i h1 h2 => by omega, ⟨fun j hj => ⟨(show 0 < 1 by omega), by rw [show j = 0 by omega]; exact k8⟩, fun _ => rfl, fun j hj => by omega⟩, fun j w hj hw he => ?_, fun i w hi hn => absurd (show 0 = i by omega) (hn 0 (by omega)), fun a b hE hab => by have := hE.2.1; omega, fun a b c h1 h2 h3 h4 => ?_, fun j b hj h1 h2 => ?_⟩
    · left; rw [show j = 0 by omega, k9, hb 16 w (by omega) hw]; exact he
    · rw [show b = c by omega]; exact h4
    · rw [show b = 0 by omega]; exact lt_anc_refl _ _
  have hmu : kn_mu σ2 1 1 ≤ 289 := by
    unfold kn_mu
    have h1 : kt_sum (fun j => kt_cnt (σ2 9 j) + 1) 1 = 0 + (kt_cnt (σ2 9 0) + 1) := rfl
    have := kt_cnt_le (σ2 9 0)
    omega
  obtain ⟨r, R', ord', p', stk', r2, r3, r4⟩ := kn_loop (e := e) (N := N) (by omega) N 0 1 1 _ _ _ σ2 I (fun j w hj hw hbw => by
    rw [show j = 0 by omega, k9, hb 16 w (by omega) hw] at hbw; exact hbw) (by omega) (by omega)
  rw [show nI 1 = (1 : Int32) from rfl] at r2
  simp only [r2, Option.bind_some]
  refine ⟨r.2.2, R', ord', p', rfl, ?_, fun q hq => ?_⟩
  · obtain ⟨a, b, c, d, f, g, h, i, j, k, l⟩ := r3
    exact ⟨a, b, c, d, f, ⟨fun j hj => by omega, fun hh => by omega, fun j hj => by omega⟩, fun j w hj => by omega, fun i' w hi _ hw he => i i' w hi (fun j hj => by omega) hw he, j, k, fun j b hj => by omega⟩
  · rw [r4 q hq, ← g2 q (by omega) (by omega), eσ]
    funext j
    rw [kt_rd_ne (by omega), kt_rd_ne (by omega), kt_rd_ne (by omega), kt_rd_ne (by omega), kt_rd_ne (by omega), kt_rd_ne (by omega)]
theorem kn_lt {R : Nat} {ord p : Nat → Nat} {σ : KSt} (I : kn_I e R 0 ord p (fun _ => 0) σ) : lt_G R (kd_E R e ord) p ∧ kd_G R e ord p σ := by
  obtain ⟨⟨a1, a2, a3, a4⟩, b, ⟨c1, c2, c3, c4⟩, ⟨d1, d2⟩, f, g, h, i, j, k, l⟩ := I
  refine ⟨⟨fun w h1 h2 => (f w h1 h2).2.1, fun w h1 h2 => ⟨by have := (f w h1 h2).2.1; omega, h2, h1, (f w h1 h2).2.2⟩, fun a b hE => ⟨hE.1, hE.2.1⟩, j, k⟩, a1, fun i hi => ⟨c2 i hi, ?_⟩, c3, fun i h1 h2 => (f i h1 h2).1, b⟩
  rcases Nat.eq_zero_or_pos i with q | q
  · rw [q, c1]; omega
  · have := c3 i q hi; omega
end
end
section
/-! PLAIN LAW 7: the tree of keepers g, by numbers; layOutTree's sums and lists -/
noncomputable def kt_if (P : Prop) (v : Nat) : Nat := @ite Nat P (Classical.propDecidable P) v 0
theorem kt_if_t {P : Prop} {v : Nat} (h : P) : kt_if P v = v := by unfold kt_if; exact if_pos h
theorem kt_if_f {P : Prop} {v : Nat} (h : ¬ P) : kt_if P v = 0 := by unfold kt_if; exact if_neg h
theorem kt_if_le (P : Prop) (v : Nat) : kt_if P v ≤ v := by
  by_cases h : P
  · rw [kt_if_t h]; exact Nat.le_refl _
  · rw [kt_if_f h]; exact Nat.zero_le _
theorem kt_if_cg {P Q : Prop} {v : Nat} (h : P ↔ Q) : kt_if P v = kt_if Q v := by
  rw [show P = Q from propext h]
theorem kt_st_tab {σ : KSt} {k i q : Nat} {x : Int32} (h : q ≠ k) : kt_st σ k i x q = σ q := funext fun _ => kt_rd_ne h
def lt_Ac (g : Nat → Nat) (c a i : Nat) : Prop := lt_anc g a i ∧ ∀ y, lt_anc g y i → a < y → c ≤ y
section
variable {R : Nat} {g ord sz : Nat → Nat}
theorem lt_anc_par {a w : Nat} (h : lt_anc g a w) (hn : a ≠ w) : lt_anc g a (g w) := by
  rcases lt_anc_cases h with q | ⟨_, q⟩
  · exact absurd q hn
  · exact q
theorem lt_chain (hp : ∀ w, 0 < w → w < R → g w < w) : ∀ (i a b : Nat), i < R → lt_anc g a i → lt_anc g b i → a ≤ b → lt_anc g a b := by
  intro i
  induction i using Nat.strongRecOn with
  | ind i ih =>
    intro a b hi ha hb hab
    rcases lt_anc_cases hb with q | ⟨h0, hb2⟩
    · rw [q]; exact ha
    · have h1 := hp i h0 hi
      rcases lt_anc_cases ha with q | ⟨_, ha2⟩
      · have h2 := lt_anc_le hp (by omega) hb2
        omega
      · exact ih (g i) h1 a b (by omega) ha2 hb2 hab
theorem lt_Ac_top (hp : ∀ w, 0 < w → w < R → g w < w) {a i : Nat} (hi : i < R) : lt_Ac g R a i ↔ a = i := by
  constructor
  · intro h
    have h1 := lt_anc_le hp hi h.1
    refine Classical.byContradiction fun hn => ?_
    have := h.2 i (lt_anc_refl g i) (by omega)
    omega
  · intro q
    rw [q]
    exact ⟨lt_anc_refl g i, fun y hy hl => by have := lt_anc_le hp hi hy; omega⟩
theorem lt_Ac_one {a i : Nat} : lt_Ac g 1 a i ↔ lt_anc g a i := ⟨fun h => h.1, fun h => ⟨h, fun y _ hl => by omega⟩⟩
theorem lt_Ac_new (hp : ∀ w, 0 < w → w < R → g w < w) {w i : Nat} (h0 : 0 < w) (hw : w < R) (hi : i < R) : lt_Ac g w (g w) i ↔ lt_Ac g (w + 1) (g w) i ∨ lt_Ac g (w + 1) w i := by
  have hgw := hp w h0 hw
  constructor
  · intro h
    by_cases hc : lt_anc g w i
    · exact Or.inr ⟨hc, fun y hy hl => hl⟩
    · refine Or.inl ⟨h.1, fun y hy hl => ?_⟩
      have h1 := h.2 y hy hl
      have h2 : y ≠ w := fun q => hc (q ▸ hy)
      omega
  · rintro (h | h)
    · exact ⟨h.1, fun y hy hl => by have := h.2 y hy hl; omega⟩
    · refine ⟨lt_anc_trans (lt_anc_p h0) h.1, fun y hy hl => ?_⟩
      refine Classical.byContradiction fun hn => ?_
      have h1 := lt_chain hp i y w hi hy h.1 (by omega)
      have h2 := lt_anc_le hp (by omega) (lt_anc_par h1 (by omega))
      omega
theorem lt_Ac_dis (hp : ∀ w, 0 < w → w < R → g w < w) {w i : Nat} (h0 : 0 < w) (hw : w < R) (h1 : lt_Ac g (w + 1) (g w) i) (h2 : lt_Ac g (w + 1) w i) : False := by
  have := h1.2 w h2.1 (hp w h0 hw)
  omega
theorem lt_Ac_old (hp : ∀ w, 0 < w → w < R → g w < w) {w i a : Nat} (h0 : 0 < w) (hw : w < R) (hi : i < R) (hn : a ≠ g w) : lt_Ac g w a i ↔ lt_Ac g (w + 1) a i := by
  have hgw := hp w h0 hw
  constructor
  · intro h
    refine ⟨h.1, fun y hy hl => ?_⟩
    have h1 := h.2 y hy hl
    have h2 : y ≠ w := fun q => by
      rw [q] at hy hl
      have h3 := lt_chain hp i a w hi h.1 hy (by omega)
      have h4 := lt_anc_le hp (by omega) (lt_anc_par h3 (by omega))
      have h5 := h.2 (g w) (lt_anc_trans (lt_anc_p h0) hy) (by omega)
      omega
    omega
  · exact fun h => ⟨h.1, fun y hy hl => by have := h.2 y hy hl; omega⟩
end
/-- what a holds, once the numbers from c on have been added to their keepers -/
noncomputable def kl_hs (R : Nat) (ord g sz : Nat → Nat) (c a : Nat) : Nat := kt_sum (fun o => kt_if (∃ i, i < R ∧ ord i = o ∧ lt_Ac g c a i) (sz o)) 17
/-- how many guards w has -/
noncomputable def kl_dp (R : Nat) (ord g : Nat → Nat) (w : Nat) : Nat := kt_sum (fun k => kt_if (∃ a, 0 < a ∧ a < R ∧ ord a = k ∧ lt_anc g a w) 1) 16
section
variable {R : Nat} {g ord sz : Nat → Nat}
theorem kl_hs_new (hp : ∀ w, 0 < w → w < R → g w < w) (hinj : ∀ i j, i < R → j < R → ord i = ord j → i = j) {w : Nat} (h0 : 0 < w) (hw : w < R) : kl_hs R ord g sz w (g w) = kl_hs R ord g sz (w + 1) (g w) + kl_hs R ord g sz (w + 1) w := by
  unfold kl_hs
  refine kt_sum_add (fun o ho => ?_)
  show kt_if _ _ = kt_if _ _ + kt_if _ _
  by_cases h1 : ∃ i, i < R ∧ ord i = o ∧ lt_Ac g (w + 1) (g w) i
  · have h2 : ¬ ∃ i, i < R ∧ ord i = o ∧ lt_Ac g (w + 1) w i := by
      rintro ⟨i, a1, a2, a3⟩
      obtain ⟨j, b1, b2, b3⟩ := h1
      have : i = j := hinj i j a1 b1 (by rw [a2, b2])
      rw [this] at a3
      exact lt_Ac_dis hp h0 hw b3 a3
    have h3 : ∃ i, i < R ∧ ord i = o ∧ lt_Ac g w (g w) i := by
      obtain ⟨i, b1, b2, b3⟩ := h1
      exact ⟨i, b1, b2, (lt_Ac_new hp h0 hw b1).mpr (Or.inl b3)⟩
    rw [kt_if_t h1, kt_if_f h2, kt_if_t h3, Nat.add_zero]
  · by_cases h2 : ∃ i, i < R ∧ ord i = o ∧ lt_Ac g (w + 1) w i
    · have h3 : ∃ i, i < R ∧ ord i = o ∧ lt_Ac g w (g w) i := by
        obtain ⟨i, b1, b2, b3⟩ := h2
        exact ⟨i, b1, b2, (lt_Ac_new hp h0 hw b1).mpr (Or.inr b3)⟩
      rw [kt_if_f h1, kt_if_t h2, kt_if_t h3, Nat.zero_add]
    · have h3 : ¬ ∃ i, i < R ∧ ord i = o ∧ lt_Ac g w (g w) i := by
        rintro ⟨i, b1, b2, b3⟩
        rcases (lt_Ac_new hp h0 hw b1).mp b3 with q | q
        · exact h1 ⟨i, b1, b2, q⟩
        · exact h2 ⟨i, b1, b2, q⟩
      rw [kt_if_f h1, kt_if_f h2, kt_if_f h3]
theorem kl_hs_old (hp : ∀ w, 0 < w → w < R → g w < w) {w a : Nat} (h0 : 0 < w) (hw : w < R) (hn : a ≠ g w) : kl_hs R ord g sz w a = kl_hs R ord g sz (w + 1) a := by
  unfold kl_hs
  refine kt_sum_cg (fun o ho => ?_)
  refine kt_if_cg ⟨?_, ?_⟩
  · rintro ⟨i, b1, b2, b3⟩
    exact ⟨i, b1, b2, (lt_Ac_old hp h0 hw b1 hn).mp b3⟩
  · rintro ⟨i, b1, b2, b3⟩
    exact ⟨i, b1, b2, (lt_Ac_old hp h0 hw b1 hn).mpr b3⟩
theorem kl_hs_top (hp : ∀ w, 0 < w → w < R → g w < w) {a : Nat} (ha : a < R) (ho : ord a < 17) : kl_hs R ord g sz R a = sz (ord a) := by
  have h : ∀ o, o < 17 → kt_if (∃ i, i < R ∧ ord i = o ∧ lt_Ac g R a i) (sz o) = if o = ord a then sz (ord a) else 0 := by
    intro o _
    by_cases q : o = ord a
    · rw [if_pos q, q]
      exact kt_if_t ⟨a, ha, rfl, (lt_Ac_top hp ha).mpr rfl⟩
    · rw [if_neg q]
      refine kt_if_f ?_
      rintro ⟨i, b1, b2, b3⟩
      exact q (by rw [← b2, (lt_Ac_top hp b1).mp b3])
  unfold kl_hs
  rw [kt_sum_cg h]
  exact kt_sum_pt ho
theorem kl_dp_0 : kl_dp R ord g 0 = 0 := by
  unfold kl_dp
  refine kt_sum_0 (fun k _ => kt_if_f ?_)
  rintro ⟨a, a1, a2, a3, a4⟩
  rcases lt_anc_cases a4 with q | ⟨q, _⟩ <;> omega
theorem kl_dp_s (hp : ∀ w, 0 < w → w < R → g w < w) (hinj : ∀ i j, i < R → j < R → ord i = ord j → i = j) (ho : ∀ i, 0 < i → i < R → ord i < 16) {w : Nat} (h0 : 0 < w) (hw : w < R) : kl_dp R ord g w = kl_dp R ord g (g w) + 1 := by
  have hgw := hp w h0 hw
  have h : ∀ k, k < 16 → kt_if (∃ a, 0 < a ∧ a < R ∧ ord a = k ∧ lt_anc g a w) 1 = kt_if (∃ a, 0 < a ∧ a < R ∧ ord a = k ∧ lt_anc g a (g w)) 1 + (if k = ord w then 1 else 0) := by
    intro k _
    by_cases q : k = ord w
    · rw [if_pos q, kt_if_t ⟨w, h0, hw, q.symm, lt_anc_refl g w⟩, kt_if_f]
      rintro ⟨a, a1, a2, a3, a4⟩
      have h1 : a = w := hinj a w a2 hw (by rw [a3, q])
      have h2 := lt_anc_le hp (by omega) a4
      omega
    · rw [if_neg q, Nat.add_zero]
      refine kt_if_cg ⟨?_, ?_⟩
      · rintro ⟨a, a1, a2, a3, a4⟩
        exact ⟨a, a1, a2, a3, lt_anc_par a4 (fun z => q (by rw [← a3, z]))⟩
      · rintro ⟨a, a1, a2, a3, a4⟩
        exact ⟨a, a1, a2, a3, lt_anc_up h0 a4⟩
  unfold kl_dp
  rw [kt_sum_add h, kt_sum_one (ho w h0 hw)]
theorem kl_dp_le (w : Nat) : kl_dp R ord g w ≤ 16 := by
  have := kt_sum_le (f := fun k => kt_if (∃ a, 0 < a ∧ a < R ∧ ord a = k ∧ lt_anc g a w) 1) (c := 1) (n := 16) (fun k _ => kt_if_le _ _)
  unfold kl_dp
  omega
end
/-- what the passes before have left, as layOutTree reads it -/
def kl_H (R : Nat) (ord g sz : Nat → Nat) (σ : KSt) : Prop :=
  (σ 4 0 = nI R ∧ 1 ≤ R ∧ R ≤ 17) ∧ (ord 0 = 16 ∧ (∀ i, i < R → σ 6 i = nI (ord i) ∧ ord i < 17) ∧ (∀ i, 0 < i → i < R → ord i < 16) ∧ (∀ i j, i < R → j < R → ord i = ord j → i = j)) ∧ ((∀ i, i < R → σ 5 (ord i) = nI i) ∧ (∀ v, v < 17 → (∀ i, i < R → ord i ≠ v) → σ 5 v = -1)) ∧ (∀ w, 0 < w → w < R → σ 11 w = nI (g w) ∧ g w < w) ∧ (∀ v, v < 17 → σ 0 v = nI (sz v) ∧ sz v ≤ 1000)
/-- the lists of the tree's children from number c on -/
def kl_B (R : Nat) (ord g : Nat → Nat) (c : Nat) (σ : KSt) : Prop := ∃ bk : Nat → List Nat, ∀ a, a < R → kd_ch (σ 16) (σ 15 (ord a)) ((bk a).map ord) ∧ (bk a).Pairwise (· < ·) ∧ ∀ x, x ∈ bk a ↔ c ≤ x ∧ 0 < x ∧ x < R ∧ g x = a
section
variable {R : Nat} {g ord sz : Nat → Nat} {N : Nat}
theorem kl_H_keep {σ σ' : KSt} (h : kl_H R ord g sz σ) (h0 : σ' 0 = σ 0) (h4 : σ' 4 = σ 4) (h5 : σ' 5 = σ 5) (h6 : σ' 6 = σ 6) (h11 : σ' 11 = σ 11) : kl_H R ord g sz σ' := by
  unfold kl_H
  rw [h0, h4, h5, h6, h11]
  exact h
theorem kl_19 : ∀ (n v : Nat) (σ : KSt), kl_H R ord g sz σ → (∀ u, u < v → σ 15 u = -1 ∧ ((∃ i, i < R ∧ ord i = u) → σ 19 u = nI (sz u))) → v ≤ 17 → 17 < n + v →
    ∃ r : Int32 × KSt, k_layOutTree_19 n (nI v) σ = some r ∧ (∀ u, u < 17 → r.2 15 u = -1 ∧ ((∃ i, i < R ∧ ord i = u) → r.2 19 u = nI (sz u))) ∧ (∀ q, q ≠ 15 → q ≠ 19 → r.2 q = σ q) := by
  intro n
  induction n with
  | zero => intro v σ _ _ h1 h2; omega
  | succ n ih =>
    intro v σ H hj hv hn
    have hR := H.1.2.2
    rw [k_layOutTree_19]
    rcases Nat.lt_or_ge v 17 with h | h
    · rw [if_neg (kt_c17 h), kt_chkn (by omega), kt_ixs (by omega)]
      have fin : ∀ y : Int32, ((∃ i, i < R ∧ ord i = v) → y = nI (sz v)) → ∃ r : Int32 × KSt, k_layOutTree_19 n (nI (v + 1)) (kt_st (kt_st σ 19 v y) 15 v (-1)) = some r ∧ (∀ u, u < 17 → r.2 15 u = -1 ∧ ((∃ i, i < R ∧ ord i = u) → r.2 19 u = nI (sz u))) ∧ (∀ q, q ≠ 15 → q ≠ 19 → r.2 q = σ q) := by
        intro y hy
        have kp : ∀ q, q ≠ 15 → q ≠ 19 → kt_st (kt_st σ 19 v y) 15 v (-1) q = σ q := fun q h1 h2 => by
          rw [kt_st_tab h1, kt_st_tab h2]
        obtain ⟨r, r1, r2, r3⟩ := ih (v + 1) (kt_st (kt_st σ 19 v y) 15 v (-1)) (kl_H_keep H (kp 0 (by decide) (by decide)) (kp 4 (by decide) (by decide)) (kp 5 (by decide) (by decide)) (kp 6 (by decide) (by decide)) (kp 11 (by decide) (by decide))) (fun u hu => by
          by_cases q : u = v
          · subst q
            refine ⟨kt_rd_eq, fun ha => ?_⟩
            rw [kt_rd_ne (by decide), kt_rd_eq]
            exact hy ha
          · have := hj u (by omega)
            rw [kt_rd_ni q, kt_rd_ne (by decide), kt_rd_ne (by decide), kt_rd_ni q]
            exact this) (by omega) (by omega)
        exact ⟨r, r1, r2, fun q h1 h2 => by rw [r3 q h1 h2, kp q h1 h2]⟩
      by_cases ha : ∃ i, i < R ∧ ord i = v
      · obtain ⟨i, i1, i2⟩ := ha
        have e5 : σ 5 v = nI i := by rw [← i2]; exact H.2.2.1.1 i i1
        rw [e5, if_neg (kt_nz i (by omega)), kt_chkn (by omega), kt_nm, kt_chkn (by omega), kt_chkn (by omega), nI_a1, (H.2.2.2.2 v h).1]
        exact fin (nI (sz v)) (fun _ => rfl)
      · have e5 : σ 5 v = -1 := H.2.2.1.2 v h (fun i hi q => ha ⟨i, hi, q⟩)
        rw [e5, if_pos nI_n0, kt_chkn (by omega), kt_chkn (by omega), nI_a1]
        exact fin 0 (fun q => absurd q ha)
    · rw [if_pos (show (17 : Int32) ≤ nI v from nI_le (a := 17) h (by omega))]
      exact ⟨_, rfl, fun u hu => hj u (by omega), fun _ _ _ => rfl⟩
theorem kl_65 : ∀ (n k : Nat) (σ : KSt), kl_H R ord g sz σ → (∀ w, w < k → σ 18 (ord w) = nI (kl_dp R ord g w) ∧ (0 < w → σ 17 (ord w) = nI (ord (g w)))) → σ 17 16 = 16 → 0 < k → k ≤ R → R < n + k →
    ∃ r : Int32 × KSt, k_layOutTree_65 n (nI k) σ = some r ∧ (∀ w, w < R → r.2 18 (ord w) = nI (kl_dp R ord g w) ∧ (0 < w → r.2 17 (ord w) = nI (ord (g w)))) ∧ r.2 17 16 = 16 ∧ (∀ q, q ≠ 17 → q ≠ 18 → r.2 q = σ q) := by
  intro n
  induction n with
  | zero => intro k σ _ _ _ _ h1 h2; omega
  | succ n ih =>
    intro k σ H hj h17 h0 hk hn
    have hR := H.1.2.2
    rw [k_layOutTree_65, H.1.1]
    rcases Nat.lt_or_ge k R with h | h
    · have ok := H.2.1.2.1 k h
      have ok16 := H.2.1.2.2.1 k h0 h
      have gk := H.2.2.2.1 k h0 h
      have og := H.2.1.2.1 (g k) (by omega)
      have ek := hj (g k) (by omega)
      have hd := kl_dp_s (fun w a b => (H.2.2.2.1 w a b).2) H.2.1.2.2.2 H.2.1.2.2.1 h0 h
      rw [if_neg (nI_ge h (by omega)), kt_chkn (by omega), kt_ixs (by omega), ok.1, kt_nm, kt_chkn (by omega), gk.1, kt_chkn (by omega), kt_ixs (by omega), og.1, kt_nm, kt_chkn (by omega), kt_chkn (by omega), kt_ixs (by omega), ek.1, nI_a1, kt_nm, kt_chkn (by omega), kt_ixs (by omega), nI_a1, ← hd]
      have kp : ∀ q, q ≠ 17 → q ≠ 18 → kt_st (kt_st σ 17 (ord k) (nI (ord (g k)))) 18 (ord k) (nI (kl_dp R ord g k)) q = σ q := fun q h1 h2 => by
        rw [kt_st_tab h2, kt_st_tab h1]
      obtain ⟨r, r1, r2, r3, r4⟩ := ih (k + 1) (kt_st (kt_st σ 17 (ord k) (nI (ord (g k)))) 18 (ord k) (nI (kl_dp R ord g k))) (kl_H_keep H (kp 0 (by decide) (by decide)) (kp 4 (by decide) (by decide)) (kp 5 (by decide) (by decide)) (kp 6 (by decide) (by decide)) (kp 11 (by decide) (by decide))) (fun w hw => by
        by_cases q : w = k
        · rw [q]
          exact ⟨kt_rd_eq, fun _ => by rw [kt_rd_ne (by decide), kt_rd_eq]⟩
        · have hne : ord w ≠ ord k := fun z => q (H.2.1.2.2.2 w k (by omega) h z)
          have := hj w (by omega)
          refine ⟨by rw [kt_rd_ni hne, kt_rd_ne (by decide)]; exact this.1, fun z => by rw [kt_rd_ne (by decide), kt_rd_ni hne]; exact this.2 z⟩) (by rw [kt_rd_ne (by decide), kt_rd_ni (by omega)]; exact h17) (by omega) (by omega) (by omega)
      exact ⟨r, r1, r2, r3, fun q h1 h2 => by rw [r4 q h1 h2, kp q h1 h2]⟩
    · rw [if_pos (nI_le h (by omega))]
      exact ⟨_, rfl, fun w hw => hj w (by omega), h17, fun _ _ _ => rfl⟩
theorem kl_B_step {σ σ' : KSt} {W : Nat} (hinj : ∀ i j, i < R → j < R → ord i = ord j → i = j) (h0 : 0 < W) (hW : W < R) (hg : g W < W) (B : kl_B R ord g (W + 1) σ) (k16 : ∀ j, σ' 16 j = if j = ord W then σ 15 (ord (g W)) else σ 16 j) (k15 : ∀ j, σ' 15 j = if j = ord (g W) then nI (ord W) else σ 15 j) : kl_B R ord g W σ' := by
  obtain ⟨bk, hbk⟩ := B
  have hmem : ∀ a, a < R → ∀ x, x ∈ (bk a).map ord → σ' 16 x = σ 16 x := by
    intro a ha x hx
    obtain ⟨z, z1, z2⟩ := List.mem_map.mp hx
    have hz := ((hbk a ha).2.2 z).mp z1
    rw [k16, if_neg]
    intro q
    have := hinj z W hz.2.2.1 hW (by rw [z2, q])
    omega
  refine ⟨fun a => if a = g W then W :: bk (g W) else bk a, fun a ha => ?_⟩
  by_cases q : a = g W
  · obtain ⟨b1, b2, b3⟩ := hbk (g W) (by omega)
    have hm := hmem (g W) (by omega)
    show kd_ch (σ' 16) (σ' 15 (ord a)) ((if a = g W then W :: bk (g W) else bk a).map ord) ∧ (if a = g W then W :: bk (g W) else bk a).Pairwise (· < ·) ∧ ∀ x, x ∈ (if a = g W then W :: bk (g W) else bk a) ↔ W ≤ x ∧ 0 < x ∧ x < R ∧ g x = a
    rw [if_pos q, q]
    refine ⟨⟨?_, ?_⟩, List.pairwise_cons.mpr ⟨fun z hz => ?_, b2⟩, fun x => ⟨fun hx => ?_, fun hx => ?_⟩⟩
    · rw [k15, if_pos rfl]
    · show kd_ch (σ' 16) (σ' 16 (ord W)) ((bk (g W)).map ord)
      have e1 : σ' 16 (ord W) = σ 15 (ord (g W)) := by rw [k16, if_pos rfl]
      rw [e1]
      exact kd_ch_cg hm b1
    · have := (b3 z).mp hz
      omega
    · rcases List.mem_cons.mp hx with z | z
      · rw [z]; exact ⟨Nat.le_refl _, h0, hW, rfl⟩
      · have := (b3 x).mp z
        exact ⟨by omega, this.2⟩
    · by_cases z : x = W
      · rw [z]; exact List.mem_cons_self
      · exact List.mem_cons_of_mem _ ((b3 x).mpr ⟨by omega, hx.2⟩)
  · obtain ⟨b1, b2, b3⟩ := hbk a ha
    show kd_ch (σ' 16) (σ' 15 (ord a)) ((if a = g W then W :: bk (g W) else bk a).map ord) ∧ (if a = g W then W :: bk (g W) else bk a).Pairwise (· < ·) ∧ ∀ x, x ∈ (if a = g W then W :: bk (g W) else bk a) ↔ W ≤ x ∧ 0 < x ∧ x < R ∧ g x = a
    rw [if_neg q]
    refine ⟨?_, b2, fun x => ⟨fun hx => ?_, fun hx => ?_⟩⟩
    · rw [k15, if_neg (fun z => q (hinj a (g W) ha (by omega) z))]
      exact kd_ch_cg (hmem a ha) b1
    · have := (b3 x).mp hx
      exact ⟨by omega, this.2⟩
    · have : x ≠ W := fun z => q (by rw [← hx.2.2.2, z])
      exact (b3 x).mpr ⟨by omega, hx.2⟩
theorem kl_126 : ∀ (n w : Nat) (σ : KSt), kl_H R ord g sz σ → (∀ a, 0 < a → a < R → σ 17 (ord a) = nI (ord (g a))) → (∀ a, a < R → σ 19 (ord a) = nI (kl_hs R ord g sz (w + 1) a)) → kl_B R ord g (w + 1) σ → w < R → w < n →
    ∃ r : Int32 × KSt, k_layOutTree_126 n (nI w) σ = some r ∧ (∀ a, a < R → r.2 19 (ord a) = nI (kl_hs R ord g sz 1 a)) ∧ kl_B R ord g 1 r.2 ∧ (∀ q, q ≠ 15 → q ≠ 16 → q ≠ 19 → r.2 q = σ q) := by
  intro n
  induction n with
  | zero => intro w σ _ _ _ _ h1 h2; omega
  | succ n ih =>
    intro w σ H h17 h19 B hw hn
    have hR := H.1.2.2
    rw [k_layOutTree_126]
    rcases Nat.eq_zero_or_pos w with q | q
    · subst q
      rw [if_pos (show nI 0 ≤ 0 by decide)]
      exact ⟨_, rfl, h19, B, fun _ _ _ _ => rfl⟩
    · obtain ⟨w, rfl⟩ : ∃ z, w = z + 1 := ⟨w - 1, by omega⟩
      have ow := H.2.1.2.1 (w + 1) hw
      have gw := (H.2.2.2.1 (w + 1) q hw).2
      have og := H.2.1.2.1 (g (w + 1)) (by omega)
      have e17 := h17 (w + 1) q hw
      have ea := h19 (g (w + 1)) (by omega)
      have eb := h19 (w + 1) hw
      have hp : ∀ w, 0 < w → w < R → g w < w := fun w a b => (H.2.2.2.1 w a b).2
      have hinj := H.2.1.2.2.2
      rw [if_neg (nI_nle q (by omega)), kt_chkn (by omega), kt_ixs (by omega), ow.1, kt_nm, kt_chkn (by omega), kt_ixs (by omega), e17, kt_nm, kt_chkn (by omega), kt_chkn (by omega), kt_ixs (by omega), ea, eb, nI_add, kt_nm, kt_chkn (by omega), kt_chkn (by omega), kt_nm, kt_chkn (by omega), kt_chkn (by omega), nI_am1, nI_m1, ← kl_hs_new hp hinj q hw]
      obtain ⟨σ', eσ⟩ : ∃ z, z = kt_st (kt_st (kt_st σ 19 (ord (g (w + 1))) (nI (kl_hs R ord g sz (w + 1) (g (w + 1))))) 16 (ord (w + 1)) (σ 15 (ord (g (w + 1))))) 15 (ord (g (w + 1))) (nI (ord (w + 1))) := ⟨_, rfl⟩
      rw [← eσ]
      have kp : ∀ q, q ≠ 15 → q ≠ 16 → q ≠ 19 → σ' q = σ q := fun q h1 h2 h3 => by
        rw [eσ, kt_st_tab h1, kt_st_tab h2, kt_st_tab h3]
      have k15 : ∀ j, σ' 15 j = if j = ord (g (w + 1)) then nI (ord (w + 1)) else σ 15 j := fun j => by rw [eσ]; simp [kt_rd]
      have k16 : ∀ j, σ' 16 j = if j = ord (w + 1) then σ 15 (ord (g (w + 1))) else σ 16 j := fun j => by rw [eσ]; simp [kt_rd]
      have k19 : ∀ j, σ' 19 j = if j = ord (g (w + 1)) then nI (kl_hs R ord g sz (w + 1) (g (w + 1))) else σ 19 j := fun j => by rw [eσ]; simp [kt_rd]
      obtain ⟨r, r1, r2, r3, r4⟩ := ih w σ' (kl_H_keep H (kp 0 (by decide) (by decide) (by decide)) (kp 4 (by decide) (by decide) (by decide)) (kp 5 (by decide) (by decide) (by decide)) (kp 6 (by decide) (by decide) (by decide)) (kp 11 (by decide) (by decide) (by decide))) (fun a a1 a2 => by rw [kp 17 (by decide) (by decide) (by decide)]; exact h17 a a1 a2) (fun a ha => by
        rw [k19]
        by_cases z : a = g (w + 1)
        · rw [if_pos (by rw [z]), z]
        · rw [if_neg (fun y => z (hinj a _ ha (by omega) y)), h19 a ha, kl_hs_old hp q hw z]) (kl_B_step hinj q hw gw B k16 k15) (by omega) (by omega)
      exact ⟨r, r1, r2, r3, fun q h1 h2 h3 => by rw [r4 q h1 h2 h3, kp q h1 h2 h3]⟩
end
end
section
/-! PLAIN LAW 8: walkTree: the intervals of the tree; layOutTree as a whole -/
/-- the state of the walk: P places given, d numbers on the stack, vis: seen; F, L the intervals -/
def kw_I (R : Nat) (ord g : Nat → Nat) (P d : Nat) (stk : Nat → Nat) (vis : Nat → Bool) (F L : Nat → Nat) (bk : Nat → List Nat) (σ : KSt) : Prop :=
  (∀ a, a < R → kd_ch (σ 16) (σ 15 (ord a)) ((bk a).map ord) ∧ (bk a).Pairwise (· < ·) ∧ ∀ x, x ∈ bk a ↔ 0 < x ∧ x < R ∧ g x = a ∧ vis x = false) ∧
  (vis 0 = true ∧ ∀ w, 0 < w → w < R → vis w = true → vis (g w) = true) ∧
  ((∀ j, j < d → stk j < R ∧ vis (stk j) = true ∧ σ 8 j = nI (ord (stk j))) ∧ (0 < d → stk 0 = 0) ∧ (∀ j, j + 1 < d → 0 < stk (j + 1) ∧ g (stk (j + 1)) = stk j)) ∧
  (∀ a, a < R → vis a = true → (∃ j, j < d ∧ stk j = a) ∨ ((∀ j, j < d → stk j ≠ a) ∧ bk a = [] ∧ L a ≤ P ∧ σ 21 (ord a) = nI (L a) ∧ ∀ b, b < R → vis b = true → ((F a ≤ F b ∧ F b ≤ L a) ↔ lt_anc g a b))) ∧
  (∀ a, a < R → vis a = true → F a ≤ P ∧ σ 20 (ord a) = nI (F a)) ∧
  (∀ j, j < d → ∀ b, b < R → vis b = true → (F (stk j) ≤ F b ↔ lt_anc g (stk j) b)) ∧
  kt_sum (fun w => if vis w = true then 1 else 0) R = P + 1
/-- what the walk leaves -/
def kw_Z (R : Nat) (ord g : Nat → Nat) (σ : KSt) : Prop := ∃ F L : Nat → Nat, ∀ a, a < R → σ 20 (ord a) = nI (F a) ∧ σ 21 (ord a) = nI (L a) ∧ F a ≤ 16 ∧ L a ≤ 16 ∧ ∀ b, b < R → ((F a ≤ F b ∧ F b ≤ L a) ↔ lt_anc g a b)
section
variable {R : Nat} {g ord sz : Nat → Nat} {N : Nat}
theorem kw_ge {stk : Nat → Nat} {d : Nat} (hp : ∀ w, 0 < w → w < R → g w < w) (h1 : ∀ j, j < d → stk j < R) (h2 : ∀ j, j + 1 < d → 0 < stk (j + 1) ∧ g (stk (j + 1)) = stk j) : ∀ j, j < d → j ≤ stk j := by
  intro j
  induction j with
  | zero => intro _; exact Nat.zero_le _
  | succ j ih =>
    intro hj
    have a := ih (by omega)
    have b := h2 j hj
    have c := hp _ b.1 (h1 _ hj)
    omega
theorem kw_lt {stk : Nat → Nat} {d : Nat} (hp : ∀ w, 0 < w → w < R → g w < w) (h1 : ∀ j, j < d → stk j < R) (h2 : ∀ j, j + 1 < d → 0 < stk (j + 1) ∧ g (stk (j + 1)) = stk j) (i : Nat) : ∀ k, i + k + 1 < d → stk i < stk (i + k + 1) := by
  intro k
  induction k with
  | zero =>
    intro hj
    have b := h2 i hj
    have c := hp _ b.1 (h1 _ hj)
    show stk i < stk (i + 1)
    omega
  | succ k ih =>
    intro hj
    have a := ih (by omega)
    have b := h2 (i + k + 1) (by omega)
    have c := hp _ b.1 (h1 _ (by omega))
    show stk i < stk (i + k + 1 + 1)
    omega
theorem kw_anc {stk : Nat → Nat} {d : Nat} (h2 : ∀ j, j + 1 < d → 0 < stk (j + 1) ∧ g (stk (j + 1)) = stk j) (i : Nat) : ∀ k, i + k < d → lt_anc g (stk i) (stk (i + k)) := by
  intro k
  induction k with
  | zero => intro _; exact lt_anc_refl g _
  | succ k ih =>
    intro hj
    have b := h2 (i + k) hj
    refine lt_anc_up (y := stk (i + (k + 1))) b.1 ?_
    have e : g (stk (i + (k + 1))) = stk (i + k) := b.2
    rw [e]
    exact ih (by omega)
theorem kw_up {vis : Nat → Bool} (hp : ∀ w, 0 < w → w < R → g w < w) (hv : ∀ w, 0 < w → w < R → vis w = true → vis (g w) = true) {u b : Nat} (hb : b < R) (hvb : vis b = true) (h : lt_anc g u b) : vis u = true :=
  (h (fun z => z < R ∧ vis z = true) ⟨hb, hvb⟩ (fun y hy h0 => ⟨by have := hp y h0 hy.1; omega, hv y h0 hy.1 hy.2⟩)).2
theorem kw_end {P : Nat} {stk : Nat → Nat} {vis : Nat → Bool} {F L : Nat → Nat} {bk : Nat → List Nat} {σ : KSt} (hR : R ≤ 17) (hp : ∀ w, 0 < w → w < R → g w < w) (hP : P + 1 ≤ R) (I : kw_I R ord g P 0 stk vis F L bk σ) : kw_Z R ord g σ := by
  obtain ⟨I1, ⟨I2, I2b⟩, -, I4, I5, -, -⟩ := I
  have all : ∀ w, w < R → vis w = true := by
    intro w
    induction w using Nat.strongRecOn with
    | ind w ih =>
      intro hw
      rcases Nat.eq_zero_or_pos w with q | q
      · rw [q]; exact I2
      · have h1 := hp w q hw
        rcases I4 (g w) (by omega) (ih (g w) h1 (by omega)) with ⟨j, hj, _⟩ | ⟨_, hb, _⟩
        · omega
        · cases hv : vis w
          · have h2 := ((I1 (g w) (by omega)).2.2 w).mpr ⟨q, hw, rfl, hv⟩
            rw [hb] at h2
            cases h2
          · rfl
  refine ⟨F, L, fun a ha => ?_⟩
  have h5 := I5 a ha (all a ha)
  rcases I4 a ha (all a ha) with ⟨j, hj, _⟩ | ⟨_, _, h1, h2, h3⟩
  · omega
  · exact ⟨h5.2, h2, by omega, by omega, fun b hb => h3 b hb (all b hb)⟩
theorem kw_pop {P d : Nat} {stk : Nat → Nat} {vis : Nat → Bool} {F L : Nat → Nat} {bk : Nat → List Nat} {σ : KSt} (hp : ∀ w, 0 < w → w < R → g w < w) (hinj : ∀ i j, i < R → j < R → ord i = ord j → i = j) (I : kw_I R ord g P (d + 1) stk vis F L bk σ) (hb : bk (stk d) = []) : kw_I R ord g P d stk vis F (va_up L (stk d) P) bk (kt_st σ 21 (ord (stk d)) (nI P)) := by
  obtain ⟨I1, I2, ⟨I3, I3b, I3c⟩, I4, I5, I6, I7⟩ := I
  have gd := I3 d (by omega)
  refine ⟨fun a ha => ?_, I2, ⟨fun j hj => ?_, fun h => I3b (by omega), fun j hj => I3c j (by omega)⟩, fun a ha hva => ?_, fun a ha hva => ?_, fun j hj => I6 j (by omega), I7⟩
  · rw [kt_st_tab (by decide), kt_st_tab (by decide)]
    exact I1 a ha
  · rw [kt_st_tab (by decide)]
    exact I3 j (by omega)
  · by_cases q : a = stk d
    · right
      rw [q]
      refine ⟨fun j hj z => ?_, hb, ?_, ?_, fun b hb2 hvb => ?_⟩
      · have := kw_lt hp (fun j hj => (I3 j hj).1) I3c j (d - j - 1) (by omega)
        rw [show j + (d - j - 1) + 1 = d by omega] at this
        omega
      · rw [show va_up L (stk d) P (stk d) = P from if_pos rfl]; exact Nat.le_refl _
      · rw [show va_up L (stk d) P (stk d) = P from if_pos rfl, kt_rd_eq]
      · rw [show va_up L (stk d) P (stk d) = P from if_pos rfl]
        have h1 := I6 d (by omega) b hb2 hvb
        have h2 := I5 b hb2 hvb
        exact ⟨fun h => h1.mp h.1, fun h => ⟨h1.mpr h, h2.1⟩⟩
    · rcases I4 a ha hva with ⟨j, j1, j2⟩ | ⟨j1, j2, j3, j4, j5⟩
      · left
        refine ⟨j, ?_, j2⟩
        have : j ≠ d := fun z => q (by rw [← j2, z])
        omega
      · right
        rw [show va_up L (stk d) P a = L a from if_neg q]
        refine ⟨fun j hj => j1 j (by omega), j2, j3, ?_, j5⟩
        rw [kt_rd_ni (fun z => q (hinj a _ ha gd.1 z))]
        exact j4
  · rw [kt_rd_ne (by decide)]
    exact I5 a ha hva
theorem kw_push {P d u : Nat} {rest : List Nat} {stk : Nat → Nat} {vis : Nat → Bool} {F L : Nat → Nat} {bk : Nat → List Nat} {σ σ' : KSt} (hp : ∀ w, 0 < w → w < R → g w < w) (hinj : ∀ i j, i < R → j < R → ord i = ord j → i = j) (I : kw_I R ord g P (d + 1) stk vis F L bk σ) (hb : bk (stk d) = u :: rest) (k15 : ∀ j, σ' 15 j = if j = ord (stk d) then σ 16 (ord u) else σ 15 j) (k20 : ∀ j, σ' 20 j = if j = ord u then nI (P + 1) else σ 20 j) (k8 : ∀ j, σ' 8 j = if j = d + 1 then nI (ord u) else σ 8 j) (k16 : σ' 16 = σ 16) (k21 : σ' 21 = σ 21) :
    kw_I R ord g (P + 1) (d + 2) (va_up stk (d + 1) u) (va_up vis u true) (va_up F u (P + 1)) L (va_up bk (stk d) rest) σ' := by
  obtain ⟨I1, ⟨I2, I2b⟩, ⟨I3, I3b, I3c⟩, I4, I5, I6, I7⟩ := I
  have gd := I3 d (by omega)
  have hc := I1 (stk d) gd.1
  rw [hb] at hc
  obtain ⟨⟨c1, c2⟩, c3, c4⟩ := hc
  have hu := (c4 u).mp List.mem_cons_self
  obtain ⟨hu0, huR, hug, huv⟩ := hu
  have hpl := List.pairwise_cons.mp c3
  have s0 : va_up stk (d + 1) u (d + 1) = u := if_pos rfl
  have sn : ∀ x, x ≠ d + 1 → va_up stk (d + 1) u x = stk x := fun x hx => if_neg hx
  have v0 : va_up vis u true u = true := if_pos rfl
  have vn : ∀ x, x ≠ u → va_up vis u true x = vis x := fun x hx => if_neg hx
  have f0 : va_up F u (P + 1) u = P + 1 := if_pos rfl
  have fn : ∀ x, x ≠ u → va_up F u (P + 1) x = F x := fun x hx => if_neg hx
  have b0 : va_up bk (stk d) rest (stk d) = rest := if_pos rfl
  have bn : ∀ x, x ≠ stk d → va_up bk (stk d) rest x = bk x := fun x hx => if_neg hx
  have vu : ∀ x, vis x = true → x ≠ u := fun x hx z => by rw [z, huv] at hx; cases hx
  have vof : ∀ x, x ≠ u → va_up vis u true x = true → vis x = true := fun x hx h => by rw [vn x hx] at h; exact h
  have vto : ∀ x, vis x = true → va_up vis u true x = true := fun x hx => by rw [vn x (vu x hx)]; exact hx
  have onst : ∀ j, j < d + 1 → lt_anc g (stk j) u := fun j hj => by
    refine lt_anc_up hu0 ?_
    rw [hug]
    have := kw_anc I3c j (d - j) (by omega)
    rw [show j + (d - j) = d by omega] at this
    exact this
  refine ⟨fun a ha => ?_, ⟨vto 0 I2, fun w h0 hw hvw => ?_⟩, ⟨fun j hj => ?_, fun _ => ?_, fun j hj => ?_⟩, fun a ha hva => ?_, fun a ha hva => ?_, fun j hj b hbR hvb => ?_, ?_⟩
  · rw [k16]
    by_cases q : a = stk d
    · rw [q, b0, k15, if_pos rfl]
      refine ⟨c2, hpl.2, fun x => ⟨fun hx => ?_, fun hx => ?_⟩⟩
      · have h1 := (c4 x).mp (List.mem_cons_of_mem _ hx)
        have h2 := hpl.1 x hx
        exact ⟨h1.1, h1.2.1, h1.2.2.1, by rw [vn x (by omega)]; exact h1.2.2.2⟩
      · have hxu : x ≠ u := fun z => by rw [z, v0] at hx; cases hx.2.2.2
        rw [vn x hxu] at hx
        rcases List.mem_cons.mp ((c4 x).mpr hx) with z | z
        · exact absurd z hxu
        · exact z
    · rw [bn a q, k15, if_neg (fun z => q (hinj a _ ha gd.1 z))]
      obtain ⟨h1, h2, h3⟩ := I1 a ha
      refine ⟨h1, h2, fun x => ⟨fun hx => ?_, fun hx => ?_⟩⟩
      · have h4 := (h3 x).mp hx
        have hxu : x ≠ u := fun z => q (by rw [← h4.2.2.1, z, hug])
        exact ⟨h4.1, h4.2.1, h4.2.2.1, by rw [vn x hxu]; exact h4.2.2.2⟩
      · have hxu : x ≠ u := fun z => by rw [z, v0] at hx; cases hx.2.2.2
        rw [vn x hxu] at hx
        exact (h3 x).mpr hx
  · by_cases q : w = u
    · rw [q, hug]; exact vto _ gd.2.1
    · exact vto _ (I2b w h0 hw (vof w q hvw))
  · rw [k8]
    by_cases q : j = d + 1
    · rw [if_pos q, q, s0]; exact ⟨huR, v0, rfl⟩
    · rw [if_neg q, sn j q]
      have := I3 j (by omega)
      exact ⟨this.1, vto _ this.2.1, this.2.2⟩
  · rw [sn 0 (by omega)]; exact I3b (by omega)
  · by_cases q : j = d
    · rw [q, s0, sn d (by omega)]; exact ⟨hu0, hug⟩
    · rw [sn (j + 1) (by omega), sn j (by omega)]; exact I3c j (by omega)
  · by_cases q : a = u
    · left; exact ⟨d + 1, by omega, by rw [s0, q]⟩
    · rcases I4 a ha (vof a q hva) with ⟨j, j1, j2⟩ | ⟨j1, j2, j3, j4, j5⟩
      · left; exact ⟨j, by omega, by rw [sn j (by omega)]; exact j2⟩
      · right
        have had : a ≠ stk d := fun z => j1 d (by omega) z.symm
        refine ⟨fun j hj => ?_, by rw [bn a had]; exact j2, by omega, by rw [k21]; exact j4, fun b hbR hvb => ?_⟩
        · by_cases z : j = d + 1
          · rw [z, s0]; exact fun y => q y.symm
          · rw [sn j z]; exact j1 j (by omega)
        · rw [fn a q]
          by_cases z : b = u
          · rw [z, f0]
            refine ⟨fun h => by omega, fun h => ?_⟩
            have h1 := lt_anc_par h q
            rw [hug] at h1
            obtain ⟨i, i1, i2⟩ := kn_up I3b I3c d (by omega) h1
            exact absurd i2.symm (j1 i (by omega))
          · rw [fn b z]
            exact j5 b hbR (vof b z hvb)
  · rw [k20]
    by_cases q : a = u
    · rw [if_pos (by rw [q]), q, f0]; exact ⟨Nat.le_refl _, rfl⟩
    · rw [if_neg (fun z => q (hinj a _ ha huR z)), fn a q]
      have := I5 a ha (vof a q hva)
      exact ⟨by omega, this.2⟩
  · by_cases q : j = d + 1
    · rw [q, s0, f0]
      by_cases z : b = u
      · rw [z, f0]; exact ⟨fun _ => lt_anc_refl g u, fun _ => Nat.le_refl _⟩
      · rw [fn b z]
        have h1 := I5 b hbR (vof b z hvb)
        refine ⟨fun h => by omega, fun h => ?_⟩
        have := kw_up hp I2b hbR (vof b z hvb) h
        rw [huv] at this
        cases this
    · have hj1 := I3 j (by omega)
      rw [sn j q, fn _ (vu _ hj1.2.1)]
      by_cases z : b = u
      · rw [z, f0]
        have h1 := I5 _ hj1.1 hj1.2.1
        exact ⟨fun _ => onst j (by omega), fun _ => by omega⟩
      · rw [fn b z]
        exact I6 j (by omega) b hbR (vof b z hvb)
  · rw [kt_sum_add (g := fun w => if vis w = true then 1 else 0) (h := fun w => if w = u then 1 else 0), I7, kt_sum_one huR]
    intro w hw
    show (if va_up vis u true w = true then 1 else 0) = (if vis w = true then 1 else 0) + (if w = u then 1 else 0)
    by_cases q : w = u
    · rw [q]; simp [v0, huv]
    · rw [vn w q, if_neg q, Nat.add_zero]
theorem kw_loop (hR : R ≤ 17) (hp : ∀ w, 0 < w → w < R → g w < w) (hord : ∀ i, i < R → ord i < 17) (hinj : ∀ i j, i < R → j < R → ord i = ord j → i = j) : ∀ (n stp P d : Nat) (stk : Nat → Nat) (vis : Nat → Bool) (F L : Nat → Nat) (bk : Nat → List Nat) (σ : KSt), kw_I R ord g P d stk vis F L bk σ → stp + d = 2 * P + 1 → 40 < n + stp →
    ∃ r : Int32 × Int32 × Int32 × KSt, k_walkTree_22 n (nI P) (nI d) (nI stp) σ = some r ∧ kw_Z R ord g r.2.2.2 ∧ (∀ q, q ≠ 8 → q ≠ 15 → q ≠ 20 → q ≠ 21 → r.2.2.2 q = σ q) := by
  intro n
  induction n with
  | zero =>
    intro stp P d stk vis F L bk σ I h1 h2
    have := kt_sum_le (f := fun w => if vis w = true then 1 else 0) (c := 1) (n := R) (fun k _ => by split <;> omega)
    rw [I.2.2.2.2.2.2] at this
    omega
  | succ n ih =>
    intro stp P d stk vis F L bk σ I h1 h2
    have hP : P + 1 ≤ R := by
      have := kt_sum_le (f := fun w => if vis w = true then 1 else 0) (c := 1) (n := R) (fun k _ => by split <;> omega)
      rw [I.2.2.2.2.2.2] at this
      omega
    rw [k_walkTree_22, if_neg (show ¬ ((40 : Int32) ≤ nI stp) from nI_ge (b := 40) (by omega) (by omega))]
    rcases Nat.eq_zero_or_pos d with rfl | hd
    · rw [if_pos (show nI 0 ≤ 0 by decide)]
      exact ⟨_, rfl, kw_end hR hp hP I, fun _ _ _ _ _ => rfl⟩
    · obtain ⟨d, rfl⟩ : ∃ z, d = z + 1 := ⟨d - 1, by omega⟩
      have gd := I.2.2.1.1 d (by omega)
      have hge := kw_ge hp (fun j hj => (I.2.2.1.1 j hj).1) I.2.2.1.2.2 d (by omega)
      have hot := hord (stk d) gd.1
      rw [if_neg (nI_nle hd (by omega)), nI_m1, kt_chkn (by omega), kt_ixs (by omega), gd.2.2, kt_nm, kt_chkn (by omega), kt_ixs (by omega), kt_nm]
      cases hb : bk (stk d) with
      | nil =>
        have hh : σ 15 (ord (stk d)) = -1 := by
          have := (I.1 (stk d) gd.1).1
          rw [hb] at this
          exact this
        rw [hh, if_neg (by decide), kt_chkn (by omega), nI_am1, nI_m1, nI_a1]
        obtain ⟨r, r1, r2, r3⟩ := ih (stp + 1) P d stk vis F _ bk _ (kw_pop hp hinj I hb) (by omega) (by omega)
        exact ⟨r, r1, r2, fun q a1 a2 a3 a4 => by rw [r3 q a1 a2 a3 a4, kt_st_tab a4]⟩
      | cons u rest =>
        have hc := I.1 (stk d) gd.1
        rw [hb] at hc
        have hh : σ 15 (ord (stk d)) = nI (ord u) := hc.1.1
        have hu := (hc.2.2 u).mp List.mem_cons_self
        have huo := hord u hu.2.1
        have hlt := hp u hu.1 hu.2.1
        rw [hu.2.2.1] at hlt
        rw [hh, if_pos (kt_z _ (by omega)), kt_chkn (by omega), kt_nm, kt_chkn (by omega), kt_nm, kt_chkn (by omega), kt_chkn (by omega), kt_ixs (by omega), kt_ixs (by omega), nI_a1, nI_a1, nI_a1]
        obtain ⟨σ', eσ⟩ : ∃ z, z = kt_st (kt_st (kt_st σ 15 (ord (stk d)) (σ 16 (ord u))) 20 (ord u) (nI (P + 1))) 8 (d + 1) (nI (ord u)) := ⟨_, rfl⟩
        rw [← eσ]
        have I' := kw_push (σ' := σ') hp hinj I hb (fun j => by rw [eσ]; simp [kt_rd]) (fun j => by rw [eσ]; simp [kt_rd]) (fun j => by rw [eσ]; simp [kt_rd]) (by rw [eσ, kt_st_tab (by decide), kt_st_tab (by decide), kt_st_tab (by decide)]) (by rw [eσ, kt_st_tab (by decide), kt_st_tab (by decide), kt_st_tab (by decide)])
        obtain ⟨r, r1, r2, r3⟩ := ih (stp + 1) (P + 1) (d + 2) _ _ _ L _ σ' I' (by omega) (by omega)
        exact ⟨r, r1, r2, fun q a1 a2 a3 a4 => by rw [r3 q a1 a2 a3 a4, eσ, kt_st_tab a1, kt_st_tab a3, kt_st_tab a2]⟩
theorem kw_walk (hN : 400 < N) {σ : KSt} (H : kl_H R ord g sz σ) (B : kl_B R ord g 1 σ) : ∃ σ' : KSt, k_walkTree N σ = some σ' ∧ kw_Z R ord g σ' ∧ (∀ q, q ≠ 8 → q ≠ 15 → q ≠ 20 → q ≠ 21 → σ' q = σ q) := by
  obtain ⟨⟨a1, a2, a3⟩, ⟨b1, b2, b3, b4⟩, -, d, -⟩ := H
  obtain ⟨bk, hbk⟩ := B
  have hp : ∀ w, 0 < w → w < R → g w < w := fun w a b => (d w a b).2
  rw [k_walkTree, show (0 : Int32) = nI 0 from rfl, show (16 : Int32) = nI 16 from rfl, kt_chkn (by omega), kt_chkn (by omega), kt_ixs (by omega), kt_ixs (by omega)]
  obtain ⟨σ1, e1⟩ : ∃ z, z = kt_st (kt_st σ 8 0 (nI 16)) 20 16 (nI 0) := ⟨_, rfl⟩
  rw [← e1]
  have I : kw_I R ord g 0 1 (fun _ => 0) (fun w => decide (w = 0)) (fun _ => 0) (fun _ => 0) bk σ1 := by
    have kp : ∀ q, q ≠ 8 → q ≠ 20 → σ1 q = σ q := fun q h1 h2 => by rw [e1, kt_st_tab h2, kt_st_tab h1]
    have z0 : ∀ w, decide (w = 0) = true → w = 0 := fun w h => of_decide_eq_true h
    refine ⟨fun a ha => ?_, ⟨rfl, fun w h0 hw hv => ?_⟩, ⟨fun j hj => ⟨(show 0 < R by omega), rfl, ?_⟩, fun _ => rfl, fun j hj => by omega⟩, fun a ha hva => Or.inl ⟨0, by omega, (z0 a hva).symm⟩, fun a ha hva => ⟨Nat.le_refl _, ?_⟩, fun j hj b hb hvb => ?_, ?_⟩
    · obtain ⟨c1, c2, c3⟩ := hbk a ha
      rw [kp 16 (by decide) (by decide), kp 15 (by decide) (by decide)]
      refine ⟨c1, c2, fun x => ⟨fun hx => ?_, fun hx => ?_⟩⟩
      · have := (c3 x).mp hx
        exact ⟨this.2.1, this.2.2.1, this.2.2.2, decide_eq_false (by omega)⟩
      · exact (c3 x).mpr ⟨hx.1, hx.1, hx.2.1, hx.2.2.1⟩
    · have := z0 w hv; omega
    · show σ1 8 j = nI (ord 0)
      rw [show j = 0 by omega, b1, e1, kt_rd_ne (by decide), kt_rd_eq]
    · show σ1 20 (ord a) = nI 0
      rw [z0 a hva, b1, e1, kt_rd_eq]
    · rw [z0 b hvb]
      exact ⟨fun _ => lt_anc_refl g 0, fun _ => Nat.le_refl _⟩
    · have : ∀ w, w < R → (if decide (w = 0) = true then 1 else 0) = if w = 0 then 1 else 0 := fun w _ => by
        by_cases q : w = 0
        · subst q; rfl
        · rw [if_neg q, if_neg (by rw [decide_eq_false q]; decide)]
      rw [kt_sum_cg this, kt_sum_one (by omega)]
  obtain ⟨r, r1, r2, r3⟩ := kw_loop a3 hp (fun i hi => (b2 i hi).2) b4 N 0 0 1 _ _ _ _ bk σ1 I (by omega) (by omega)
  rw [show (1 : Int32) = nI 1 from rfl]
  simp only [r1, Option.bind_some]
  exact ⟨r.2.2.2, rfl, r2, fun q h1 h2 h3 h4 => by rw [r3 q h1 h2 h3 h4, e1, kt_st_tab h3, kt_st_tab h1]⟩
/-- layOutTree as a whole -/
theorem kw_layOut (hN : 400 < N) {σ : KSt} (H : kl_H R ord g sz σ) : ∃ σ' : KSt, k_layOutTree N σ = some σ' ∧ kw_Z R ord g σ' ∧ (∀ w, w < R → σ' 18 (ord w) = nI (kl_dp R ord g w) ∧ (0 < w → σ' 17 (ord w) = nI (ord (g w)))) ∧ σ' 17 16 = 16 ∧ (∀ a, a < R → σ' 19 (ord a) = nI (kl_hs R ord g sz 1 a)) ∧ (∀ q, q < 8 → σ' q = σ q) := by
  obtain ⟨σ1, e1⟩ : ∃ z, z = kt_st (kt_st σ 17 16 (nI 16)) 18 16 (nI 0) := ⟨_, rfl⟩
  have kp1 : ∀ q, q ≠ 17 → q ≠ 18 → σ1 q = σ q := fun q h1 h2 => by rw [e1, kt_st_tab h2, kt_st_tab h1]
  have H1 : kl_H R ord g sz σ1 := kl_H_keep H (kp1 0 (by decide) (by decide)) (kp1 4 (by decide) (by decide)) (kp1 5 (by decide) (by decide)) (kp1 6 (by decide) (by decide)) (kp1 11 (by decide) (by decide))
  obtain ⟨r2, e2, f2, k2⟩ := kl_19 N 0 σ1 H1 (fun u hu => by omega) (by omega) (by omega)
  have H2 : kl_H R ord g sz r2.2 := kl_H_keep H1 (k2 0 (by decide) (by decide)) (k2 4 (by decide) (by decide)) (k2 5 (by decide) (by decide)) (k2 6 (by decide) (by decide)) (k2 11 (by decide) (by decide))
  have o0 : ord 0 = 16 := H.2.1.1
  have hR1 := H.1.2.1
  have hR17 := H.1.2.2
  have hp : ∀ w, 0 < w → w < R → g w < w := fun w a b => (H.2.2.2.1 w a b).2
  obtain ⟨r3, e3, f3, f3b, k3⟩ := kl_65 N 1 r2.2 H2 (fun w hw => by
    rw [show w = 0 by omega, o0, kl_dp_0]
    exact ⟨by rw [k2 18 (by decide) (by decide), e1, kt_rd_eq], fun h => by omega⟩) (by rw [k2 17 (by decide) (by decide), e1, kt_rd_ne (by decide), kt_rd_eq]; rfl) (by omega) hR1 (by omega)
  have H3 : kl_H R ord g sz r3.2 := kl_H_keep H2 (k3 0 (by decide) (by decide)) (k3 4 (by decide) (by decide)) (k3 5 (by decide) (by decide)) (k3 6 (by decide) (by decide)) (k3 11 (by decide) (by decide))
  obtain ⟨w, hw⟩ : ∃ w, R = w + 1 := ⟨R - 1, by omega⟩
  obtain ⟨r4, e4, f4, f4b, k4⟩ := kl_126 N w r3.2 H3 (fun a a1 a2 => (f3 a a2).2 a1) (fun a ha => by
    have ho := (H.2.1.2.1 a ha).2
    rw [← hw, kl_hs_top hp ha ho, k3 19 (by decide) (by decide)]
    exact (f2 (ord a) ho).2 ⟨a, ha, rfl⟩) (by
    refine ⟨fun _ => [], fun a ha => ⟨?_, List.Pairwise.nil, fun x => ⟨fun hx => (by cases hx), fun hx => (by omega)⟩⟩⟩
    have ho := (H.2.1.2.1 a ha).2
    show r3.2 15 (ord a) = -1
    rw [k3 15 (by decide) (by decide)]
    exact (f2 (ord a) ho).1) (by omega) (by omega)
  have H4 : kl_H R ord g sz r4.2 := kl_H_keep H3 (k4 0 (by decide) (by decide) (by decide)) (k4 4 (by decide) (by decide) (by decide)) (k4 5 (by decide) (by decide) (by decide)) (k4 6 (by decide) (by decide) (by decide)) (k4 11 (by decide) (by decide) (by decide))
  obtain ⟨σ5, e5, f5, k5⟩ := kw_walk hN H4 f4b
  refine ⟨σ5, ?_, f5, fun w hw => ?_, ?_, fun a ha => ?_, fun q hq => ?_⟩
  · rw [k_layOutTree, show (16 : Int32) = nI 16 from rfl, show (0 : Int32) = nI 0 from rfl, kt_chkn (by omega), kt_chkn (by omega), kt_ixs (by omega), ← e1]
    rw [show nI 1 = (1 : Int32) from rfl] at e3
    simp only [e2, e3, Option.bind_some]
    rw [H3.1.1, hw, nI_m1, kt_nm]
    simp only [e4, e5, Option.bind_some]
  · rw [k5 18 (by decide) (by decide) (by decide) (by decide), k5 17 (by decide) (by decide) (by decide) (by decide), k4 18 (by decide) (by decide) (by decide), k4 17 (by decide) (by decide) (by decide)]
    exact f3 w hw
  · rw [k5 17 (by decide) (by decide) (by decide) (by decide), k4 17 (by decide) (by decide) (by decide)]
    exact f3b
  · rw [k5 19 (by decide) (by decide) (by decide) (by decide)]
    exact f4 a ha
  · rw [k5 q (by omega) (by omega) (by omega) (by omega), k4 q (by omega) (by omega) (by omega), k3 q (by omega) (by omega), k2 q (by omega) (by omega), kp1 q (by omega) (by omega)]
end
end
section
/-- what the plain law owes: every call answers alike on related states, and keeps them related -/
def kt_Ops (N : Nat) (Rl : KSt → KSt → Prop) : Prop := ∀ σ τ : KSt, Rl σ τ →
    (∀ x y : Int32, ∃ a b, k_setSize σ x y = some a ∧ m_setSize τ x y = some b ∧ a.1 = b.1 ∧ Rl a.2 b.2) ∧
    (∀ x y : Int32, ∃ a b, k_flip σ x y = some a ∧ m_flip τ x y = some b ∧ a.1 = b.1 ∧ Rl a.2 b.2) ∧
    (∀ x y : Int32, (y = 0 ∨ y = 1) → ∃ a b, k_setRoot σ x y = some a ∧ m_setRoot τ x y = some b ∧ a.1 = b.1 ∧ Rl a.2 b.2) ∧
    (∀ x : Int32, ∃ a b, k_alive N σ x = some a ∧ m_alive N τ x = some b ∧ a.1 = b.1 ∧ Rl a.2 b.2) ∧
    (∀ x : Int32, ∃ a b, k_keeper N σ x = some a ∧ m_keeper N τ x = some b ∧ a.1 = b.1 ∧ Rl a.2 b.2) ∧
    (∀ x : Int32, ∃ a b, k_held N σ x = some a ∧ m_held N τ x = some b ∧ a.1 = b.1 ∧ Rl a.2 b.2) ∧
    (∀ x y : Int32, ∃ a b, k_guards N σ x y = some a ∧ m_guards N τ x y = some b ∧ a.1 = b.1 ∧ Rl a.2 b.2) ∧
    (∀ x : Int32, ∃ a b, k_depth N σ x = some a ∧ m_depth N τ x = some b ∧ a.1 = b.1 ∧ Rl a.2 b.2) ∧
    (∀ x y : Int32, ∃ a b, k_common N σ x y = some a ∧ m_common N τ x y = some b ∧ a.1 = b.1 ∧ Rl a.2 b.2) ∧
    (∃ a b, k_heaviest N σ = some a ∧ m_heaviest N τ = some b ∧ a.1 = b.1 ∧ Rl a.2 b.2) ∧
    (∃ a b, k_total N σ = some a ∧ m_total N τ = some b ∧ a.1 = b.1 ∧ Rl a.2 b.2)
end
section
/-! PLAIN LAW 9: the reference: find -/
def kt_bi (b : Bool) : Int32 := if b = true then 1 else 0
theorem kt_bi_t : kt_bi true = 1 := rfl
theorem kt_bi_f : kt_bi false = 0 := rfl
theorem kt_bi_n : ¬ kt_bi true = 0 := by decide
theorem kt_bo0 : kt_bo 0 = 0 := by decide
theorem kt_bo1 : kt_bo 1 = 1 := by decide
theorem kt_c16 {i : Nat} (h : i < 16) : ¬ ((16 : Int32) ≤ nI i) := nI_ge (b := 16) h (by omega)
theorem kt_d16 {i : Nat} (h : 16 ≤ i) (h2 : i < 300) : (16 : Int32) ≤ nI i := nI_le (a := 16) h (by omega)
theorem kt_c256 {i : Nat} (h : i < 256) : ¬ ((256 : Int32) ≤ nI i) := nI_ge (b := 256) h (by omega)
theorem kt_d256 {i : Nat} (h : 256 ≤ i) (h2 : i < 300) : (256 : Int32) ≤ nI i := nI_le (a := 256) h (by omega)
theorem km_rem {r : Nat} (h : r < 256) : nI r - nI r / 16 * 16 = nI (r % 16) := pk_rem (a := r) (d := 16) (by omega) (by omega) (by omega)
theorem km_div {r : Nat} (h : r < 256) : nI r / 16 = nI (r / 16) := pk_div (a := r) (d := 16) (by omega) (by omega) (by omega)
theorem km_ix (k o : Nat) : (16 : Int32) * nI k + nI o = nI (16 * k + o) := by
  rw [show (16 : Int32) = nI 16 from rfl, pk_mul, nI_add]
/-- v is found from the roots, with aw taken away -/
def km_r (e : Nat → Nat → Bool) (aw v : Nat) : Prop := ∀ S : Nat → Prop, (∀ o, o < 16 → e 16 o = true → o ≠ aw → S o) → (∀ a b, a < 16 → b < 16 → S a → e a b = true → b ≠ aw → S b) → S v
/-- a flag that says P -/
def km_tv (x : Int32) (P : Prop) : Prop := (x = 1 ∧ P) ∨ (x = 0 ∧ ¬ P)
def km_T (e : Nat → Nat → Bool) (σ : KSt) : Prop := (∀ o, o < 16 → σ 1 o = kt_bi (e 16 o)) ∧ (∀ a b, a < 16 → b < 16 → σ 2 (16 * a + b) = kt_bi (e a b))
theorem km_T_keep {e : Nat → Nat → Bool} {σ σ' : KSt} (h : km_T e σ) (h1 : σ' 1 = σ 1) (h2 : σ' 2 = σ 2) : km_T e σ' := by
  unfold km_T
  rw [h1, h2]
  exact h
theorem kt_sum_ge {f : Nat → Nat} {i : Nat} : ∀ {n : Nat}, i < n → f i ≤ kt_sum f n
  | 0, h => absurd h (by omega)
  | n + 1, h => by
    show f i ≤ kt_sum f n + f n
    by_cases q : i = n
    · rw [q]; omega
    · have := kt_sum_ge (f := f) (i := i) (n := n) (by omega)
      omega
def km_c (f : Nat → Bool) : Nat := kt_sum (fun i => if f i = true then 1 else 0) 16
theorem km_c_le (f : Nat → Bool) : km_c f ≤ 16 := by
  have := kt_sum_le (f := fun i => if f i = true then 1 else 0) (c := 1) (n := 16) (fun i _ => by split <;> omega)
  unfold km_c
  omega
theorem km_c_pos {f : Nat → Bool} {k : Nat} (hk : k < 16) (h : f k = true) : 1 ≤ km_c f := by
  have := kt_sum_ge (f := fun i => if f i = true then 1 else 0) hk
  have h1 : (if f k = true then 1 else 0) = 1 := if_pos h
  have h2 : (if f k = true then 1 else 0) ≤ kt_sum (fun i => if f i = true then 1 else 0) 16 := this
  unfold km_c
  omega
theorem km_c_up {f : Nat → Bool} {k : Nat} (hk : k < 16) (h : f k = false) : km_c (va_up f k true) = km_c f + 1 := by
  have e1 : ∀ i, i < 16 → (if va_up f k true i = true then 1 else 0) = (if f i = true then 1 else 0) + (if i = k then 1 else 0) := by
    intro i _
    by_cases q : i = k
    · rw [q]; simp [va_up, h]
    · simp [va_up, q]
  unfold km_c
  rw [kt_sum_add e1, kt_sum_one hk]
def km_cl (e : Nat → Nat → Bool) (aw : Nat) (f : Nat → Bool) (r : Nat) : Prop := ∀ r', r' < r → e (r' / 16) (r' % 16) = true → f (r' / 16) = true → r' % 16 ≠ aw → f (r' % 16) = true
/-- the state of one round of find, at reference r; f0 was found at its start -/
def km_J (e : Nat → Nat → Bool) (aw : Nat) (f0 f : Nat → Bool) (r : Nat) (x2 : Int32) : Prop := (∀ i, f0 i = true → f i = true) ∧ ((x2 = 0 ∧ f = f0 ∧ km_cl e aw f r) ∨ (x2 = 1 ∧ km_c f0 + 1 ≤ km_c f ∧ 1 ≤ km_c f0))
section
variable {e : Nat → Nat → Bool} {aw N : Nat} {x1 : Int32}
theorem km_f2 (hx : ∀ o, o < 16 → (nI o = x1 ↔ o = aw)) : ∀ (n o : Nat) (σ : KSt), km_T e σ → (∀ i, i < o → σ 3 i = kt_bi (e 16 i && !decide (i = aw))) → o ≤ 16 → 16 < n + o →
    ∃ r : Int32 × KSt, m_find_2 x1 n (nI o) σ = some r ∧ (∀ i, i < 16 → r.2 3 i = kt_bi (e 16 i && !decide (i = aw))) ∧ (∀ q, q ≠ 3 → r.2 q = σ q) := by
  intro n
  induction n with
  | zero => intro o σ _ _ h1 h2; omega
  | succ n ih =>
    intro o σ T hj ho hn
    rw [m_find_2]
    rcases Nat.lt_or_ge o 16 with h | h
    · have fin : ∀ b : Bool, b = (e 16 o && !decide (o = aw)) → ∃ r : Int32 × KSt, m_find_2 x1 n (nI (o + 1)) (kt_st σ 3 o (kt_bi b)) = some r ∧ (∀ i, i < 16 → r.2 3 i = kt_bi (e 16 i && !decide (i = aw))) ∧ (∀ q, q ≠ 3 → r.2 q = σ q) := by
        intro b hb
        obtain ⟨r, r1, r2, r3⟩ := ih (o + 1) (kt_st σ 3 o (kt_bi b)) (km_T_keep T (kt_st_tab (by decide)) (kt_st_tab (by decide))) (fun i hi => by
          by_cases q : i = o
          · rw [q, kt_rd_eq, hb]
          · rw [kt_rd_ni q]; exact hj i (by omega)) (by omega) (by omega)
        exact ⟨r, r1, r2, fun q hq => by rw [r3 q hq, kt_st_tab hq]⟩
      rw [if_neg (kt_c16 h), kt_chkn (by omega), kt_ixs (by omega), T.1 o h, nI_a1, kt_bo0, kt_bo1]
      cases he : e 16 o with
      | false =>
        rw [if_pos kt_bi_f, kt_chkn (by omega)]
        exact fin false (by rw [he]; rfl)
      | true =>
        rw [if_neg kt_bi_n]
        by_cases q : o = aw
        · rw [if_pos ((hx o h).mpr q), kt_chkn (by omega)]
          exact fin false (by rw [he, decide_eq_true q]; rfl)
        · rw [if_neg (fun z => q ((hx o h).mp z)), kt_chkn (by omega)]
          exact fin true (by rw [he, decide_eq_false q]; rfl)
    · rw [if_pos (kt_d16 h (by omega))]
      exact ⟨_, rfl, fun i hi => hj i (by omega), fun _ _ => rfl⟩
theorem km_58 (hx : ∀ o, o < 16 → (nI o = x1 ↔ o = aw)) {x3 : Int32} {f0 : Nat → Bool} : ∀ (n r : Nat) (x2 : Int32) (f : Nat → Bool) (σ : KSt), km_T e σ → (∀ i, i < 16 → σ 3 i = kt_bi (f i)) → (∀ i, i < 16 → f i = true → km_r e aw i) → km_J e aw f0 f r x2 → r ≤ 256 → 256 < n + r →
    ∃ (a : Int32 × Int32 × KSt) (f' : Nat → Bool), m_find_58 x1 x3 n x2 (nI r) σ = some a ∧ (∀ i, i < 16 → a.2.2 3 i = kt_bi (f' i)) ∧ (∀ i, i < 16 → f' i = true → km_r e aw i) ∧ km_J e aw f0 f' 256 a.1 ∧ (∀ q, q ≠ 3 → a.2.2 q = σ q) := by
  intro n
  induction n with
  | zero => intro r x2 f σ _ _ _ _ h1 h2; omega
  | succ n ih =>
    intro r x2 f σ T h3 hs J hr hn
    rw [m_find_58]
    rcases Nat.lt_or_ge r 256 with h | h
    · have hd : r / 16 < 16 := by omega
      have hm : r % 16 < 16 := by omega
      have e2 : σ 2 r = kt_bi (e (r / 16) (r % 16)) := by
        have := T.2 (r / 16) (r % 16) hd hm
        rw [show 16 * (r / 16) + r % 16 = r by omega] at this
        exact this
      have nx : (e (r / 16) (r % 16) = true → f (r / 16) = true → r % 16 ≠ aw → f (r % 16) = true) → km_J e aw f0 f (r + 1) x2 := fun hh => ⟨J.1, by
        rcases J.2 with ⟨a, b, c⟩ | q
        · refine Or.inl ⟨a, b, fun r' h1 => ?_⟩
          by_cases z : r' = r
          · rw [z]; exact hh
          · exact c r' (by omega)
        · exact Or.inr q⟩
      rw [if_neg (kt_c256 h), km_rem h, kt_nm, kt_chkn h, kt_ixs (by omega), e2, km_div h, nI_a1]
      cases he : e (r / 16) (r % 16) with
      | false =>
        rw [if_pos kt_bi_f]
        exact ih (r + 1) x2 f σ T h3 hs (nx (fun z => by rw [he] at z; cases z)) (by omega) (by omega)
      | true =>
        rw [if_neg kt_bi_n, kt_chkn hd, kt_ixs (by omega), h3 _ hd]
        cases hf : f (r / 16) with
        | false =>
          rw [if_pos kt_bi_f]
          exact ih (r + 1) x2 f σ T h3 hs (nx (fun _ z => by rw [hf] at z; cases z)) (by omega) (by omega)
        | true =>
          rw [if_neg kt_bi_n, kt_chkn hm, kt_ixs (by omega), h3 _ hm]
          cases ht : f (r % 16) with
          | true =>
            rw [if_neg kt_bi_n]
            exact ih (r + 1) x2 f σ T h3 hs (nx (fun _ _ _ => ht)) (by omega) (by omega)
          | false =>
            rw [if_pos kt_bi_f]
            by_cases q : r % 16 = aw
            · rw [if_pos ((hx _ hm).mpr q)]
              exact ih (r + 1) x2 f σ T h3 hs (nx (fun _ _ z => absurd q z)) (by omega) (by omega)
            · rw [if_neg (fun z => q ((hx _ hm).mp z)), kt_chkn hm, kt_bo1]
              have hc := km_c_up hm ht
              have hp := km_c_pos hd hf
              obtain ⟨a, f', a1, a2, a3, a4, a5⟩ := ih (r + 1) 1 (va_up f (r % 16) true) (kt_st σ 3 (r % 16) 1) (km_T_keep T (kt_st_tab (by decide)) (kt_st_tab (by decide))) (fun i hi => by
                by_cases z : i = r % 16
                · rw [z, kt_rd_eq, show va_up f (r % 16) true (r % 16) = true from if_pos rfl]; rfl
                · rw [kt_rd_ni z, show va_up f (r % 16) true i = f i from if_neg z]; exact h3 i hi) (fun i hi hfi => by
                by_cases z : i = r % 16
                · rw [z]
                  exact fun S s1 s2 => s2 (r / 16) (r % 16) hd hm (hs _ hd hf S s1 s2) he q
                · rw [show va_up f (r % 16) true i = f i from if_neg z] at hfi
                  exact hs i hi hfi) ⟨fun i hi => by
                by_cases z : i = r % 16
                · rw [z]; exact if_pos rfl
                · rw [show va_up f (r % 16) true i = f i from if_neg z]; exact J.1 i hi, Or.inr ⟨rfl, by
                rcases J.2 with ⟨_, b, _⟩ | ⟨_, b, c⟩
                · rw [hc, b]; exact Nat.le_refl _
                · rw [hc]; omega, by
                rcases J.2 with ⟨_, b, _⟩ | ⟨_, b, c⟩
                · rw [← b]; exact hp
                · exact c⟩⟩ (by omega) (by omega)
              exact ⟨a, f', a1, a2, a3, a4, fun z hz => by rw [a5 z hz, kt_st_tab hz]⟩
    · rw [if_pos (kt_d256 h (by omega))]
      rw [show r = 256 by omega] at J ⊢
      exact ⟨_, f, rfl, h3, hs, J, fun _ _ => rfl⟩
theorem km_43 (hx : ∀ o, o < 16 → (nI o = x1 ↔ o = aw)) (hN : 256 < N) : ∀ (n t : Nat) (x2 : Int32) (f : Nat → Bool) (σ : KSt), km_T e σ → (∀ i, i < 16 → σ 3 i = kt_bi (f i)) → (∀ i, i < 16 → f i = true → km_r e aw i) → (∀ o, o < 16 → e 16 o = true → o ≠ aw → f o = true) → ((x2 = 0 ∧ km_cl e aw f 256) ∨ (x2 = 1 ∧ (t = 0 ∨ t + 1 ≤ km_c f))) → t ≤ 16 → 16 < n + t →
    ∃ (a : Int32 × Int32 × KSt) (f' : Nat → Bool), m_find_43 N x1 n x2 (nI t) σ = some a ∧ (∀ i, i < 16 → a.2.2 3 i = kt_bi (f' i)) ∧ (∀ i, i < 16 → f' i = true → km_r e aw i) ∧ (∀ o, o < 16 → e 16 o = true → o ≠ aw → f' o = true) ∧ km_cl e aw f' 256 ∧ (∀ q, q ≠ 3 → a.2.2 q = σ q) := by
  intro n
  induction n with
  | zero => intro t x2 f σ _ _ _ _ _ h1 h2; omega
  | succ n ih =>
    intro t x2 f σ T h3 hs hr hc ht hn
    rw [m_find_43]
    rcases Nat.lt_or_ge t 16 with h | h
    · rw [if_neg (kt_c16 h)]
      rcases hc with ⟨c1, c2⟩ | ⟨c1, c2⟩
      · rw [if_pos c1]
        exact ⟨_, f, rfl, h3, hs, hr, c2, fun _ _ => rfl⟩
      · rw [if_neg (by rw [c1]; decide)]
        obtain ⟨a, f1, a1, a2, a3, a4, a5⟩ := km_58 hx (x3 := nI t) (f0 := f) N 0 0 f σ T h3 hs ⟨fun _ h => h, Or.inl ⟨rfl, rfl, fun r' h => by omega⟩⟩ (by omega) (by omega)
        rw [show nI 0 = 0 from rfl] at a1
        simp only [a1, Option.bind_some]
        rw [nI_a1]
        obtain ⟨b, f', b1, b2, b3, b4, b5, b6⟩ := ih (t + 1) a.1 f1 a.2.2 (km_T_keep T (a5 1 (by decide)) (a5 2 (by decide))) a2 a3 (fun o h1 h2 h3 => a4.1 o (hr o h1 h2 h3)) (by
          rcases a4.2 with ⟨g1, g2, g3⟩ | ⟨g1, g2, g3⟩
          · exact Or.inl ⟨g1, g3⟩
          · exact Or.inr ⟨g1, Or.inr (by omega)⟩) (by omega) (by omega)
        exact ⟨b, f', b1, b2, b3, b4, b5, fun q hq => by rw [b6 q hq, a5 q hq]⟩
    · rw [if_pos (kt_d16 h (by omega))]
      rcases hc with ⟨c1, c2⟩ | ⟨c1, c2⟩
      · exact ⟨_, f, rfl, h3, hs, hr, c2, fun _ _ => rfl⟩
      · have := km_c_le f
        omega
/-- find, as a whole -/
theorem km_find (hx : ∀ o, o < 16 → (nI o = x1 ↔ o = aw)) (hN : 256 < N) {σ : KSt} (T : km_T e σ) : ∃ σ' : KSt, m_find N σ x1 = some σ' ∧ (∀ i, i < 16 → km_tv (σ' 3 i) (km_r e aw i)) ∧ (∀ q, q ≠ 3 → σ' q = σ q) := by
  obtain ⟨r, r1, r2, r3⟩ := km_f2 hx N 0 σ T (fun i hi => by omega) (by omega) (by omega)
  rw [show nI 0 = 0 from rfl] at r1
  have T1 : km_T e r.2 := km_T_keep T (r3 1 (by decide)) (r3 2 (by decide))
  have f1 : ∀ i, (e 16 i && !decide (i = aw)) = true → e 16 i = true ∧ i ≠ aw := fun i h => by
    cases he : e 16 i
    · rw [he] at h; cases h
    · refine ⟨rfl, fun q => ?_⟩
      rw [he, decide_eq_true q] at h
      cases h
  obtain ⟨a, f, a1, a2, a3, a4, a5, a6⟩ := km_43 hx hN N 0 1 (fun i => e 16 i && !decide (i = aw)) r.2 T1 r2 (fun i hi hf => fun S s1 _ => s1 i hi (f1 i hf).1 (f1 i hf).2) (fun o h1 h2 h3 => by
    show (e 16 o && !decide (o = aw)) = true
    rw [h2, decide_eq_false h3]; rfl) (Or.inr ⟨rfl, Or.inl rfl⟩) (by omega) (by omega)
  rw [show nI 0 = 0 from rfl] at a1
  refine ⟨a.2.2, ?_, fun i hi => ?_, fun q hq => by rw [a6 q hq, r3 q hq]⟩
  · rw [m_find]
    simp only [r1, a1, Option.bind_some]
  · rw [a2 i hi]
    cases hf : f i with
    | true => exact Or.inl ⟨rfl, a3 i hi hf⟩
    | false =>
      refine Or.inr ⟨rfl, fun h => ?_⟩
      have : f i = true := h (fun z => f z = true) a4 (fun x y hx hy hfx he hn => by
        have := a5 (16 * x + y) (by omega)
        rw [show (16 * x + y) / 16 = x by omega, show (16 * x + y) % 16 = y by omega] at this
        exact this he hfx hn)
      rw [hf] at this
      cases this
end
end
section
/-! PLAIN LAW 10: the reference: gather, last, heldBy, depth, total -/
theorem km_xk {k : Nat} (hk : k < 16) : ∀ o, o < 16 → (nI o = nI k ↔ o = k) := fun o ho => nI_eq (by omega) (by omega)
theorem km_xm : ∀ o, o < 16 → (nI o = -1 ↔ o = 16) := fun o ho => ⟨fun h => absurd h (nI_ne_m1 (by omega)), fun h => by omega⟩
theorem km_tv_n {x : Int32} {P : Prop} (h : km_tv x P) (hP : P) : x = 1 := by
  rcases h with ⟨a, _⟩ | ⟨_, b⟩
  · exact a
  · exact absurd hP b
theorem km_tv_z {x : Int32} {P : Prop} (h : km_tv x P) (hP : ¬ P) : x = 0 := by
  rcases h with ⟨_, b⟩ | ⟨a, _⟩
  · exact absurd b hP
  · exact a
theorem km_1n0 : ¬ (1 : Int32) = 0 := by decide
theorem km_tv_cg {x : Int32} {P Q : Prop} (h : km_tv x P) (e : P ↔ Q) : km_tv x Q := by
  rw [← show P = Q from propext e]
  exact h
section
variable {e : Nat → Nat → Bool} {N : Nat}
theorem km_g15 {k : Nat} (hk : k < 16) {A : Nat → Prop} : ∀ (n o : Nat) (σ : KSt), (∀ i, i < 16 → km_tv (σ 3 i) (A i)) → (∀ i, i < o → km_tv (σ 4 (16 * k + i)) (¬ A i)) → o ≤ 16 → 16 < n + o →
    ∃ r : Int32 × KSt, m_gather_15 (nI k) n (nI o) σ = some r ∧ (∀ i, i < 16 → km_tv (r.2 4 (16 * k + i)) (¬ A i)) ∧ (∀ j, j < 16 * k → r.2 4 j = σ 4 j) ∧ (∀ q, q ≠ 4 → r.2 q = σ q) := by
  intro n
  induction n with
  | zero => intro o σ _ _ h1 h2; omega
  | succ n ih =>
    intro o σ h3 hj ho hn
    rw [m_gather_15]
    rcases Nat.lt_or_ge o 16 with h | h
    · have fin : ∀ b : Int32, km_tv b (¬ A o) → ∃ r : Int32 × KSt, m_gather_15 (nI k) n (nI (o + 1)) (kt_st σ 4 (16 * k + o) b) = some r ∧ (∀ i, i < 16 → km_tv (r.2 4 (16 * k + i)) (¬ A i)) ∧ (∀ j, j < 16 * k → r.2 4 j = σ 4 j) ∧ (∀ q, q ≠ 4 → r.2 q = σ q) := by
        intro b hb
        obtain ⟨r, r1, r2, r3, r4⟩ := ih (o + 1) (kt_st σ 4 (16 * k + o) b) (fun i hi => by rw [kt_rd_ne (by decide)]; exact h3 i hi) (fun i hi => by
          by_cases q : i = o
          · rw [q, kt_rd_eq]; exact hb
          · rw [kt_rd_ni (by omega)]; exact hj i (by omega)) (by omega) (by omega)
        exact ⟨r, r1, r2, fun j hj => by rw [r3 j hj, kt_rd_ni (by omega)], fun q hq => by rw [r4 q hq, kt_st_tab hq]⟩
      rw [if_neg (kt_c16 h), kt_chkn (by omega), kt_ixs (by omega), km_ix, nI_a1, kt_bo0, kt_bo1]
      rcases h3 o h with ⟨a1, a2⟩ | ⟨a1, a2⟩
      · rw [a1, if_neg km_1n0, kt_chkn (by omega), kt_ixs (by omega)]
        exact fin 0 (Or.inr ⟨rfl, fun z => z a2⟩)
      · rw [a1, if_pos rfl, kt_chkn (by omega), kt_ixs (by omega)]
        exact fin 1 (Or.inl ⟨rfl, a2⟩)
    · rw [if_pos (kt_d16 h (by omega))]
      exact ⟨_, rfl, fun i hi => hj i (by omega), fun _ _ => rfl, fun _ _ => rfl⟩
theorem km_g2 (hN : 256 < N) : ∀ (n k : Nat) (σ : KSt), km_T e σ → (∀ k' o, k' < k → o < 16 → km_tv (σ 4 (16 * k' + o)) (¬ km_r e k' o)) → k ≤ 16 → 16 < n + k →
    ∃ r : Int32 × KSt, m_gather_2 N n (nI k) σ = some r ∧ (∀ k' o, k' < 16 → o < 16 → km_tv (r.2 4 (16 * k' + o)) (¬ km_r e k' o)) ∧ (∀ q, q ≠ 3 → q ≠ 4 → r.2 q = σ q) := by
  intro n
  induction n with
  | zero => intro k σ _ _ h1 h2; omega
  | succ n ih =>
    intro k σ T hj hk hn
    rw [m_gather_2]
    rcases Nat.lt_or_ge k 16 with h | h
    · rw [if_neg (kt_c16 h)]
      obtain ⟨σ1, e1, f1, g1⟩ := km_find (e := e) (km_xk h) hN T
      obtain ⟨r, r1, r2, r3, r4⟩ := km_g15 h N 0 σ1 f1 (fun i hi => by omega) (by omega) (by omega)
      rw [show nI 0 = 0 from rfl] at r1
      simp only [e1, r1, Option.bind_some]
      rw [nI_a1]
      obtain ⟨s, s1, s2, s3⟩ := ih (k + 1) r.2 (km_T_keep T (by rw [r4 1 (by decide), g1 1 (by decide)]) (by rw [r4 2 (by decide), g1 2 (by decide)])) (fun k' o hk' ho => by
        by_cases q : k' = k
        · rw [q]; exact r2 o ho
        · rw [r3 _ (by omega), g1 4 (by decide)]; exact hj k' o (by omega) ho) (by omega) (by omega)
      exact ⟨s, s1, s2, fun q h1 h2 => by rw [s3 q h1 h2, r4 q h2, g1 q h1]⟩
    · rw [if_pos (kt_d16 h (by omega))]
      exact ⟨_, rfl, fun k' o h1 h2 => hj k' o (by omega) h2, fun _ _ _ => rfl⟩
theorem km_g65 {A : Nat → Prop} {B : Nat → Prop} : ∀ (n i : Nat) (σ : KSt), (∀ o, o < 16 → km_tv (σ 3 o) (A o)) → (∀ j, j < i → km_tv (σ 4 j) (A (j % 16) ∧ B j)) → (∀ j, i ≤ j → j < 256 → km_tv (σ 4 j) (B j)) → i ≤ 256 → 256 < n + i →
    ∃ r : Int32 × KSt, m_gather_65 n (nI i) σ = some r ∧ (∀ j, j < 256 → km_tv (r.2 4 j) (A (j % 16) ∧ B j)) ∧ (∀ q, q ≠ 4 → r.2 q = σ q) := by
  intro n
  induction n with
  | zero => intro i σ _ _ _ h1 h2; omega
  | succ n ih =>
    intro i σ h3 hj hk hi hn
    rw [m_gather_65]
    rcases Nat.lt_or_ge i 256 with h | h
    · have hm : i % 16 < 16 := by omega
      have fin : ∀ b : Int32, km_tv b (A (i % 16) ∧ B i) → ∃ r : Int32 × KSt, m_gather_65 n (nI (i + 1)) (kt_st σ 4 i b) = some r ∧ (∀ j, j < 256 → km_tv (r.2 4 j) (A (j % 16) ∧ B j)) ∧ (∀ q, q ≠ 4 → r.2 q = σ q) := by
        intro b hb
        obtain ⟨r, r1, r2, r3⟩ := ih (i + 1) (kt_st σ 4 i b) (fun o ho => by rw [kt_rd_ne (by decide)]; exact h3 o ho) (fun j hj2 => by
          by_cases q : j = i
          · rw [q, kt_rd_eq]; exact hb
          · rw [kt_rd_ni q]; exact hj j (by omega)) (fun j h1 h2 => by rw [kt_rd_ni (by omega)]; exact hk j (by omega) h2) (by omega) (by omega)
        exact ⟨r, r1, r2, fun q hq => by rw [r3 q hq, kt_st_tab hq]⟩
      rw [if_neg (kt_c256 h), kt_chkn (by omega), kt_ixs (by omega), km_rem h, nI_a1, kt_bo0, kt_bo1]
      rcases hk i (Nat.le_refl _) h with ⟨b1, b2⟩ | ⟨b1, b2⟩
      · rw [b1, if_neg km_1n0, kt_chkn hm, kt_ixs (by omega)]
        rcases h3 _ hm with ⟨a1, a2⟩ | ⟨a1, a2⟩
        · rw [a1, if_neg km_1n0, kt_chkn h]
          exact fin 1 (Or.inl ⟨rfl, a2, b2⟩)
        · rw [a1, if_pos rfl, kt_chkn h]
          exact fin 0 (Or.inr ⟨rfl, fun z => a2 z.1⟩)
      · rw [b1, if_pos rfl, kt_chkn h]
        exact fin 0 (Or.inr ⟨rfl, fun z => b2 z.2⟩)
    · rw [if_pos (kt_d256 h (by omega))]
      exact ⟨_, rfl, fun j h1 => hj j (by omega), fun _ _ => rfl⟩
/-- k guards o -/
def km_D (e : Nat → Nat → Bool) (k o : Nat) : Prop := km_r e 16 o ∧ ¬ km_r e k o
/-- gather, as a whole -/
theorem km_gather (hN : 256 < N) {σ : KSt} (T : km_T e σ) : ∃ σ' : KSt, m_gather N σ = some σ' ∧ (∀ k o, k < 16 → o < 16 → km_tv (σ' 4 (16 * k + o)) (km_D e k o)) ∧ (∀ q, q ≠ 3 → q ≠ 4 → σ' q = σ q) := by
  obtain ⟨r, r1, r2, r3⟩ := km_g2 (e := e) hN N 0 σ T (fun k' o h => by omega) (by omega) (by omega)
  have T1 : km_T e r.2 := km_T_keep T (r3 1 (by decide) (by decide)) (r3 2 (by decide) (by decide))
  obtain ⟨σ1, e1, f1, g1⟩ := km_find (e := e) km_xm hN T1
  obtain ⟨s, s1, s2, s3⟩ := km_g65 (A := km_r e 16) (B := fun j => ¬ km_r e (j / 16) (j % 16)) N 0 σ1 f1 (fun j hj => by omega) (fun j _ hj => by
    have := r2 (j / 16) (j % 16) (by omega) (by omega)
    rw [show 16 * (j / 16) + j % 16 = j by omega] at this
    rw [g1 4 (by decide)]
    exact this) (by omega) (by omega)
  rw [show nI 0 = 0 from rfl] at r1 s1
  refine ⟨s.2, ?_, fun k o hk ho => ?_, fun q h1 h2 => by rw [s3 q h2, g1 q h1, r3 q h1 h2]⟩
  · rw [m_gather]
    simp only [r1, e1, s1, Option.bind_some]
  · have := s2 (16 * k + o) (by omega)
    simp only [show (16 * k + o) / 16 = k by omega, show (16 * k + o) % 16 = o by omega] at this
    exact this
end
/-- which of the guards D of both is guarded by all of them -/
def km_Bo (D : Nat → Nat → Prop) (a b : Nat) (x : Prop) (g : Nat) : Prop := D g a ∧ D g b ∧ ¬ (x ∧ g = a)
def km_La (D : Nat → Nat → Prop) (a b : Nat) (x : Prop) (g : Nat) : Prop := km_Bo D a b x g ∧ ∀ h, h < 16 → km_Bo D a b x h → D h g
section
variable {D : Nat → Nat → Prop} {σ : KSt} {N : Nat}
theorem km_both (hD : ∀ k o, k < 16 → o < 16 → km_tv (σ 4 (16 * k + o)) (D k o)) {g a b : Nat} (hg : g < 16) (ha : a < 16) (hb : b < 16) (x : Int32) : ∃ v, m_both σ (nI g) (nI a) (nI b) x = some v ∧ km_tv v (km_Bo D a b (¬ x = 0) g) := by
  rw [m_both, km_ix, km_ix, kt_chkn (by omega), kt_ixs (by omega)]
  rcases hD g a hg ha with ⟨a1, a2⟩ | ⟨a1, a2⟩
  · rw [a1, if_neg km_1n0, kt_chkn (by omega), kt_ixs (by omega)]
    rcases hD g b hg hb with ⟨b1, b2⟩ | ⟨b1, b2⟩
    · rw [b1, if_neg km_1n0]
      by_cases q : x = 0
      · rw [if_pos q]
        exact ⟨1, rfl, Or.inl ⟨rfl, a2, b2, fun z => z.1 q⟩⟩
      · rw [if_neg q]
        by_cases q2 : g = a
        · rw [if_pos (by rw [q2])]
          exact ⟨0, rfl, Or.inr ⟨rfl, fun z => z.2.2 ⟨q, q2⟩⟩⟩
        · rw [if_neg (fun z => q2 (nI_inj (by omega) (by omega) z))]
          exact ⟨1, rfl, Or.inl ⟨rfl, a2, b2, fun z => q2 z.2⟩⟩
    · rw [b1, if_pos rfl]
      exact ⟨0, rfl, Or.inr ⟨rfl, fun z => b2 z.2.1⟩⟩
  · rw [a1, if_pos rfl]
    exact ⟨0, rfl, Or.inr ⟨rfl, fun z => a2 z.1⟩⟩
theorem km_l24 (hD : ∀ k o, k < 16 → o < 16 → km_tv (σ 4 (16 * k + o)) (D k o)) {g a b : Nat} (hg : g < 16) (ha : a < 16) (hb : b < 16) (x : Int32) (I : Prop) : ∀ (n h : Nat) (x5 : Int32), km_tv x5 (I ∧ ∀ h', h' < h → km_Bo D a b (¬ x = 0) h' → D h' g) → h ≤ 16 → 16 < n + h →
    ∃ r : Int32 × Int32, m_last_24 σ (nI a) (nI b) x (nI g) n x5 (nI h) = some r ∧ km_tv r.1 (I ∧ ∀ h', h' < 16 → km_Bo D a b (¬ x = 0) h' → D h' g) := by
  intro n
  induction n with
  | zero => intro h x5 _ h1 h2; omega
  | succ n ih =>
    intro h x5 J hh hn
    rw [m_last_24]
    rcases Nat.lt_or_ge h 16 with hl | hl
    · rw [if_neg (kt_c16 hl)]
      obtain ⟨v, v1, v2⟩ := km_both hD hl ha hb x
      simp only [v1, Option.bind_some]
      rw [nI_a1, km_ix]
      have keep : (km_Bo D a b (¬ x = 0) h → D h g) → km_tv x5 (I ∧ ∀ h', h' < h + 1 → km_Bo D a b (¬ x = 0) h' → D h' g) := fun k => by
        refine km_tv_cg J ⟨fun z => ⟨z.1, fun h' h1 => ?_⟩, fun z => ⟨z.1, fun h' h1 => z.2 h' (by omega)⟩⟩
        by_cases q : h' = h
        · rw [q]; exact k
        · exact z.2 h' (by omega)
      rcases v2 with ⟨v3, v4⟩ | ⟨v3, v4⟩
      · rw [v3, if_neg km_1n0, kt_chkn (by omega), kt_ixs (by omega)]
        rcases hD h g hl hg with ⟨d1, d2⟩ | ⟨d1, d2⟩
        · rw [d1, if_neg km_1n0]
          exact ih (h + 1) x5 (keep (fun _ => d2)) (by omega) (by omega)
        · rw [d1, if_pos rfl]
          exact ih (h + 1) 0 (Or.inr ⟨rfl, fun z => d2 (z.2 h (by omega) v4)⟩) (by omega) (by omega)
      · rw [v3, if_pos rfl]
        exact ih (h + 1) x5 (keep (fun z => absurd z v4)) (by omega) (by omega)
    · rw [if_pos (kt_d16 hl (by omega))]
      rw [show h = 16 by omega] at J
      exact ⟨_, rfl, J⟩
theorem km_l3 (hN : 16 < N) (hD : ∀ k o, k < 16 → o < 16 → km_tv (σ 4 (16 * k + o)) (D k o)) {a b : Nat} (ha : a < 16) (hb : b < 16) (x : Int32) : ∀ (n g : Nat), (∀ g', g' < g → ¬ km_La D a b (¬ x = 0) g') → g ≤ 16 → 16 < n + g →
    ∃ r, m_last_3 N σ (nI a) (nI b) x n (nI g) = some r ∧ ((∃ g', g' < 16 ∧ r = .inl (nI g') ∧ km_La D a b (¬ x = 0) g') ∨ (∃ z, r = .inr z ∧ ∀ g', g' < 16 → ¬ km_La D a b (¬ x = 0) g')) := by
  intro n
  induction n with
  | zero => intro g _ h1 h2; omega
  | succ n ih =>
    intro g hj hg hn
    rw [m_last_3]
    rcases Nat.lt_or_ge g 16 with hl | hl
    · rw [if_neg (kt_c16 hl)]
      obtain ⟨v, v1, v2⟩ := km_both hD hl ha hb x
      obtain ⟨r, r1, r2⟩ := km_l24 hD hl ha hb x (km_Bo D a b (¬ x = 0) g) N 0 v (km_tv_cg v2 ⟨fun z => ⟨z, fun h' h => by omega⟩, fun z => z.1⟩) (by omega) (by omega)
      rw [show nI 0 = 0 from rfl] at r1
      simp only [v1, r1, Option.bind_some]
      rw [nI_a1]
      rcases r2 with ⟨c1, c2⟩ | ⟨c1, c2⟩
      · rw [c1, if_neg km_1n0]
        exact ⟨_, rfl, Or.inl ⟨g, hl, rfl, c2⟩⟩
      · rw [c1, if_pos rfl]
        exact ih (g + 1) (fun g' h1 => by
          by_cases q : g' = g
          · rw [q]; exact c2
          · exact hj g' (by omega)) (by omega) (by omega)
    · rw [if_pos (kt_d16 hl (by omega))]
      exact ⟨_, rfl, Or.inr ⟨_, rfl, fun g' h1 => hj g' (by omega)⟩⟩
theorem km_last (hN : 16 < N) (hD : ∀ k o, k < 16 → o < 16 → km_tv (σ 4 (16 * k + o)) (D k o)) {a b : Nat} (ha : a < 16) (hb : b < 16) (x : Int32) :
    ∃ v, m_last N σ (nI a) (nI b) x = some v ∧ ((∃ g, g < 16 ∧ v = nI g ∧ km_La D a b (¬ x = 0) g) ∨ (v = -1 ∧ ∀ g, g < 16 → ¬ km_La D a b (¬ x = 0) g)) := by
  obtain ⟨r, r1, r2⟩ := km_l3 hN hD ha hb x N 0 (fun g' h => by omega) (by omega) (by omega)
  rw [show nI 0 = 0 from rfl] at r1
  rw [m_last, r1]
  rcases r2 with ⟨g, g1, rfl, g2⟩ | ⟨z, rfl, h⟩
  · exact ⟨nI g, rfl, Or.inl ⟨g, g1, rfl, g2⟩⟩
  · exact ⟨-1, rfl, Or.inr ⟨rfl, h⟩⟩
theorem km_h4 (hD : ∀ k o, k < 16 → o < 16 → km_tv (σ 4 (16 * k + o)) (D k o)) {sz : Nat → Nat} (hs : ∀ o, o < 16 → σ 0 o = nI (sz o)) {k : Nat} (hk : k < 16) : ∀ (n o : Nat), o ≤ 16 → 16 < n + o →
    ∃ z, m_heldBy_4 σ (nI k) n (nI (kt_sum (fun o => kt_if (D k o) (sz o)) o)) (nI o) = some (nI (kt_sum (fun o => kt_if (D k o) (sz o)) 16), z) := by
  intro n
  induction n with
  | zero => intro o h1 h2; omega
  | succ n ih =>
    intro o ho hn
    rw [m_heldBy_4]
    rcases Nat.lt_or_ge o 16 with h | h
    · have e1 : kt_sum (fun o => kt_if (D k o) (sz o)) (o + 1) = kt_sum (fun o => kt_if (D k o) (sz o)) o + kt_if (D k o) (sz o) := rfl
      have := ih (o + 1) (by omega) (by omega)
      rw [if_neg (kt_c16 h), km_ix, kt_chkn (by omega), kt_ixs (by omega), nI_a1]
      rcases hD k o hk h with ⟨d1, d2⟩ | ⟨d1, d2⟩
      · rw [e1, kt_if_t d2] at this
        rw [d1, if_neg km_1n0, kt_chkn h, kt_ixs (by omega), hs o h, nI_add, kt_nm]
        exact this
      · rw [e1, kt_if_f d2, Nat.add_zero] at this
        rw [d1, if_pos rfl]
        exact this
    · rw [if_pos (kt_d16 h (by omega)), show o = 16 by omega]
      exact ⟨_, rfl⟩
theorem km_heldBy (hN : 16 < N) (hD : ∀ k o, k < 16 → o < 16 → km_tv (σ 4 (16 * k + o)) (D k o)) {sz : Nat → Nat} (hs : ∀ o, o < 16 → σ 0 o = nI (sz o)) {k : Nat} (hk : k < 16) : m_heldBy N σ (nI k) = some (nI (kt_sum (fun o => kt_if (D k o) (sz o)) 16)) := by
  obtain ⟨z, hz⟩ := km_h4 hD hs hk N 0 (by omega) (by omega)
  have hz : m_heldBy_4 σ (nI k) N 0 0 = some (nI (kt_sum (fun o => kt_if (D k o) (sz o)) 16), z) := hz
  rw [m_heldBy]
  simp only [hz, Option.bind_some]
theorem km_d18 (hD : ∀ k o, k < 16 → o < 16 → km_tv (σ 4 (16 * k + o)) (D k o)) {o : Nat} (ho : o < 16) : ∀ (n k : Nat), k ≤ 16 → 16 < n + k →
    ∃ z, m_depth_18 σ (nI o) n (nI (kt_sum (fun k => kt_if (D k o) 1) k)) (nI k) = some (nI (kt_sum (fun k => kt_if (D k o) 1) 16), z) := by
  intro n
  induction n with
  | zero => intro k h1 h2; omega
  | succ n ih =>
    intro k hk hn
    rw [m_depth_18]
    rcases Nat.lt_or_ge k 16 with h | h
    · have e1 : kt_sum (fun k => kt_if (D k o) 1) (k + 1) = kt_sum (fun k => kt_if (D k o) 1) k + kt_if (D k o) 1 := rfl
      have := ih (k + 1) (by omega) (by omega)
      rw [if_neg (kt_c16 h), km_ix, kt_chkn (by omega), kt_ixs (by omega), nI_a1, nI_a1]
      rcases hD k o h ho with ⟨d1, d2⟩ | ⟨d1, d2⟩
      · rw [e1, kt_if_t d2] at this
        rw [d1, if_neg km_1n0]
        exact this
      · rw [e1, kt_if_f d2, Nat.add_zero] at this
        rw [d1, if_pos rfl]
        exact this
    · rw [if_pos (kt_d16 h (by omega)), show k = 16 by omega]
      exact ⟨_, rfl⟩
theorem km_t9 {A : Nat → Prop} (hA : ∀ o, o < 16 → km_tv (σ 3 o) (A o)) {sz : Nat → Nat} (hs : ∀ o, o < 16 → σ 0 o = nI (sz o)) : ∀ (n o : Nat), o ≤ 16 → 16 < n + o →
    ∃ z, m_total_9 σ n (nI (kt_sum (fun o => kt_if (A o) (sz o)) o)) (nI o) = some (nI (kt_sum (fun o => kt_if (A o) (sz o)) 16), z) := by
  intro n
  induction n with
  | zero => intro o h1 h2; omega
  | succ n ih =>
    intro o ho hn
    rw [m_total_9]
    rcases Nat.lt_or_ge o 16 with h | h
    · have e1 : kt_sum (fun o => kt_if (A o) (sz o)) (o + 1) = kt_sum (fun o => kt_if (A o) (sz o)) o + kt_if (A o) (sz o) := rfl
      have := ih (o + 1) (by omega) (by omega)
      rw [if_neg (kt_c16 h), kt_chkn h, kt_ixs (by omega), nI_a1]
      rcases hA o h with ⟨d1, d2⟩ | ⟨d1, d2⟩
      · rw [e1, kt_if_t d2] at this
        rw [d1, if_neg km_1n0, kt_chkn h, hs o h, nI_add, kt_nm]
        exact this
      · rw [e1, kt_if_f d2, Nat.add_zero] at this
        rw [d1, if_pos rfl]
        exact this
    · rw [if_pos (kt_d16 h (by omega)), show o = 16 by omega]
      exact ⟨_, rfl⟩
end
end
section
/-! PLAIN LAW 11: the tree against what is found with one object away; prepare -/
def kp_P (e : Nat → Nat → Bool) (R : Nat) (ord g : Nat → Nat) : Prop :=
  (1 ≤ R ∧ R ≤ 17) ∧ (ord 0 = 16 ∧ (∀ i, 0 < i → i < R → ord i < 16) ∧ (∀ i j, i < R → j < R → ord i = ord j → i = j)) ∧ (∀ w, 0 < w → w < R → g w < w) ∧
  (∀ v, v < 16 → (km_r e 16 v ↔ ∃ i, 0 < i ∧ i < R ∧ ord i = v)) ∧
  (∀ k o, k < 16 → o < 16 → (km_D e k o ↔ ∃ a w, 0 < a ∧ a < R ∧ 0 < w ∧ w < R ∧ ord a = k ∧ ord w = o ∧ lt_anc g a w))
section
variable {e : Nat → Nat → Bool} {R : Nat} {ord p g : Nat → Nat}
theorem kp_cl (o0 : ord 0 = 16) (hcl : ∀ i w, i < R → w < 16 → e (ord i) w = true → ∃ i', i' < R ∧ ord i' = w) : ∀ i w, i < R → w < 16 → e (ord i) w = true → ∃ i', 0 < i' ∧ i' < R ∧ ord i' = w := fun i w hi hw he => by
  obtain ⟨i', a, b⟩ := hcl i w hi hw he
  refine ⟨i', ?_, a, b⟩
  rcases Nat.eq_zero_or_pos i' with q | q
  · rw [q, o0] at b; omega
  · exact q
theorem kp_alive (o0 : ord 0 = 16) (ho : ∀ i, 0 < i → i < R → ord i < 16) (h1 : 1 ≤ R) (hpar : ∀ i, 0 < i → i < R → p i < i ∧ e (ord (p i)) (ord i) = true) (hcl : ∀ i w, i < R → w < 16 → e (ord i) w = true → ∃ i', i' < R ∧ ord i' = w) : ∀ v, v < 16 → (km_r e 16 v ↔ ∃ i, 0 < i ∧ i < R ∧ ord i = v) := by
  intro v hv
  have cl := kp_cl o0 hcl
  constructor
  · intro h
    exact h (fun v => ∃ i, 0 < i ∧ i < R ∧ ord i = v) (fun o ho' he _ => cl 0 o (by omega) ho' (by rw [o0]; exact he)) (fun a b _ hb hS he _ => by
      obtain ⟨i, i1, i2, i3⟩ := hS
      exact cl i b i2 hb (by rw [i3]; exact he))
  · rintro ⟨i, i1, i2, i3⟩
    have all : ∀ i, 0 < i → i < R → km_r e 16 (ord i) := by
      intro i
      induction i using Nat.strongRecOn with
      | ind i ih =>
        intro i1 i2
        obtain ⟨q1, q2⟩ := hpar i i1 i2
        have hi := ho i i1 i2
        rcases Nat.eq_zero_or_pos (p i) with q | q
        · rw [q, o0] at q2
          exact fun S s1 _ => s1 (ord i) hi q2 (by omega)
        · have hq := ih (p i) q1 q (by omega)
          exact fun S s1 s2 => s2 (ord (p i)) (ord i) (ho _ q (by omega)) hi (hq S s1 s2) q2 (by omega)
    rw [← i3]
    exact all i i1 i2
theorem kp_av (o0 : ord 0 = 16) (ho : ∀ i, 0 < i → i < R → ord i < 16) (h1 : 1 ≤ R) (hinj : ∀ i j, i < R → j < R → ord i = ord j → i = j) (hcl : ∀ i w, i < R → w < 16 → e (ord i) w = true → ∃ i', i' < R ∧ ord i' = w) {a w : Nat} (aR : a < R) (w0 : 0 < w) (wR : w < R) : lt_av (kd_E R e ord) a w ↔ km_r e (ord a) (ord w) := by
  have cl := kp_cl o0 hcl
  constructor
  · intro h
    have := h (fun z => z = 0 ∨ (z < R ∧ km_r e (ord a) (ord z))) (Or.inl rfl) (fun u v hu hE hn => by
      obtain ⟨E1, E2, E3, E4⟩ := hE
      have hv := ho v E3 E2
      have hne : ord v ≠ ord a := fun z => hn (hinj v a E2 aR z)
      refine Or.inr ⟨E2, ?_⟩
      rcases Nat.eq_zero_or_pos u with q | q
      · rw [q, o0] at E4
        exact fun S s1 _ => s1 _ hv E4 hne
      · rcases hu with z | ⟨_, z⟩
        · omega
        · exact fun S s1 s2 => s2 (ord u) (ord v) (ho u q E1) hv (z S s1 s2) E4 hne)
    rcases this with z | ⟨_, z⟩
    · omega
    · exact z
  · intro h
    have := h (fun v => ∃ z, 0 < z ∧ z < R ∧ ord z = v ∧ lt_av (kd_E R e ord) a z) (fun o ho' he hn => by
      obtain ⟨i, i1, i2, i3⟩ := cl 0 o (by omega) ho' (by rw [o0]; exact he)
      exact ⟨i, i1, i2, i3, lt_av_step (lt_av_zero a) ⟨by omega, i2, i1, by rw [o0, i3]; exact he⟩ (fun z => hn (by rw [← i3, z]))⟩) (fun x y hx hy hS he hn => by
      obtain ⟨z, z1, z2, z3, z4⟩ := hS
      obtain ⟨i, i1, i2, i3⟩ := cl z y z2 hy (by rw [z3]; exact he)
      exact ⟨i, i1, i2, i3, lt_av_step z4 ⟨z2, i2, i1, by rw [z3, i3]; exact he⟩ (fun q => hn (by rw [← i3, q]))⟩)
    obtain ⟨z, z1, z2, z3, z4⟩ := this
    rw [hinj z w z2 wR z3] at z4
    exact z4
theorem kp_anc {E : Nat → Nat → Prop} (hp : ∀ w, 0 < w → w < R → g w < w) (hg : ∀ w, 0 < w → w < R → ∀ a, 0 < a → a ≠ w → (lt_av E a w ↔ lt_av E a (g w))) {a : Nat} (a0 : 0 < a) : ∀ w, w < R → (lt_av E a w ↔ ¬ lt_anc g a w) := by
  intro w
  induction w using Nat.strongRecOn with
  | ind w ih =>
    intro hw
    rcases Nat.eq_zero_or_pos w with q | q
    · rw [q]
      refine ⟨fun _ h => ?_, fun _ => lt_av_zero a⟩
      rcases lt_anc_cases h with z | ⟨z, _⟩ <;> omega
    · by_cases haw : a = w
      · rw [← haw]
        exact ⟨fun h _ => lt_av_ne a0 h rfl, fun h => absurd (lt_anc_refl g a) h⟩
      · rw [hg w q hw a a0 haw, ih (g w) (hp w q hw) (by have := hp w q hw; omega)]
        exact ⟨fun h z => h (lt_anc_par z haw), fun h z => h (lt_anc_up q z)⟩
theorem kp_dead {k o : Nat} (hk : ¬ km_r e 16 k) (ho : km_r e 16 o) : km_r e k o := by
  have := ho (fun z => km_r e k z ∧ km_r e 16 z) (fun x hx he hn => by
    have h2 : km_r e 16 x := fun S s1 _ => s1 x hx he hn
    exact ⟨fun S s1 _ => s1 x hx he (fun q => hk (q ▸ h2)), h2⟩) (fun x y hx hy hS he hn => by
    have h2 : km_r e 16 y := fun S s1 s2 => s2 x y hx hy (hS.2 S s1 s2) he hn
    exact ⟨fun S s1 s2 => s2 x y hx hy (hS.1 S s1 s2) he (fun q => hk (q ▸ h2)), h2⟩)
  exact this.1
theorem kp_pure (hR : 1 ≤ R ∧ R ≤ 17) (o0 : ord 0 = 16) (ho : ∀ i, 0 < i → i < R → ord i < 16) (hinj : ∀ i j, i < R → j < R → ord i = ord j → i = j) (hpar : ∀ i, 0 < i → i < R → p i < i ∧ e (ord (p i)) (ord i) = true) (hcl : ∀ i w, i < R → w < 16 → e (ord i) w = true → ∃ i', i' < R ∧ ord i' = w)
    (hp : ∀ w, 0 < w → w < R → g w < w) (hg : ∀ w, 0 < w → w < R → ∀ a, 0 < a → a ≠ w → (lt_av (kd_E R e ord) a w ↔ lt_av (kd_E R e ord) a (g w))) : kp_P e R ord g := by
  have al := kp_alive o0 ho hR.1 hpar hcl
  refine ⟨hR, ⟨o0, ho, hinj⟩, hp, al, fun k o hk hO => ⟨fun h => ?_, fun h => ?_⟩⟩
  · obtain ⟨h1, h2⟩ := h
    obtain ⟨w, w1, w2, w3⟩ := (al o hO).mp h1
    have hka : km_r e 16 k := Classical.byContradiction fun z => h2 (kp_dead z h1)
    obtain ⟨a, a1, a2, a3⟩ := (al k hk).mp hka
    refine ⟨a, w, a1, a2, w1, w2, a3, w3, ?_⟩
    refine Classical.byContradiction fun z => h2 ?_
    rw [← a3, ← w3]
    exact (kp_av o0 ho hR.1 hinj hcl a2 w1 w2).mp ((kp_anc hp hg a1 w w2).mpr z)
  · obtain ⟨a, w, a1, a2, w1, w2, a3, w3, h⟩ := h
    refine ⟨(al o hO).mpr ⟨w, w1, w2, w3⟩, fun z => ?_⟩
    rw [← a3, ← w3] at z
    exact (kp_anc hp hg a1 w w2).mp ((kp_av o0 ho hR.1 hinj hcl a2 w1 w2).mpr z) h
end
/-- the references, roots and sizes as KeepTree holds them -/
def kp_B (e : Nat → Nat → Bool) (sz : Nat → Nat) (σ : KSt) : Prop := (∀ v w, v < 16 → w < 16 → bt (σ 1 v) w = e v w) ∧ (∀ w, w < 16 → bt (σ 2 0) w = e 16 w) ∧ (∀ v, v < 17 → σ 0 v = nI (sz v) ∧ sz v ≤ 1000) ∧ sz 16 = 0
/-- the finished tree belongs to them -/
def kp_F (e : Nat → Nat → Bool) (sz : Nat → Nat) (σ : KSt) : Prop := ∃ (R : Nat) (ord g : Nat → Nat), kp_P e R ord g ∧ ((∀ i, i < R → σ 5 (ord i) = nI i) ∧ (∀ v, v < 17 → (∀ i, i < R → ord i ≠ v) → σ 5 v = -1)) ∧ kw_Z R ord g σ ∧ (∀ w, w < R → σ 18 (ord w) = nI (kl_dp R ord g w) ∧ (0 < w → σ 17 (ord w) = nI (ord (g w)))) ∧ (∀ a, a < R → σ 19 (ord a) = nI (kl_hs R ord g sz 1 a))
theorem kp_prepare {e : Nat → Nat → Bool} {sz : Nat → Nat} {N : Nat} (hN : 400 < N) {σ : KSt} (B : kp_B e sz σ) (F : σ 3 0 = 0 ∨ kp_F e sz σ) : ∃ σ' : KSt, k_prepare N σ = some σ' ∧ kp_B e sz σ' ∧ kp_F e sz σ' := by
  by_cases h : σ 3 0 = 0
  · obtain ⟨σ0, e0⟩ : ∃ z, z = kt_st (kt_st σ 3 0 1) 1 16 (σ 2 0) := ⟨_, rfl⟩
    have k1 : ∀ v, v < 16 → σ0 1 v = σ 1 v := fun v hv => by rw [e0, kt_rd_ni (by omega), kt_rd_ne (by decide)]
    have k0 : σ0 0 = σ 0 := by rw [e0, kt_st_tab (by decide), kt_st_tab (by decide)]
    have k2 : σ0 2 = σ 2 := by rw [e0, kt_st_tab (by decide), kt_st_tab (by decide)]
    obtain ⟨σ1, R, ord, p, e1, I, f1⟩ := kn_number (e := e) hN (σ := σ0) (fun v w hv hw => by
      by_cases q : v = 16
      · rw [q, e0, kt_rd_eq]; exact B.2.1 w hw
      · rw [k1 v (by omega)]; exact B.1 v w (by omega) hw)
    obtain ⟨G, hG⟩ := kn_lt I
    obtain ⟨⟨a1, a2, a3, a4⟩, -, ⟨c1, c2, c3, c4⟩, ⟨d1, d2⟩, f, -, -, i, -, -, -⟩ := I
    obtain ⟨σ2, g, e2, g2, f2⟩ := kd_findDominators (N := N) a3 a2 G (by omega) hG
    have H : kl_H R ord g sz σ2 := by
      refine ⟨⟨by rw [f2 4 (by omega)]; exact a1, a2, a3⟩, ⟨c1, fun i hi => ?_, c3, c4⟩, ⟨fun i hi => by rw [f2 5 (by omega)]; exact d1 i hi, fun v hv hn => by rw [f2 5 (by omega)]; exact d2 v hv hn⟩, fun w h1 h2 => ⟨(g2 w h1 h2).1, (g2 w h1 h2).2.1⟩, fun v hv => by rw [f2 0 (by omega), f1 0 (by omega), k0]; exact B.2.2.1 v hv⟩
      rw [f2 6 (by omega)]
      exact hG.2.1 i hi
    obtain ⟨σ3, e3, z1, z2, -, z4, f3⟩ := kw_layOut hN H
    have kk : ∀ q, q < 4 → σ3 q = σ0 q := fun q hq => by rw [f3 q (by omega), f2 q (by omega), f1 q (by omega)]
    refine ⟨σ3, ?_, ⟨fun v w hv hw => ?_, fun w hw => ?_, fun v hv => ?_, B.2.2.2⟩, R, ord, g, kp_pure ⟨a2, a3⟩ c1 c3 c4 (fun i h1 h2 => (f i h1 h2).2) (fun x w hx hw he => i x w hx (fun j hj => by omega) hw he) (fun w h1 h2 => (g2 w h1 h2).2.1) (fun w h1 h2 => (g2 w h1 h2).2.2), ⟨fun i hi => ?_, fun v hv hn => ?_⟩, z1, z2, z4⟩
    · rw [k_prepare, if_pos h, kt_nm, show (16 : Int32) = nI 16 from rfl, kt_chkn (by omega), kt_ixs (by omega), ← e0]
      simp only [e1, e2, e3, Option.bind_some]
    · rw [kk 1 (by omega), k1 v hv]; exact B.1 v w hv hw
    · rw [kk 2 (by omega), k2]; exact B.2.1 w hw
    · rw [kk 0 (by omega), k0]; exact B.2.2.1 v hv
    · rw [f3 5 (by omega), f2 5 (by omega)]; exact d1 i hi
    · rw [f3 5 (by omega), f2 5 (by omega)]; exact d2 v hv hn
  · rw [k_prepare, if_neg h]
    rcases F with q | q
    · exact absurd q h
    · exact ⟨σ, rfl, B, q⟩
section
variable {e : Nat → Nat → Bool} {R : Nat} {ord g sz : Nat → Nat} {σ : KSt}
theorem kp_lt17 (P : kp_P e R ord g) {i : Nat} (hi : i < R) : ord i < 17 := by
  rcases Nat.eq_zero_or_pos i with q | q
  · rw [q, P.2.1.1]; omega
  · have := P.2.1.2.1 i q hi; omega
theorem kp_cases (P : kp_P e R ord g) (h5 : (∀ i, i < R → σ 5 (ord i) = nI i) ∧ (∀ v, v < 17 → (∀ i, i < R → ord i ≠ v) → σ 5 v = -1)) {v : Nat} (hv : v < 16) : (∃ i, 0 < i ∧ i < R ∧ ord i = v ∧ σ 5 v = nI i ∧ km_r e 16 v) ∨ (σ 5 v = -1 ∧ ¬ km_r e 16 v) := by
  by_cases h : km_r e 16 v
  · obtain ⟨i, i1, i2, i3⟩ := (P.2.2.2.1 v hv).mp h
    exact Or.inl ⟨i, i1, i2, i3, by rw [← i3]; exact h5.1 i i2, h⟩
  · refine Or.inr ⟨h5.2 v (by omega) (fun i hi q => h ((P.2.2.2.1 v hv).mpr ⟨i, ?_, hi, q⟩)), h⟩
    rcases Nat.eq_zero_or_pos i with z | z
    · rw [z, P.2.1.1] at q; omega
    · exact z
theorem kp_D (P : kp_P e R ord g) {a w : Nat} (a0 : 0 < a) (aR : a < R) (w0 : 0 < w) (wR : w < R) : km_D e (ord a) (ord w) ↔ lt_anc g a w := by
  rw [P.2.2.2.2 _ _ (P.2.1.2.1 a a0 aR) (P.2.1.2.1 w w0 wR)]
  refine ⟨?_, fun h => ⟨a, w, a0, aR, w0, wR, rfl, rfl, h⟩⟩
  rintro ⟨a', w', h1, h2, h3, h4, h5, h6, h7⟩
  rw [P.2.1.2.2 a' a h2 aR h5, P.2.1.2.2 w' w h4 wR h6] at h7
  exact h7
theorem kp_Dx (P : kp_P e R ord g) {k w : Nat} (hk : k < 16) (w0 : 0 < w) (wR : w < R) (h : km_D e k (ord w)) : ∃ a, 0 < a ∧ a < R ∧ ord a = k ∧ lt_anc g a w := by
  obtain ⟨a, w', h1, h2, h3, h4, h5, h6, h7⟩ := (P.2.2.2.2 _ _ hk (P.2.1.2.1 w w0 wR)).mp h
  rw [P.2.1.2.2 w' w h4 wR h6] at h7
  exact ⟨a, h1, h2, h5, h7⟩
theorem kp_Dk (P : kp_P e R ord g) {k o : Nat} (hk : k < 16) (ho : o < 16) (hd : ¬ km_r e 16 k) : ¬ km_D e k o := fun h => by
  obtain ⟨a, w', h1, h2, h3, h4, h5, h6, h7⟩ := (P.2.2.2.2 _ _ hk ho).mp h
  exact hd ((P.2.2.2.1 k hk).mpr ⟨a, h1, h2, h5⟩)
theorem kp_hs (P : kp_P e R ord g) (h16 : sz 16 = 0) {a : Nat} (a0 : 0 < a) (aR : a < R) : kl_hs R ord g sz 1 a = kt_sum (fun o => kt_if (km_D e (ord a) o) (sz o)) 16 := by
  have e1 : kl_hs R ord g sz 1 a = kt_sum (fun o => kt_if (∃ i, i < R ∧ ord i = o ∧ lt_Ac g 1 a i) (sz o)) 16 + kt_if (∃ i, i < R ∧ ord i = 16 ∧ lt_Ac g 1 a i) (sz 16) := rfl
  have e2 := kt_if_le (∃ i, i < R ∧ ord i = 16 ∧ lt_Ac g 1 a i) (sz 16)
  rw [h16] at e2 e1
  rw [e1, Nat.le_zero.mp e2, Nat.add_zero]
  refine kt_sum_cg (fun o ho => kt_if_cg ⟨?_, ?_⟩)
  · rintro ⟨i, i1, i2, i3⟩
    have i0 : 0 < i := by
      rcases Nat.eq_zero_or_pos i with z | z
      · rw [z, P.2.1.1] at i2; omega
      · exact z
    rw [← i2]
    exact (kp_D P a0 aR i0 i1).mpr (lt_Ac_one.mp i3)
  · intro h
    obtain ⟨i, i0, i1, i2⟩ := (P.2.2.2.1 o ho).mp h.1
    rw [← i2] at h
    exact ⟨i, i1, i2, lt_Ac_one.mpr ((kp_D P a0 aR i0 i1).mp h)⟩
theorem kp_tot (P : kp_P e R ord g) (h16 : sz 16 = 0) : kl_hs R ord g sz 1 0 = kt_sum (fun o => kt_if (km_r e 16 o) (sz o)) 16 := by
  have e1 : kl_hs R ord g sz 1 0 = kt_sum (fun o => kt_if (∃ i, i < R ∧ ord i = o ∧ lt_Ac g 1 0 i) (sz o)) 16 + kt_if (∃ i, i < R ∧ ord i = 16 ∧ lt_Ac g 1 0 i) (sz 16) := rfl
  have e2 := kt_if_le (∃ i, i < R ∧ ord i = 16 ∧ lt_Ac g 1 0 i) (sz 16)
  rw [h16] at e2 e1
  rw [e1, Nat.le_zero.mp e2, Nat.add_zero]
  refine kt_sum_cg (fun o ho => kt_if_cg ⟨?_, ?_⟩)
  · rintro ⟨i, i1, i2, i3⟩
    have i0 : 0 < i := by
      rcases Nat.eq_zero_or_pos i with z | z
      · rw [z, P.2.1.1] at i2; omega
      · exact z
    exact (P.2.2.2.1 o ho).mpr ⟨i, i0, i1, i2⟩
  · intro h
    obtain ⟨i, i0, i1, i2⟩ := (P.2.2.2.1 o ho).mp h
    exact ⟨i, i1, i2, lt_Ac_one.mpr (lt_anc_zero P.2.2.1 i i1)⟩
theorem kp_dp (P : kp_P e R ord g) {w : Nat} (w0 : 0 < w) (wR : w < R) : kl_dp R ord g w = kt_sum (fun k => kt_if (km_D e k (ord w)) 1) 16 := by
  unfold kl_dp
  refine kt_sum_cg (fun k hk => kt_if_cg ⟨?_, fun h => kp_Dx P hk w0 wR h⟩)
  rintro ⟨a, a1, a2, a3, a4⟩
  rw [← a3]
  exact (kp_D P a1 a2 w0 wR).mpr a4
/-- the one that is guarded by all is one alone -/
theorem kp_uniq (P : kp_P e R ord g) {a b x y : Nat} {X : Prop} (hx : x < 16) (hy : y < 16) (h1 : km_La (km_D e) a b X x) (h2 : km_La (km_D e) a b X y) : x = y := by
  have d1 := h2.2 x hx h1.1
  have d2 := h1.2 y hy h2.1
  obtain ⟨i, j, i1, i2, j1, j2, i3, j3, h⟩ := (P.2.2.2.2 x y hx hy).mp d1
  rw [← i3, ← j3] at d2
  have h' := (kp_D P j1 j2 i1 i2).mp d2
  have q1 := lt_anc_le P.2.2.1 j2 h
  have q2 := lt_anc_le P.2.2.1 i2 h'
  rw [← i3, ← j3, show i = j by omega]
/-- the keeper against the reference -/
theorem kp_keep (P : kp_P e R ord g) {w : Nat} (w0 : 0 < w) (wR : w < R) {X : Prop} (hX : X) : (g w = 0 ∧ ∀ x, x < 16 → ¬ km_La (km_D e) (ord w) (ord w) X x) ∨ (0 < g w ∧ km_La (km_D e) (ord w) (ord w) X (ord (g w))) := by
  have hgw := P.2.2.1 w w0 wR
  have low : ∀ x, x < 16 → km_Bo (km_D e) (ord w) (ord w) X x → ∃ a, 0 < a ∧ a < R ∧ ord a = x ∧ lt_anc g a (g w) := by
    intro x hx h
    obtain ⟨a, a1, a2, a3, a4⟩ := kp_Dx P hx w0 wR h.1
    exact ⟨a, a1, a2, a3, lt_anc_par a4 (fun q => h.2.2 ⟨hX, by rw [← a3, q]⟩)⟩
  rcases Nat.eq_zero_or_pos (g w) with q | q
  · refine Or.inl ⟨q, fun x hx h => ?_⟩
    obtain ⟨a, a1, a2, a3, a4⟩ := low x hx h.1
    rw [q] at a4
    rcases lt_anc_cases a4 with z | ⟨z, _⟩ <;> omega
  · have hgR : g w < R := by omega
    refine Or.inr ⟨q, ⟨(kp_D P q hgR w0 wR).mpr (lt_anc_p w0), (kp_D P q hgR w0 wR).mpr (lt_anc_p w0), fun z => ?_⟩, fun x hx h => ?_⟩
    · have := P.2.1.2.2 _ _ hgR wR z.2
      omega
    · obtain ⟨a, a1, a2, a3, a4⟩ := low x hx h
      rw [← a3]
      exact (kp_D P a1 a2 q hgR).mpr a4
/-- common's climb -/
theorem kp_dpm (P : kp_P e R ord g) {y : Nat} : ∀ x, x < R → lt_anc g y x → kl_dp R ord g y ≤ kl_dp R ord g x := by
  intro x
  induction x using Nat.strongRecOn with
  | ind x ih =>
    intro hx h
    rcases lt_anc_cases h with q | ⟨q, h1⟩
    · rw [q]; exact Nat.le_refl _
    · have hg := P.2.2.1 x q hx
      have := ih (g x) hg (by omega) h1
      rw [kl_dp_s P.2.2.1 P.2.1.2.2 P.2.1.2.1 q hx]
      omega
theorem kp_dp0 (P : kp_P e R ord g) {x : Nat} (hx : x < R) (h : kl_dp R ord g x = 0) : x = 0 := by
  rcases Nat.eq_zero_or_pos x with q | q
  · exact q
  · rw [kl_dp_s P.2.2.1 P.2.1.2.2 P.2.1.2.1 q hx] at h
    omega
theorem kp_common (P : kp_P e R ord g) (h18 : ∀ w, w < R → σ 18 (ord w) = nI (kl_dp R ord g w) ∧ (0 < w → σ 17 (ord w) = nI (ord (g w)))) : ∀ (n stp x y : Nat), x < R → y < R → stp + kl_dp R ord g x + kl_dp R ord g y ≤ 32 → 34 < n + stp →
    ∃ (z : Nat) (q : Int32 × Int32), z < R ∧ k_common_49 σ n (nI (ord x)) (nI (ord y)) (nI stp) = some (nI (ord z), q) ∧ ∀ a, (lt_anc g a z ↔ lt_anc g a x ∧ lt_anc g a y) := by
  intro n
  induction n with
  | zero => intro stp x y _ _ h1 h2; omega
  | succ n ih =>
    intro stp x y hx hy hm hn
    have ox := kp_lt17 P hx
    have oy := kp_lt17 P hy
    have bx := kl_dp_le (R := R) (ord := ord) (g := g) x
    have byy := kl_dp_le (R := R) (ord := ord) (g := g) y
    rw [k_common_49, if_neg (show ¬ ((34 : Int32) ≤ nI stp) from nI_ge (b := 34) (by omega) (by omega))]
    by_cases q : x = y
    · rw [if_pos (by rw [q])]
      exact ⟨x, _, hx, rfl, fun a => by rw [← q]; exact ⟨fun h => ⟨h, h⟩, fun h => h.1⟩⟩
    · have hne : ¬ nI (ord x) = nI (ord y) := fun z => q (P.2.1.2.2 x y hx hy (nI_inj (by omega) (by omega) z))
      rw [if_neg hne, kt_chkn (by omega), kt_chkn (by omega), kt_ixs (by omega), kt_ixs (by omega), (h18 x hx).1, (h18 y hy).1, nI_a1]
      by_cases hc : kl_dp R ord g x < kl_dp R ord g y
      · have y0 : 0 < y := by
          rcases Nat.eq_zero_or_pos y with z | z
          · rw [z, kl_dp_0] at hc; omega
          · exact z
        have hs := kl_dp_s P.2.2.1 P.2.1.2.2 P.2.1.2.1 y0 hy
        have hg := P.2.2.1 y y0 hy
        rw [if_pos (nI_lt hc (by omega)), kt_chkn (by omega), (h18 y hy).2 y0, kt_nm]
        obtain ⟨z, r, z1, z2, z3⟩ := ih (stp + 1) x (g y) hx (by omega) (by omega) (by omega)
        refine ⟨z, r, z1, z2, fun a => (z3 a).trans ⟨fun h => ⟨h.1, lt_anc_up y0 h.2⟩, fun h => ⟨h.1, lt_anc_par h.2 (fun w => ?_)⟩⟩⟩
        rw [w] at h
        have := kp_dpm P x hx h.1
        omega
      · have x0 : 0 < x := by
          rcases Nat.eq_zero_or_pos x with z | z
          · rw [z, kl_dp_0] at hc
            have := kp_dp0 P hy (by omega)
            omega
          · exact z
        have hs := kl_dp_s P.2.2.1 P.2.1.2.2 P.2.1.2.1 x0 hx
        have hg := P.2.2.1 x x0 hx
        rw [if_neg (fun z => hc ((nI_ltI (by omega) (by omega)).mp z)), kt_chkn (by omega), (h18 x hx).2 x0, kt_nm]
        obtain ⟨z, r, z1, z2, z3⟩ := ih (stp + 1) (g x) y (by omega) hy (by omega) (by omega)
        refine ⟨z, r, z1, z2, fun a => (z3 a).trans ⟨fun h => ⟨lt_anc_up x0 h.1, h.2⟩, fun h => ⟨lt_anc_par h.1 (fun w => ?_), h.2⟩⟩⟩
        rw [w] at h
        rcases lt_anc_cases h.2 with z | ⟨z, h2⟩
        · exact q z
        · have hgy := P.2.2.1 y z hy
          have h3 := kp_dpm P (g y) (by omega) h2
          have h4 := kl_dp_s P.2.2.1 P.2.1.2.2 P.2.1.2.1 z hy
          omega
end
end
section
/-! PLAIN LAW 12: the relation, and the calls that change it -/
def kt_N : Nat := 500
theorem kt_N4 : 400 < kt_N := by decide
theorem kt_N2 : 256 < kt_N := by decide
theorem kt_N1 : 16 < kt_N := by decide
theorem kt_bs {α β : Type} (a : α) (f : α → Option β) : (some a).bind f = f a := rfl
/-- KeepTree's state against the reference's -/
def kt_Rl (σ τ : KSt) : Prop := ∃ (e : Nat → Nat → Bool) (sz : Nat → Nat), kp_B e sz σ ∧ (km_T e τ ∧ ∀ o, o < 16 → τ 0 o = nI (sz o)) ∧ (σ 3 0 = 0 ∨ kp_F e sz σ)
theorem kt_R0 : kt_Rl (fun _ _ => 0) (fun _ _ => 0) :=
  ⟨fun _ _ => false, fun _ => 0, ⟨fun _ w _ _ => b_0 w, fun w _ => b_0 w, fun _ _ => ⟨rfl, Nat.zero_le _⟩, rfl⟩, ⟨⟨fun _ _ => rfl, fun _ _ _ _ => rfl⟩, fun _ _ => rfl⟩, Or.inl rfl⟩
theorem ko_obj (x : Int32) : (∃ j, j < 16 ∧ x = nI j ∧ k_isObject x = some 1 ∧ m_bad x = some 0) ∨ (k_isObject x = some 0 ∧ m_bad x = some 1) := by
  by_cases h : x < 0
  · right
    exact ⟨by rw [k_isObject, if_pos h], by rw [m_bad, if_pos h]⟩
  · by_cases h2 : 15 < x
    · right
      exact ⟨by rw [k_isObject, if_neg h, if_pos h2], by rw [m_bad, if_neg h, if_neg (Int32.not_le.mpr h2)]⟩
    · left
      obtain ⟨j, j1, j2⟩ := nI_of2 (M := 15) (n := 15) (by decide) h (Int32.not_lt.mp h2)
      exact ⟨j, by omega, j2, by rw [k_isObject, if_neg h, if_neg h2], by rw [m_bad, if_neg h, if_pos (Int32.not_lt.mp h2)]⟩
theorem ko_q {σ τ : KSt} (H : kt_Rl σ τ) : ∃ (e : Nat → Nat → Bool) (sz : Nat → Nat) (σ' : KSt), k_prepare kt_N σ = some σ' ∧ kp_B e sz σ' ∧ kp_F e sz σ' ∧ km_T e τ ∧ (∀ o, o < 16 → τ 0 o = nI (sz o)) ∧ ∀ τ' : KSt, (∀ q, q ≠ 3 → q ≠ 4 → τ' q = τ q) → kt_Rl σ' τ' := by
  obtain ⟨e, sz, B, ⟨T, hs⟩, F⟩ := H
  obtain ⟨σ', p1, p2, p3⟩ := kp_prepare kt_N4 B F
  exact ⟨e, sz, σ', p1, p2, p3, T, hs, fun τ' k => ⟨e, sz, p2, ⟨km_T_keep T (k 1 (by decide) (by decide)) (k 2 (by decide) (by decide)), fun o ho => by rw [k 0 (by decide) (by decide)]; exact hs o ho⟩, Or.inr p3⟩⟩
theorem ko_setSize {σ τ : KSt} (H : kt_Rl σ τ) (x y : Int32) : ∃ a b, k_setSize σ x y = some a ∧ m_setSize τ x y = some b ∧ a.1 = b.1 ∧ kt_Rl a.2 b.2 := by
  rcases ko_obj x with ⟨j, hj, rfl, h1, h2⟩ | ⟨h1, h2⟩
  · obtain ⟨e, sz, B, ⟨T, hs⟩, F⟩ := H
    have fin : ∀ t, t ≤ 1000 → kt_Rl (kt_st (kt_st σ 0 j (nI t)) 3 0 0) (kt_st τ 0 j (nI t)) := by
      intro t ht
      refine ⟨e, va_up sz j t, ⟨fun v w hv hw => ?_, fun w hw => ?_, fun v hv => ?_, ?_⟩, ⟨km_T_keep T (kt_st_tab (by decide)) (kt_st_tab (by decide)), fun o ho => ?_⟩, Or.inl kt_rd_eq⟩
      · rw [kt_rd_ne (by decide), kt_rd_ne (by decide)]; exact B.1 v w hv hw
      · rw [kt_rd_ne (by decide), kt_rd_ne (by decide)]; exact B.2.1 w hw
      · rw [kt_rd_ne (by decide)]
        by_cases q : v = j
        · rw [q, kt_rd_eq, show va_up sz j t j = t from if_pos rfl]; exact ⟨rfl, ht⟩
        · rw [kt_rd_ni q, show va_up sz j t v = sz v from if_neg q]; exact B.2.2.1 v hv
      · rw [show va_up sz j t 16 = sz 16 from if_neg (by omega)]; exact B.2.2.2
      · by_cases q : o = j
        · rw [q, kt_rd_eq, show va_up sz j t j = t from if_pos rfl]
        · rw [kt_rd_ni q, show va_up sz j t o = sz o from if_neg q]; exact hs o ho
    have hb := (B.2.2.1 j (by omega)).1
    have hc := hs j hj
    by_cases c1 : 0 ≤ y
    · by_cases c2 : y ≤ 1000
      · obtain ⟨t, t1, rfl⟩ := nI_of2 (M := 1000) (n := 1000) (by decide) (Int32.not_lt.mpr c1) c2
        refine ⟨(nI (sz j), kt_st (kt_st σ 0 j (nI t)) 3 0 0), (nI (sz j), kt_st τ 0 j (nI t)), ?_, ?_, rfl, fin t t1⟩
        · rw [k_setSize, h1, kt_bs, if_neg km_1n0, kt_chkn (by omega), kt_ixs (by omega), hb, kt_nm, if_pos c1, if_pos c2, kt_chkn (by omega)]
        · rw [m_setSize, h2, kt_bs, if_pos rfl, kt_chkn (by omega), kt_ixs (by omega), hc, kt_nm, if_pos c1, if_pos c2, kt_chkn (by omega)]
      · refine ⟨(nI (sz j), kt_st (kt_st σ 0 j (nI 1000)) 3 0 0), (nI (sz j), kt_st τ 0 j (nI 1000)), ?_, ?_, rfl, fin 1000 (Nat.le_refl _)⟩
        · rw [k_setSize, h1, kt_bs, if_neg km_1n0, kt_chkn (by omega), kt_ixs (by omega), hb, kt_nm, if_pos c1, if_neg c2, kt_chkn (by omega)]; rfl
        · rw [m_setSize, h2, kt_bs, if_pos rfl, kt_chkn (by omega), kt_ixs (by omega), hc, kt_nm, if_pos c1, if_neg c2, kt_chkn (by omega)]; rfl
    · refine ⟨(nI (sz j), kt_st (kt_st σ 0 j (nI 0)) 3 0 0), (nI (sz j), kt_st τ 0 j (nI 0)), ?_, ?_, rfl, fin 0 (Nat.zero_le _)⟩
      · rw [k_setSize, h1, kt_bs, if_neg km_1n0, kt_chkn (by omega), kt_ixs (by omega), hb, kt_nm, if_neg c1, kt_chkn (by omega)]; rfl
      · rw [m_setSize, h2, kt_bs, if_pos rfl, kt_chkn (by omega), kt_ixs (by omega), hc, kt_nm, if_neg c1, kt_chkn (by omega)]; rfl
  · exact ⟨(-2, σ), (-2, τ), by rw [k_setSize, h1, kt_bs, if_pos rfl], by rw [m_setSize, h2, kt_bs, if_neg km_1n0], rfl, H⟩
theorem ko_flip {σ τ : KSt} (H : kt_Rl σ τ) (x y : Int32) : ∃ a b, k_flip σ x y = some a ∧ m_flip τ x y = some b ∧ a.1 = b.1 ∧ kt_Rl a.2 b.2 := by
  rcases ko_obj x with ⟨i, hi, rfl, h1, h2⟩ | ⟨h1, h2⟩
  · rcases ko_obj y with ⟨j, hj, rfl, h3, h4⟩ | ⟨h3, h4⟩
    · obtain ⟨e, sz, B, ⟨T, hs⟩, F⟩ := H
      obtain ⟨m, hm⟩ : ∃ m, m = (σ 1 i) ^^^ (kt_shl 1 (nI j)) := ⟨_, rfl⟩
      have hbm : ∀ w, w < 16 → bt m w = (e i w ^^ decide (w = j)) := fun w hw => by
        rw [hm, b_flp _ j (by omega) (by omega), B.1 i w hi hw]
      have hk : k_flip σ (nI i) (nI j) = some (kt_bi (!(e i j)), kt_st (kt_st σ 1 i m) 3 0 0) := by
        rw [k_flip, h1, kt_bs, if_neg km_1n0, h3, kt_bs, if_neg km_1n0, kt_chkn (by omega), kt_ixs (by omega), kt_nm, kt_chkn (by omega), kt_chkn (by omega), kt_rd_eq, ← hm, b_tst m (by omega), hbm j hj, show decide (j = j) = true from decide_eq_true rfl]
        cases e i j <;> rfl
      have fin : kt_Rl (kt_st (kt_st σ 1 i m) 3 0 0) (kt_st τ 2 (16 * i + j) (kt_bi (!(e i j)))) := by
        refine ⟨fun v w => if v = i ∧ w = j then !(e i j) else e v w, sz, ⟨fun v w hv hw => ?_, fun w hw => ?_, fun v hv => ?_, B.2.2.2⟩, ⟨⟨fun o ho => ?_, fun a b ha hb => ?_⟩, fun o ho => ?_⟩, Or.inl kt_rd_eq⟩
        · show bt (kt_st (kt_st σ 1 i m) 3 0 0 1 v) w = if v = i ∧ w = j then !(e i j) else e v w
          rw [kt_rd_ne (by decide)]
          by_cases q : v = i
          · rw [q, kt_rd_eq, hbm w hw]
            by_cases q2 : w = j
            · rw [if_pos ⟨rfl, q2⟩, q2, show decide (j = j) = true from decide_eq_true rfl]
              cases e i j <;> rfl
            · rw [if_neg (fun z => q2 z.2), decide_eq_false q2]
              cases e i w <;> rfl
          · rw [kt_rd_ni q, if_neg (fun z => q z.1)]
            exact B.1 v w hv hw
        · show bt (kt_st (kt_st σ 1 i m) 3 0 0 2 0) w = if 16 = i ∧ w = j then !(e i j) else e 16 w
          rw [kt_rd_ne (by decide), kt_rd_ne (by decide), if_neg (fun z => by omega)]
          exact B.2.1 w hw
        · rw [kt_rd_ne (by decide), kt_rd_ne (by decide)]
          exact B.2.2.1 v hv
        · show kt_st τ 2 (16 * i + j) (kt_bi (!(e i j))) 1 o = kt_bi (if 16 = i ∧ o = j then !(e i j) else e 16 o)
          rw [kt_rd_ne (by decide), if_neg (fun z => by omega)]
          exact T.1 o ho
        · show kt_st τ 2 (16 * i + j) (kt_bi (!(e i j))) 2 (16 * a + b) = kt_bi (if a = i ∧ b = j then !(e i j) else e a b)
          by_cases q : a = i ∧ b = j
          · rw [if_pos q, q.1, q.2, kt_rd_eq]
          · rw [if_neg q, kt_rd_ni (fun z => q (by omega))]
            exact T.2 a b ha hb
        · rw [kt_rd_ne (by decide)]
          exact hs o ho
      have ht := T.2 i j hi hj
      refine ⟨_, (kt_bi (!(e i j)), kt_st τ 2 (16 * i + j) (kt_bi (!(e i j)))), hk, ?_, rfl, fin⟩
      rw [m_flip, h2, kt_bs, if_pos rfl, h4, kt_bs, if_pos rfl, km_ix, kt_chkn (by omega), kt_ixs (by omega), ht, kt_bo0, kt_bo1]
      cases e i j with
      | false =>
        rw [if_pos kt_bi_f, kt_chkn (by omega), kt_chkn (by omega), kt_rd_eq, if_neg km_1n0]; rfl
      | true =>
        rw [if_neg kt_bi_n, kt_chkn (by omega), kt_chkn (by omega), kt_rd_eq, if_pos rfl]; rfl
    · exact ⟨(-2, σ), (-2, τ), by rw [k_flip, h1, kt_bs, if_neg km_1n0, h3, kt_bs, if_pos rfl], by rw [m_flip, h2, kt_bs, if_pos rfl, h4, kt_bs, if_neg km_1n0], rfl, H⟩
  · exact ⟨(-2, σ), (-2, τ), by rw [k_flip, h1, kt_bs, if_pos rfl], by rw [m_flip, h2, kt_bs, if_neg km_1n0], rfl, H⟩
theorem ko_setRoot {σ τ : KSt} (H : kt_Rl σ τ) (x y : Int32) (hy : y = 0 ∨ y = 1) : ∃ a b, k_setRoot σ x y = some a ∧ m_setRoot τ x y = some b ∧ a.1 = b.1 ∧ kt_Rl a.2 b.2 := by
  rcases ko_obj x with ⟨j, hj, rfl, h1, h2⟩ | ⟨h1, h2⟩
  · obtain ⟨e, sz, B, ⟨T, hs⟩, F⟩ := H
    obtain ⟨c, hc⟩ : ∃ c : Bool, y = kt_bi c := by
      rcases hy with q | q
      · exact ⟨false, q⟩
      · exact ⟨true, q⟩
    have fin : ∀ m : Int32, (∀ w, w < 16 → bt m w = if w = j then c else e 16 w) → kt_Rl (kt_st (kt_st σ 2 0 m) 3 0 0) (kt_st τ 1 j (kt_bi c)) := by
      intro m hbm
      refine ⟨fun v w => if v = 16 ∧ w = j then c else e v w, sz, ⟨fun v w hv hw => ?_, fun w hw => ?_, fun v hv => ?_, B.2.2.2⟩, ⟨⟨fun o ho => ?_, fun a b ha hb => ?_⟩, fun o ho => ?_⟩, Or.inl kt_rd_eq⟩
      · show bt (kt_st (kt_st σ 2 0 m) 3 0 0 1 v) w = if v = 16 ∧ w = j then c else e v w
        rw [kt_rd_ne (by decide), kt_rd_ne (by decide), if_neg (fun z => by omega)]
        exact B.1 v w hv hw
      · show bt (kt_st (kt_st σ 2 0 m) 3 0 0 2 0) w = if 16 = 16 ∧ w = j then c else e 16 w
        rw [kt_rd_ne (by decide), kt_rd_eq, hbm w hw]
        by_cases q : w = j
        · rw [if_pos q, if_pos ⟨rfl, q⟩]
        · rw [if_neg q, if_neg (fun z => q z.2)]
      · rw [kt_rd_ne (by decide), kt_rd_ne (by decide)]
        exact B.2.2.1 v hv
      · show kt_st τ 1 j (kt_bi c) 1 o = kt_bi (if 16 = 16 ∧ o = j then c else e 16 o)
        by_cases q : o = j
        · rw [if_pos ⟨rfl, q⟩, q, kt_rd_eq]
        · rw [if_neg (fun z => q z.2), kt_rd_ni q]
          exact T.1 o ho
      · show kt_st τ 1 j (kt_bi c) 2 (16 * a + b) = kt_bi (if a = 16 ∧ b = j then c else e a b)
        rw [if_neg (fun z => by omega), kt_rd_ne (by decide)]
        exact T.2 a b ha hb
      · rw [kt_rd_ne (by decide)]
        exact hs o ho
    have ht := T.1 j hj
    have hold : (kt_ushr (σ 2 0) (nI j)) &&& 1 = kt_bi (e 16 j) := by
      rw [b_tst _ (by omega), B.2.1 j hj]
      cases e 16 j <;> rfl
    have hbo : kt_bo y = kt_bi c := by
      rw [hc]
      cases c
      · exact kt_bo0
      · exact kt_bo1
    have hm : m_setRoot τ (nI j) y = some (kt_bi (e 16 j), kt_st τ 1 j (kt_bi c)) := by
      rw [m_setRoot, h2, kt_bs, if_pos rfl, kt_chkn hj, kt_ixs (by omega), ht, hbo]
      cases e 16 j with
      | false => rw [if_pos kt_bi_f, kt_chkn hj]; rfl
      | true => rw [if_neg kt_bi_n, kt_chkn hj]; rfl
    by_cases q : y = 0
    · have hcf : c = false := by
        cases c
        · rfl
        · rw [hc] at q; exact absurd q kt_bi_n
      refine ⟨(kt_bi (e 16 j), kt_st (kt_st σ 2 0 ((σ 2 0) &&& ((kt_shl 1 (nI j)) ^^^ (-1)))) 3 0 0), _, ?_, hm, rfl, fin _ (fun w hw => ?_)⟩
      · rw [k_setRoot, h1, kt_bs, if_neg km_1n0, hold, kt_nm, if_pos q, kt_nm]
      · rw [b_clr _ j (by omega) (by omega), B.2.1 w hw, hcf]
        by_cases z : w = j
        · rw [if_pos z, decide_eq_true z]; cases e 16 w <;> rfl
        · rw [if_neg z, decide_eq_false z]; cases e 16 w <;> rfl
    · have hcf : c = true := by
        cases c
        · exact absurd hc q
        · rfl
      refine ⟨(kt_bi (e 16 j), kt_st (kt_st σ 2 0 ((σ 2 0) ||| (kt_shl 1 (nI j)))) 3 0 0), _, ?_, hm, rfl, fin _ (fun w hw => ?_)⟩
      · rw [k_setRoot, h1, kt_bs, if_neg km_1n0, hold, kt_nm, if_neg q, kt_nm]
      · rw [b_set _ j (by omega) (by omega), B.2.1 w hw, hcf]
        by_cases z : w = j
        · rw [if_pos z, decide_eq_true z]; cases e 16 w <;> rfl
        · rw [if_neg z, decide_eq_false z]; cases e 16 w <;> rfl
  · exact ⟨(-2, σ), (-2, τ), by rw [k_setRoot, h1, kt_bs, if_pos rfl], by rw [m_setRoot, h2, kt_bs, if_neg km_1n0], rfl, H⟩
end
section
/-! PLAIN LAW 13: the calls that ask -/
theorem ko_v16 : k_visible (nI 16) = some (-1) := by rw [k_visible, if_pos (show nI 16 = 16 from rfl)]
theorem ko_vn {v : Nat} (h : v < 16) : k_visible (nI v) = some (nI v) := by
  rw [k_visible, if_neg]
  intro q
  have := nI_inj (a := v) (b := 16) (by omega) (by omega) q
  omega
theorem ko_isAlive {e : Nat → Nat → Bool} {τ : KSt} (T : km_T e τ) {j : Nat} (hj : j < 16) : ∃ (v : Int32) (τ1 : KSt), m_isAlive kt_N τ (nI j) = some (v, τ1) ∧ km_tv v (km_r e 16 j) ∧ (∀ q, q ≠ 3 → τ1 q = τ q) := by
  obtain ⟨τ1, t1, t2, t3⟩ := km_find (e := e) km_xm kt_N2 T
  refine ⟨τ1 3 j, τ1, ?_, t2 j hj, t3⟩
  rw [m_isAlive, t1, kt_bs, kt_chkn hj, kt_ixs (by omega), kt_chkB, if_pos]
  rcases t2 j hj with ⟨a, _⟩ | ⟨a, _⟩
  · exact Or.inr a
  · exact Or.inl a
theorem ko_alive {σ τ : KSt} (H : kt_Rl σ τ) (x : Int32) : ∃ a b, k_alive kt_N σ x = some a ∧ m_alive kt_N τ x = some b ∧ a.1 = b.1 ∧ kt_Rl a.2 b.2 := by
  rcases ko_obj x with ⟨j, hj, rfl, h1, h2⟩ | ⟨h1, h2⟩
  · obtain ⟨e, sz, σ', p1, B, F, T, hs, K⟩ := ko_q H
    obtain ⟨R, ord, g, P, h5, -, -, -⟩ := F
    have hR := P.1.2
    obtain ⟨v, τ1, t1, t2, t3⟩ := ko_isAlive T hj
    have hm : m_alive kt_N τ (nI j) = if v = 0 then some (0, τ1) else some (1, τ1) := by
      rw [m_alive, h2, kt_bs, if_pos rfl, t1]; rfl
    rcases kp_cases P h5 hj with ⟨i, i1, i2, i3, i4, i5⟩ | ⟨i4, i5⟩
    · refine ⟨(1, σ'), (1, τ1), ?_, ?_, rfl, K τ1 (fun q h _ => t3 q h)⟩
      · rw [k_alive, h1, kt_bs, if_neg km_1n0, p1, kt_bs, kt_chkn (by omega), kt_ixs (by omega), i4, if_neg (kt_nz i (by omega))]
      · rw [hm, km_tv_n t2 i5, if_neg km_1n0]
    · refine ⟨(0, σ'), (0, τ1), ?_, ?_, rfl, K τ1 (fun q h _ => t3 q h)⟩
      · rw [k_alive, h1, kt_bs, if_neg km_1n0, p1, kt_bs, kt_chkn (by omega), kt_ixs (by omega), i4, if_pos nI_n0]
      · rw [hm, km_tv_z t2 i5, if_pos rfl]
  · exact ⟨(-2, σ), (-2, τ), by rw [k_alive, h1, kt_bs, if_pos rfl], by rw [m_alive, h2, kt_bs, if_neg km_1n0], rfl, H⟩
/-- the keeper's answer on both sides -/
theorem ko_kv {e : Nat → Nat → Bool} {R : Nat} {ord g : Nat → Nat} {τ : KSt} (P : kp_P e R ord g) (hD : ∀ k o, k < 16 → o < 16 → km_tv (τ 4 (16 * k + o)) (km_D e k o)) {w : Nat} (w0 : 0 < w) (wR : w < R) :
    ∃ v, m_last kt_N τ (nI (ord w)) (nI (ord w)) 1 = some v ∧ k_visible (nI (ord (g w))) = some v ∧ ((g w = 0 ∧ v = -1) ∨ (0 < g w ∧ v = nI (ord (g w)))) := by
  have ow := P.2.1.2.1 w w0 wR
  have hgw := P.2.2.1 w w0 wR
  obtain ⟨v, v1, v2⟩ := km_last kt_N1 hD ow ow 1
  rcases kp_keep P w0 wR (X := ¬ (1 : Int32) = 0) km_1n0 with ⟨q, no⟩ | ⟨q, La⟩
  · rcases v2 with ⟨x, x1, x2, x3⟩ | ⟨x1, x2⟩
    · exact absurd x3 (no x x1)
    · refine ⟨v, v1, ?_, Or.inl ⟨q, x1⟩⟩
      rw [q, P.2.1.1, x1]
      exact ko_v16
  · have og := P.2.1.2.1 (g w) q (by omega)
    rcases v2 with ⟨x, x1, x2, x3⟩ | ⟨x1, x2⟩
    · have := kp_uniq P x1 og x3 La
      rw [this] at x2
      refine ⟨v, v1, ?_, Or.inr ⟨q, x2⟩⟩
      rw [x2]
      exact ko_vn og
    · exact absurd La (x2 _ og)
theorem ko_keeper {σ τ : KSt} (H : kt_Rl σ τ) (x : Int32) : ∃ a b, k_keeper kt_N σ x = some a ∧ m_keeper kt_N τ x = some b ∧ a.1 = b.1 ∧ kt_Rl a.2 b.2 := by
  rcases ko_obj x with ⟨j, hj, rfl, h1, h2⟩ | ⟨h1, h2⟩
  · obtain ⟨e, sz, σ', p1, B, F, T, hs, K⟩ := ko_q H
    obtain ⟨R, ord, g, P, h5, -, h18, -⟩ := F
    have hR := P.1.2
    obtain ⟨τ1, t1, t2, t3⟩ := km_gather (e := e) kt_N2 T
    rcases kp_cases P h5 hj with ⟨i, i1, i2, i3, i4, i5⟩ | ⟨i4, i5⟩
    · obtain ⟨v, v1, v2, -⟩ := ko_kv P t2 i1 i2
      have e17 := (h18 i i2).2 i1
      rw [i3] at v1 e17
      refine ⟨(v, σ'), (v, τ1), ?_, ?_, rfl, K τ1 t3⟩
      · rw [k_keeper, h1, kt_bs, if_neg km_1n0, p1, kt_bs, kt_chkn (by omega), kt_ixs (by omega), i4, if_neg (kt_nz i (by omega)), kt_chkn (by omega), e17, v2, kt_bs]
      · rw [m_keeper, h2, kt_bs, if_pos rfl, t1, kt_bs, v1, kt_bs]
    · obtain ⟨v, v1, v2⟩ := km_last kt_N1 t2 hj hj 1
      have hv : v = -1 := by
        rcases v2 with ⟨x, x1, x2, x3⟩ | ⟨x1, x2⟩
        · exact absurd x3.1.1.1 i5
        · exact x1
      rw [hv] at v1
      refine ⟨(-1, σ'), (-1, τ1), ?_, ?_, rfl, K τ1 t3⟩
      · rw [k_keeper, h1, kt_bs, if_neg km_1n0, p1, kt_bs, kt_chkn (by omega), kt_ixs (by omega), i4, if_pos nI_n0]
      · rw [m_keeper, h2, kt_bs, if_pos rfl, t1, kt_bs, v1, kt_bs]
  · exact ⟨(-2, σ), (-2, τ), by rw [k_keeper, h1, kt_bs, if_pos rfl], by rw [m_keeper, h2, kt_bs, if_neg km_1n0], rfl, H⟩
theorem ko_held {σ τ : KSt} (H : kt_Rl σ τ) (x : Int32) : ∃ a b, k_held kt_N σ x = some a ∧ m_held kt_N τ x = some b ∧ a.1 = b.1 ∧ kt_Rl a.2 b.2 := by
  rcases ko_obj x with ⟨j, hj, rfl, h1, h2⟩ | ⟨h1, h2⟩
  · obtain ⟨e, sz, σ', p1, B, F, T, hs, K⟩ := ko_q H
    obtain ⟨R, ord, g, P, h5, -, -, h19⟩ := F
    have hR := P.1.2
    obtain ⟨τ1, t1, t2, t3⟩ := km_gather (e := e) kt_N2 T
    have hh := km_heldBy (D := km_D e) (σ := τ1) kt_N1 t2 (sz := sz) (fun o ho => by rw [t3 0 (by decide) (by decide)]; exact hs o ho) hj
    rcases kp_cases P h5 hj with ⟨i, i1, i2, i3, i4, i5⟩ | ⟨i4, i5⟩
    · have e19 := h19 i i2
      rw [kp_hs P B.2.2.2 i1 i2, i3] at e19
      refine ⟨(nI (kt_sum (fun o => kt_if (km_D e j o) (sz o)) 16), σ'), (nI (kt_sum (fun o => kt_if (km_D e j o) (sz o)) 16), τ1), ?_, ?_, rfl, K τ1 t3⟩
      · rw [k_held, h1, kt_bs, if_neg km_1n0, p1, kt_bs, kt_chkn (by omega), kt_ixs (by omega), i4, if_neg (kt_nz i (by omega)), kt_chkn (by omega), e19]
      · rw [m_held, h2, kt_bs, if_pos rfl, t1, kt_bs, hh, kt_bs]
    · rw [kt_sum_0 (fun o ho => kt_if_f (kp_Dk P hj ho i5))] at hh
      refine ⟨(0, σ'), (0, τ1), ?_, ?_, rfl, K τ1 t3⟩
      · rw [k_held, h1, kt_bs, if_neg km_1n0, p1, kt_bs, kt_chkn (by omega), kt_ixs (by omega), i4, if_pos nI_n0]
      · rw [m_held, h2, kt_bs, if_pos rfl, t1, kt_bs, hh]; rfl
  · exact ⟨(-2, σ), (-2, τ), by rw [k_held, h1, kt_bs, if_pos rfl], by rw [m_held, h2, kt_bs, if_neg km_1n0], rfl, H⟩
theorem ko_isGuard {e : Nat → Nat → Bool} {τ : KSt} (T : km_T e τ) {k o : Nat} (hk : k < 16) (ho : o < 16) : ∃ (v : Int32) (τ1 : KSt), m_isGuard kt_N τ (nI k) (nI o) = some (v, τ1) ∧ km_tv v (km_D e k o) ∧ (∀ q, q ≠ 3 → τ1 q = τ q) := by
  obtain ⟨v, τ1, t1, t2, t3⟩ := ko_isAlive T ho
  obtain ⟨τ2, s1, s2, s3⟩ := km_find (e := e) (km_xk hk) kt_N2 (km_T_keep T (t3 1 (by decide)) (t3 2 (by decide)))
  have hk2 : ∀ q, q ≠ 3 → τ2 q = τ q := fun q hq => by rw [s3 q hq, t3 q hq]
  have e1 : m_isGuard kt_N τ (nI k) (nI o) = if v = 0 then some (0, τ2) else kt_chk (nI o) 16 (if τ2 3 (kt_ix (nI o)) = 0 then some (1, τ2) else some (0, τ2)) := by
    rw [m_isGuard, t1, kt_bs]
    show (m_find kt_N τ1 (nI k)).bind _ = _
    rw [s1]; rfl
  rw [e1]
  rcases t2 with ⟨a1, a2⟩ | ⟨a1, a2⟩
  · rw [a1, if_neg km_1n0, kt_chkn ho, kt_ixs (by omega)]
    rcases s2 o ho with ⟨b1, b2⟩ | ⟨b1, b2⟩
    · rw [b1, if_neg km_1n0]
      exact ⟨0, τ2, rfl, Or.inr ⟨rfl, fun z => z.2 b2⟩, hk2⟩
    · rw [b1, if_pos rfl]
      exact ⟨1, τ2, rfl, Or.inl ⟨rfl, a2, b2⟩, hk2⟩
  · rw [a1, if_pos rfl]
    exact ⟨0, τ2, rfl, Or.inr ⟨rfl, fun z => a2 z.1⟩, hk2⟩
theorem ko_holds {e : Nat → Nat → Bool} {R : Nat} {ord g : Nat → Nat} {σ : KSt} (P : kp_P e R ord g) (h5 : (∀ i, i < R → σ 5 (ord i) = nI i) ∧ (∀ v, v < 17 → (∀ i, i < R → ord i ≠ v) → σ 5 v = -1)) (Z : kw_Z R ord g σ) {k o : Nat} (hk : k < 16) (ho : o < 16) : ∃ v, k_holds σ (nI k) (nI o) = some v ∧ km_tv v (km_D e k o) := by
  have hR := P.1.2
  rw [k_holds, kt_chkn (by omega), kt_ixs (by omega)]
  rcases kp_cases P h5 hk with ⟨a, a1, a2, a3, a4, a5⟩ | ⟨a4, a5⟩
  · rw [a4, if_neg (kt_nz a (by omega)), kt_chkn (by omega), kt_ixs (by omega)]
    rcases kp_cases P h5 ho with ⟨w, w1, w2, w3, w4, w5⟩ | ⟨w4, w5⟩
    · obtain ⟨F, L, hZ⟩ := Z
      obtain ⟨z1, z2, z3, z4, z5⟩ := hZ a a2
      obtain ⟨y1, y2, y3, y4, y5⟩ := hZ w w2
      have hd := kp_D P a1 a2 w1 w2
      rw [a3] at z1 z2
      rw [w3] at y1
      rw [a3, w3] at hd
      rw [w4, if_pos (kt_z w (by omega)), kt_chkn (by omega), kt_chkn (by omega), z1, y1]
      by_cases c1 : F w < F a
      · rw [if_pos (nI_lt c1 (by omega))]
        exact ⟨0, rfl, Or.inr ⟨rfl, fun q => by have := (z5 w w2).mpr (hd.mp q); omega⟩⟩
      · rw [if_neg (fun q => c1 ((nI_ltI (by omega) (by omega)).mp q)), kt_chkn (by omega), kt_chkn (by omega), z2]
        by_cases c2 : L a < F w
        · rw [if_pos (nI_lt c2 (by omega))]
          exact ⟨0, rfl, Or.inr ⟨rfl, fun q => by have := (z5 w w2).mpr (hd.mp q); omega⟩⟩
        · rw [if_neg (fun q => c2 ((nI_ltI (by omega) (by omega)).mp q))]
          exact ⟨1, rfl, Or.inl ⟨rfl, hd.mpr ((z5 w w2).mp ⟨by omega, by omega⟩)⟩⟩
    · rw [w4, if_neg (by decide)]
      exact ⟨0, rfl, Or.inr ⟨rfl, fun q => w5 q.1⟩⟩
  · rw [a4, if_pos nI_n0]
    exact ⟨0, rfl, Or.inr ⟨rfl, kp_Dk P hk ho a5⟩⟩
theorem ko_guards {σ τ : KSt} (H : kt_Rl σ τ) (x y : Int32) : ∃ a b, k_guards kt_N σ x y = some a ∧ m_guards kt_N τ x y = some b ∧ a.1 = b.1 ∧ kt_Rl a.2 b.2 := by
  rcases ko_obj x with ⟨k, hk, rfl, h1, h2⟩ | ⟨h1, h2⟩
  · rcases ko_obj y with ⟨o, ho, rfl, h3, h4⟩ | ⟨h3, h4⟩
    · obtain ⟨e, sz, σ', p1, B, F, T, hs, K⟩ := ko_q H
      obtain ⟨R, ord, g, P, h5, Z, -, -⟩ := F
      obtain ⟨v, v1, v2⟩ := ko_holds P h5 Z hk ho
      obtain ⟨u, τ1, u1, u2, u3⟩ := ko_isGuard T hk ho
      have hk1 : k_guards kt_N σ (nI k) (nI o) = if v = 0 then some (0, σ') else some (1, σ') := by
        rw [k_guards, h1, kt_bs, if_neg km_1n0, h3, kt_bs, if_neg km_1n0, p1, kt_bs, v1]; rfl
      have hm1 : m_guards kt_N τ (nI k) (nI o) = if u = 0 then some (0, τ1) else some (1, τ1) := by
        rw [m_guards, h2, kt_bs, if_pos rfl, h4, kt_bs, if_pos rfl, u1]; rfl
      rw [hk1, hm1]
      by_cases q : km_D e k o
      · rw [km_tv_n v2 q, km_tv_n u2 q, if_neg km_1n0, if_neg km_1n0]
        exact ⟨_, _, rfl, rfl, rfl, K τ1 (fun q h _ => u3 q h)⟩
      · rw [km_tv_z v2 q, km_tv_z u2 q, if_pos rfl, if_pos rfl]
        exact ⟨_, _, rfl, rfl, rfl, K τ1 (fun q h _ => u3 q h)⟩
    · exact ⟨(-2, σ), (-2, τ), by rw [k_guards, h1, kt_bs, if_neg km_1n0, h3, kt_bs, if_pos rfl], by rw [m_guards, h2, kt_bs, if_pos rfl, h4, kt_bs, if_neg km_1n0], rfl, H⟩
  · exact ⟨(-2, σ), (-2, τ), by rw [k_guards, h1, kt_bs, if_pos rfl], by rw [m_guards, h2, kt_bs, if_neg km_1n0], rfl, H⟩
theorem ko_depth {σ τ : KSt} (H : kt_Rl σ τ) (x : Int32) : ∃ a b, k_depth kt_N σ x = some a ∧ m_depth kt_N τ x = some b ∧ a.1 = b.1 ∧ kt_Rl a.2 b.2 := by
  rcases ko_obj x with ⟨j, hj, rfl, h1, h2⟩ | ⟨h1, h2⟩
  · obtain ⟨e, sz, σ', p1, B, F, T, hs, K⟩ := ko_q H
    obtain ⟨R, ord, g, P, h5, -, h18, -⟩ := F
    have hR := P.1.2
    obtain ⟨τ1, t1, t2, t3⟩ := km_gather (e := e) kt_N2 T
    obtain ⟨z, hz⟩ := km_d18 (D := km_D e) (σ := τ1) t2 hj kt_N 0 (by omega) (by have := kt_N1; omega)
    have hz : m_depth_18 τ1 (nI j) kt_N 0 0 = some (nI (kt_sum (fun k => kt_if (km_D e k j) 1) 16), z) := hz
    have hm : m_depth kt_N τ (nI j) = some (nI (kt_sum (fun k => kt_if (km_D e k j) 1) 16), τ1) := by
      rw [m_depth, h2, kt_bs, if_pos rfl, t1, kt_bs, hz, kt_bs]
    rcases kp_cases P h5 hj with ⟨i, i1, i2, i3, i4, i5⟩ | ⟨i4, i5⟩
    · have e18 := (h18 i i2).1
      rw [kp_dp P i1 i2, i3] at e18
      refine ⟨(_, σ'), (_, τ1), ?_, hm, rfl, K τ1 t3⟩
      rw [k_depth, h1, kt_bs, if_neg km_1n0, p1, kt_bs, kt_chkn (by omega), kt_ixs (by omega), i4, if_neg (kt_nz i (by omega)), kt_chkn (by omega), e18]
    · rw [kt_sum_0 (fun k _ => kt_if_f (fun q => i5 q.1))] at hm
      refine ⟨(0, σ'), (nI 0, τ1), ?_, hm, rfl, K τ1 t3⟩
      rw [k_depth, h1, kt_bs, if_neg km_1n0, p1, kt_bs, kt_chkn (by omega), kt_ixs (by omega), i4, if_pos nI_n0]
  · exact ⟨(-2, σ), (-2, τ), by rw [k_depth, h1, kt_bs, if_pos rfl], by rw [m_depth, h2, kt_bs, if_neg km_1n0], rfl, H⟩
theorem ko_common {σ τ : KSt} (H : kt_Rl σ τ) (x y : Int32) : ∃ a b, k_common kt_N σ x y = some a ∧ m_common kt_N τ x y = some b ∧ a.1 = b.1 ∧ kt_Rl a.2 b.2 := by
  rcases ko_obj x with ⟨k, hk, rfl, h1, h2⟩ | ⟨h1, h2⟩
  · rcases ko_obj y with ⟨o, ho, rfl, h3, h4⟩ | ⟨h3, h4⟩
    · obtain ⟨e, sz, σ', p1, B, F, T, hs, K⟩ := ko_q H
      obtain ⟨R, ord, g, P, h5, -, h18, -⟩ := F
      have hR := P.1.2
      obtain ⟨τ1, t1, t2, t3⟩ := km_gather (e := e) kt_N2 T
      obtain ⟨v, v1, v2⟩ := km_last (D := km_D e) (σ := τ1) kt_N1 t2 hk ho 0
      have hm : m_common kt_N τ (nI k) (nI o) = some (v, τ1) := by
        rw [m_common, h2, kt_bs, if_pos rfl, h4, kt_bs, if_pos rfl, t1, kt_bs, v1, kt_bs]
      rcases kp_cases P h5 hk with ⟨a, a1, a2, a3, a4, a5⟩ | ⟨a4, a5⟩
      · rcases kp_cases P h5 ho with ⟨b, b1, b2, b3, b4, b5⟩ | ⟨b4, b5⟩
        · have da := kl_dp_le (R := R) (ord := ord) (g := g) a
          have db := kl_dp_le (R := R) (ord := ord) (g := g) b
          obtain ⟨z, q, z1, z2, z3⟩ := kp_common P h18 kt_N 0 a b a2 b2 (by omega) (by have := kt_N4; omega)
          rw [a3, b3, show nI 0 = 0 from rfl] at z2
          have hk1 : ∀ u, k_visible (nI (ord z)) = some u → k_common kt_N σ (nI k) (nI o) = some (u, σ') := fun u hu => by
            rw [k_common, h1, kt_bs, if_neg km_1n0, h3, kt_bs, if_neg km_1n0, p1, kt_bs, kt_chkn (by omega), kt_ixs (by omega), a4, if_neg (kt_nz a (by omega)), kt_chkn (by omega), kt_ixs (by omega), b4, if_pos (kt_z b (by omega)), z2, kt_bs]
            show (k_visible (nI (ord z))).bind _ = _
            rw [hu]; rfl
          have low : ∀ c, c < 16 → km_Bo (km_D e) k o (¬ (0 : Int32) = 0) c → ∃ i, 0 < i ∧ i < R ∧ ord i = c ∧ lt_anc g i z := by
            intro c hc h
            have d1 := h.1
            have d2 := h.2.1
            rw [← a3] at d1
            rw [← b3] at d2
            obtain ⟨i, i1, i2, i3, i4⟩ := kp_Dx P hc a1 a2 d1
            rw [← i3] at d2
            have i5 := (kp_D P i1 i2 b1 b2).mp d2
            exact ⟨i, i1, i2, i3, (z3 i).mpr ⟨i4, i5⟩⟩
          rcases Nat.eq_zero_or_pos z with q0 | q0
          · have hv : v = -1 := by
              rcases v2 with ⟨c, c1, c2, c3⟩ | ⟨c1, c2⟩
              · obtain ⟨i, i1, i2, i3, i4⟩ := low c c1 c3.1
                rw [q0] at i4
                exfalso
                rcases lt_anc_cases i4 with w | ⟨w, _⟩ <;> omega
              · exact c1
            refine ⟨(-1, σ'), (v, τ1), hk1 (-1) ?_, hm, hv.symm, K τ1 t3⟩
            rw [q0, P.2.1.1]
            exact ko_v16
          · have oz := P.2.1.2.1 z q0 z1
            have La : km_La (km_D e) k o (¬ (0 : Int32) = 0) (ord z) := by
              have hz := (z3 z).mp (lt_anc_refl g z)
              refine ⟨⟨?_, ?_, fun w => w.1 rfl⟩, fun c hc h => ?_⟩
              · rw [← a3]; exact (kp_D P q0 z1 a1 a2).mpr hz.1
              · rw [← b3]; exact (kp_D P q0 z1 b1 b2).mpr hz.2
              · obtain ⟨i, i1, i2, i3, i4⟩ := low c hc h
                rw [← i3]
                exact (kp_D P i1 i2 q0 z1).mpr i4
            have hv : v = nI (ord z) := by
              rcases v2 with ⟨c, c1, c2, c3⟩ | ⟨c1, c2⟩
              · rw [c2, kp_uniq P c1 oz c3 La]
              · exact absurd La (c2 _ oz)
            exact ⟨(nI (ord z), σ'), (v, τ1), hk1 _ (ko_vn oz), hm, hv.symm, K τ1 t3⟩
        · have hv : v = -1 := by
            rcases v2 with ⟨c, c1, c2, c3⟩ | ⟨c1, c2⟩
            · exact absurd c3.1.2.1.1 b5
            · exact c1
          refine ⟨(-1, σ'), (v, τ1), ?_, hm, hv.symm, K τ1 t3⟩
          rw [k_common, h1, kt_bs, if_neg km_1n0, h3, kt_bs, if_neg km_1n0, p1, kt_bs, kt_chkn (by omega), kt_ixs (by omega), a4, if_neg (kt_nz a (by omega)), kt_chkn (by omega), kt_ixs (by omega), b4, if_neg (by decide)]
      · have hv : v = -1 := by
          rcases v2 with ⟨c, c1, c2, c3⟩ | ⟨c1, c2⟩
          · exact absurd c3.1.1.1 a5
          · exact c1
        refine ⟨(-1, σ'), (v, τ1), ?_, hm, hv.symm, K τ1 t3⟩
        rw [k_common, h1, kt_bs, if_neg km_1n0, h3, kt_bs, if_neg km_1n0, p1, kt_bs, kt_chkn (by omega), kt_ixs (by omega), a4, if_pos nI_n0]
    · exact ⟨(-2, σ), (-2, τ), by rw [k_common, h1, kt_bs, if_neg km_1n0, h3, kt_bs, if_pos rfl], by rw [m_common, h2, kt_bs, if_pos rfl, h4, kt_bs, if_neg km_1n0], rfl, H⟩
  · exact ⟨(-2, σ), (-2, τ), by rw [k_common, h1, kt_bs, if_pos rfl], by rw [m_common, h2, kt_bs, if_neg km_1n0], rfl, H⟩
theorem ko_total {σ τ : KSt} (H : kt_Rl σ τ) : ∃ a b, k_total kt_N σ = some a ∧ m_total kt_N τ = some b ∧ a.1 = b.1 ∧ kt_Rl a.2 b.2 := by
  obtain ⟨e, sz, σ', p1, B, F, T, hs, K⟩ := ko_q H
  obtain ⟨R, ord, g, P, h5, -, -, h19⟩ := F
  obtain ⟨τ1, t1, t2, t3⟩ := km_find (e := e) km_xm kt_N2 T
  obtain ⟨z, hz⟩ := km_t9 (σ := τ1) t2 (sz := sz) (fun o ho => by rw [t3 0 (by decide)]; exact hs o ho) kt_N 0 (by omega) (by have := kt_N1; omega)
  have hz : m_total_9 τ1 kt_N 0 0 = some (nI (kt_sum (fun o => kt_if (km_r e 16 o) (sz o)) 16), z) := hz
  have e19 := h19 0 (by have := P.1.1; omega)
  rw [kp_tot P B.2.2.2, P.2.1.1] at e19
  refine ⟨(nI (kt_sum (fun o => kt_if (km_r e 16 o) (sz o)) 16), σ'), (nI (kt_sum (fun o => kt_if (km_r e 16 o) (sz o)) 16), τ1), ?_, ?_, rfl, K τ1 (fun q h _ => t3 q h)⟩
  · rw [k_total, p1, kt_bs, show (16 : Int32) = nI 16 from rfl, kt_chkn (by omega), kt_ixs (by omega), e19]
  · rw [m_total, t1, kt_bs, hz, kt_bs]
/-- heaviest: the two loops side by side -/
theorem ko_hv {e : Nat → Nat → Bool} {R : Nat} {ord g sz : Nat → Nat} {σ τ : KSt} (P : kp_P e R ord g) (h5 : (∀ i, i < R → σ 5 (ord i) = nI i) ∧ (∀ v, v < 17 → (∀ i, i < R → ord i ≠ v) → σ 5 v = -1)) (h18 : ∀ w, w < R → σ 18 (ord w) = nI (kl_dp R ord g w) ∧ (0 < w → σ 17 (ord w) = nI (ord (g w)))) (hh : ∀ i, 0 < i → i < R → σ 19 (ord i) = nI (kt_sum (fun o => kt_if (km_D e (ord i) o) (sz o)) 16)) (hsz : ∀ o, o < 16 → sz o ≤ 1000)
    (hD : ∀ k o, k < 16 → o < 16 → km_tv (τ 4 (16 * k + o)) (km_D e k o)) (hs : ∀ o, o < 16 → τ 0 o = nI (sz o)) : ∀ (n o : Nat) (x1 y1 y2 : Int32), ((x1 = -1 ∧ y1 = -1 ∧ y2 = -1) ∨ ∃ b, 0 < b ∧ b < R ∧ x1 = nI (ord b) ∧ y1 = nI (ord b) ∧ y2 = nI (kt_sum (fun o => kt_if (km_D e (ord b) o) (sz o)) 16)) → o ≤ 16 → 16 < n + o →
    ∃ r s, k_heaviest_8 σ n x1 (nI o) = some r ∧ m_heaviest_10 kt_N τ n y1 y2 (nI o) = some s ∧ r.1 = s.1 := by
  have hR := P.1.2
  have bd : ∀ k, kt_sum (fun o => kt_if (km_D e k o) (sz o)) 16 < 2 ^ 31 := fun k => by
    have := kt_sum_le (f := fun o => kt_if (km_D e k o) (sz o)) (c := 1000) (n := 16) (fun o ho => Nat.le_trans (kt_if_le _ _) (hsz o ho))
    omega
  intro n
  induction n with
  | zero => intro o x1 y1 y2 _ h1 h2; omega
  | succ n ih =>
    intro o x1 y1 y2 J ho hn
    rcases Nat.lt_or_ge o 16 with h | h
    · have hk : k_heaviest_8 σ (n + 1) x1 (nI o) = if σ 5 o < 0 then k_heaviest_8 σ n x1 (nI (o + 1)) else if σ 17 o = 16 then (if x1 < 0 then k_heaviest_8 σ n (nI o) (nI (o + 1)) else kt_chk x1 17 (if σ 19 o ≤ σ 19 (kt_ix x1) then k_heaviest_8 σ n x1 (nI (o + 1)) else k_heaviest_8 σ n (nI o) (nI (o + 1)))) else k_heaviest_8 σ n x1 (nI (o + 1)) := by
        rw [k_heaviest_8, if_neg (kt_c16 h), kt_chkn (by omega), kt_ixs (by omega), kt_chkn (by omega), kt_chkn (by omega), nI_a1]
      have hm : m_heaviest_10 kt_N τ (n + 1) y1 y2 (nI o) = if τ 4 (16 * o + o) = 0 then m_heaviest_10 kt_N τ n y1 y2 (nI (o + 1)) else (m_last kt_N τ (nI o) (nI o) 1).bind fun a5 => if 0 ≤ a5 then m_heaviest_10 kt_N τ n y1 y2 (nI (o + 1)) else (m_heldBy kt_N τ (nI o)).bind fun a10 => if a10 ≤ y2 then m_heaviest_10 kt_N τ n y1 y2 (nI (o + 1)) else (m_heldBy kt_N τ (nI o)).bind fun a13 => m_heaviest_10 kt_N τ n (nI o) a13 (nI (o + 1)) := by
        rw [m_heaviest_10, if_neg (kt_c16 h), km_ix, kt_chkn (by omega), kt_ixs (by omega), nI_a1]
      rw [hk, hm]
      rcases kp_cases P h5 h with ⟨i, i1, i2, i3, i4, i5⟩ | ⟨i4, i5⟩
      · have hdd := (kp_D P i1 i2 i1 i2).mpr (lt_anc_refl g i)
        rw [i3] at hdd
        obtain ⟨v, v1, -, v3⟩ := ko_kv P hD i1 i2
        have e17 := (h18 i i2).2 i1
        have e19 := hh i i1 i2
        rw [i3] at v1 e17 e19
        have hb := km_heldBy (D := km_D e) (σ := τ) kt_N1 hD (sz := sz) hs h
        rw [i4, if_neg (kt_nz i (by omega)), km_tv_n (hD o o h h) hdd, if_neg km_1n0, v1, kt_bs, e17]
        rcases v3 with ⟨g0, rfl⟩ | ⟨g0, rfl⟩
        · rw [g0, P.2.1.1, if_pos (show nI 16 = 16 from rfl), if_neg (show ¬ ((0 : Int32) ≤ -1) by decide), hb, kt_bs]
          have new : ∃ r s, k_heaviest_8 σ n (nI o) (nI (o + 1)) = some r ∧ m_heaviest_10 kt_N τ n (nI o) (nI (kt_sum (fun o' => kt_if (km_D e o o') (sz o')) 16)) (nI (o + 1)) = some s ∧ r.1 = s.1 := ih (o + 1) _ _ _ (Or.inr ⟨i, i1, i2, by rw [i3], by rw [i3], by rw [i3]⟩) (by omega) (by omega)
          rcases J with ⟨rfl, rfl, rfl⟩ | ⟨b, b1, b2, rfl, rfl, rfl⟩
          · rw [if_pos nI_n0, if_neg, kt_bs]
            · exact new
            · intro q
              exact absurd (Int32.le_trans (nI_pos' (bd o)) q) (by decide)
          · have ob := P.2.1.2.1 b b1 b2
            rw [if_neg (kt_nz _ (by omega)), kt_chkn (by omega), kt_ixs (by omega), e19, hh b b1 b2]
            by_cases c : kt_sum (fun o' => kt_if (km_D e o o') (sz o')) 16 ≤ kt_sum (fun o => kt_if (km_D e (ord b) o) (sz o)) 16
            · rw [if_pos (nI_le c (bd _)), if_pos (nI_le c (bd _))]
              exact ih (o + 1) _ _ _ (Or.inr ⟨b, b1, b2, rfl, rfl, rfl⟩) (by omega) (by omega)
            · have nc : ¬ nI (kt_sum (fun o' => kt_if (km_D e o o') (sz o')) 16) ≤ nI (kt_sum (fun o => kt_if (km_D e (ord b) o) (sz o)) 16) := fun q => c ((nI_leI (bd _) (bd _)).mp q)
              rw [if_neg nc, if_neg nc, kt_bs]
              exact new
        · have og := P.2.1.2.1 (g i) g0 (by have := P.2.2.1 i i1 i2; omega)
          rw [if_neg (fun q => by have := nI_inj (a := ord (g i)) (b := 16) (by omega) (by omega) q; omega), if_pos (kt_z _ (by omega))]
          exact ih (o + 1) _ _ _ J (by omega) (by omega)
      · rw [i4, if_pos nI_n0, km_tv_z (hD o o h h) (fun q => i5 q.1), if_pos rfl]
        exact ih (o + 1) _ _ _ J (by omega) (by omega)
    · rw [k_heaviest_8, m_heaviest_10, if_pos (kt_d16 h (by omega)), if_pos (kt_d16 h (by omega))]
      refine ⟨_, _, rfl, rfl, ?_⟩
      rcases J with ⟨a, b, _⟩ | ⟨b, _, _, a, c, _⟩
      · show x1 = y1
        rw [a, b]
      · show x1 = y1
        rw [a, c]
theorem ko_heaviest {σ τ : KSt} (H : kt_Rl σ τ) : ∃ a b, k_heaviest kt_N σ = some a ∧ m_heaviest kt_N τ = some b ∧ a.1 = b.1 ∧ kt_Rl a.2 b.2 := by
  obtain ⟨e, sz, σ', p1, B, F, T, hs, K⟩ := ko_q H
  obtain ⟨R, ord, g, P, h5, -, h18, h19⟩ := F
  obtain ⟨τ1, t1, t2, t3⟩ := km_gather (e := e) kt_N2 T
  obtain ⟨r, s, r1, s1, rs⟩ := ko_hv (sz := sz) P h5 h18 (fun i i1 i2 => by rw [h19 i i2, kp_hs P B.2.2.2 i1 i2]) (fun o ho => (B.2.2.1 o (by omega)).2) t2 (fun o ho => by rw [t3 0 (by decide) (by decide)]; exact hs o ho) kt_N 0 (-1) (-1) (-1) (Or.inl ⟨rfl, rfl, rfl⟩) (by omega) (by have := kt_N1; omega)
  rw [show nI 0 = 0 from rfl] at r1 s1
  exact ⟨(r.1, σ'), (s.1, τ1), by rw [k_heaviest, p1, kt_bs, r1, kt_bs], by rw [m_heaviest, t1, kt_bs, s1, kt_bs], rs, K τ1 t3⟩
theorem kt_ops : kt_Ops kt_N kt_Rl := fun _ _ H => ⟨fun x y => ko_setSize H x y, fun x y => ko_flip H x y, fun x y hy => ko_setRoot H x y hy, fun x => ko_alive H x, fun x => ko_keeper H x, fun x => ko_held H x, fun x y => ko_guards H x y, fun x => ko_depth H x, fun x y => ko_common H x y, ko_heaviest H, ko_total H⟩
end
section
-- ===== PART A: goes FIRST, ahead of the names: the tables' words, and 'selects' of the private methods out of them =====
/-- a private method of a class that the tables say can be made, by its rows of tables_1 -/
def lw_okq (q : MethodName × Nat) : Prop := (q.1.cls ≠ "java/lang/invoke/MethodHandle" ∧ q.1.cls ≠ "java/lang/invoke/VarHandle") ∧ Cond.instantiable q.1.cls q.2 ∈ tables_1 ∧ Cond.privateMethod q.1 ∈ tables_1 ∧ Cond.instanceMethod q.1 ∈ tables_1
set_option maxRecDepth 100000
theorem lw_t1 {w : Cond} (h : w ∈ tables_1_1) : w ∈ tables_1 := List.mem_append_left _ h
theorem lw_t2 {w : Cond} (h : w ∈ tables_1_2) : w ∈ tables_1 := List.mem_append_right _ h
theorem lw_p0 : lw_okq (⟨"KeepTree", "prepare", "()V"⟩, 22) := ⟨⟨by decide +kernel, by decide +kernel⟩, lw_t1 (List.mem_of_getElem? (i := 4) rfl), lw_t1 (List.mem_of_getElem? (i := 99) rfl), lw_t1 (List.mem_of_getElem? (i := 100) rfl)⟩
theorem lw_p1 : lw_okq (⟨"KeepTree", "numberVertices", "()V"⟩, 22) := ⟨⟨by decide +kernel, by decide +kernel⟩, lw_t1 (List.mem_of_getElem? (i := 4) rfl), lw_t1 (List.mem_of_getElem? (i := 103) rfl), lw_t1 (List.mem_of_getElem? (i := 104) rfl)⟩
theorem lw_p2 : lw_okq (⟨"KeepTree", "visit", "(I)V"⟩, 22) := ⟨⟨by decide +kernel, by decide +kernel⟩, lw_t1 (List.mem_of_getElem? (i := 4) rfl), lw_t1 (List.mem_of_getElem? (i := 107) rfl), lw_t1 (List.mem_of_getElem? (i := 108) rfl)⟩
theorem lw_p3 : lw_okq (⟨"KeepTree", "findDominators", "()V"⟩, 22) := ⟨⟨by decide +kernel, by decide +kernel⟩, lw_t1 (List.mem_of_getElem? (i := 4) rfl), lw_t1 (List.mem_of_getElem? (i := 114) rfl), lw_t1 (List.mem_of_getElem? (i := 115) rfl)⟩
theorem lw_p4 : lw_okq (⟨"KeepTree", "findSemi", "(I)V"⟩, 22) := ⟨⟨by decide +kernel, by decide +kernel⟩, lw_t1 (List.mem_of_getElem? (i := 4) rfl), lw_t1 (List.mem_of_getElem? (i := 118) rfl), lw_t1 (List.mem_of_getElem? (i := 119) rfl)⟩
theorem lw_p5 : lw_okq (⟨"KeepTree", "evaluate", "(I)I"⟩, 22) := ⟨⟨by decide +kernel, by decide +kernel⟩, lw_t1 (List.mem_of_getElem? (i := 4) rfl), lw_t1 (List.mem_of_getElem? (i := 122) rfl), lw_t1 (List.mem_of_getElem? (i := 123) rfl)⟩
theorem lw_p6 : lw_okq (⟨"KeepTree", "emptyBucket", "(I)V"⟩, 22) := ⟨⟨by decide +kernel, by decide +kernel⟩, lw_t1 (List.mem_of_getElem? (i := 4) rfl), lw_t1 (List.mem_of_getElem? (i := 126) rfl), lw_t1 (List.mem_of_getElem? (i := 127) rfl)⟩
theorem lw_p7 : lw_okq (⟨"KeepTree", "layOutTree", "()V"⟩, 22) := ⟨⟨by decide +kernel, by decide +kernel⟩, lw_t1 (List.mem_of_getElem? (i := 4) rfl), lw_t1 (List.mem_of_getElem? (i := 130) rfl), lw_t1 (List.mem_of_getElem? (i := 131) rfl)⟩
theorem lw_p8 : lw_okq (⟨"KeepTree", "walkTree", "()V"⟩, 22) := ⟨⟨by decide +kernel, by decide +kernel⟩, lw_t1 (List.mem_of_getElem? (i := 4) rfl), lw_t1 (List.mem_of_getElem? (i := 134) rfl), lw_t1 (List.mem_of_getElem? (i := 135) rfl)⟩
theorem lw_p9 : lw_okq (⟨"KeepTree", "holds", "(II)Z"⟩, 22) := ⟨⟨by decide +kernel, by decide +kernel⟩, lw_t1 (List.mem_of_getElem? (i := 4) rfl), lw_t1 (List.mem_of_getElem? (i := 153) rfl), lw_t1 (List.mem_of_getElem? (i := 154) rfl)⟩
theorem lw_p10 : lw_okq (⟨"KeepTreeModel", "isAlive", "(I)Z"⟩, 5) := ⟨⟨by decide +kernel, by decide +kernel⟩, lw_t1 (List.mem_of_getElem? (i := 173) rfl), lw_t1 (List.mem_of_getElem? (i := 215) rfl), lw_t1 (List.mem_of_getElem? (i := 216) rfl)⟩
theorem lw_p11 : lw_okq (⟨"KeepTreeModel", "find", "(I)V"⟩, 5) := ⟨⟨by decide +kernel, by decide +kernel⟩, lw_t1 (List.mem_of_getElem? (i := 173) rfl), lw_t1 (List.mem_of_getElem? (i := 219) rfl), lw_t1 (List.mem_of_getElem? (i := 220) rfl)⟩
theorem lw_p12 : lw_okq (⟨"KeepTreeModel", "gather", "()V"⟩, 5) := ⟨⟨by decide +kernel, by decide +kernel⟩, lw_t1 (List.mem_of_getElem? (i := 173) rfl), lw_t1 (List.mem_of_getElem? (i := 227) rfl), lw_t1 (List.mem_of_getElem? (i := 228) rfl)⟩
theorem lw_p13 : lw_okq (⟨"KeepTreeModel", "last", "(IIZ)I"⟩, 5) := ⟨⟨by decide +kernel, by decide +kernel⟩, lw_t1 (List.mem_of_getElem? (i := 173) rfl), lw_t1 (List.mem_of_getElem? (i := 231) rfl), lw_t1 (List.mem_of_getElem? (i := 232) rfl)⟩
theorem lw_p14 : lw_okq (⟨"KeepTreeModel", "both", "(IIIZ)Z"⟩, 5) := ⟨⟨by decide +kernel, by decide +kernel⟩, lw_t1 (List.mem_of_getElem? (i := 173) rfl), lw_t1 (List.mem_of_getElem? (i := 235) rfl), lw_t1 (List.mem_of_getElem? (i := 236) rfl)⟩
theorem lw_p15 : lw_okq (⟨"KeepTreeModel", "heldBy", "(I)I"⟩, 5) := ⟨⟨by decide +kernel, by decide +kernel⟩, lw_t1 (List.mem_of_getElem? (i := 173) rfl), lw_t2 (List.mem_of_getElem? (i := 3) rfl), lw_t2 (List.mem_of_getElem? (i := 4) rfl)⟩
def lw_privs_1 : List (MethodName × Nat) := [(⟨"KeepTree", "prepare", "()V"⟩, 22), (⟨"KeepTree", "numberVertices", "()V"⟩, 22), (⟨"KeepTree", "visit", "(I)V"⟩, 22), (⟨"KeepTree", "findDominators", "()V"⟩, 22), (⟨"KeepTree", "findSemi", "(I)V"⟩, 22), (⟨"KeepTree", "evaluate", "(I)I"⟩, 22), (⟨"KeepTree", "emptyBucket", "(I)V"⟩, 22), (⟨"KeepTree", "layOutTree", "()V"⟩, 22), (⟨"KeepTree", "walkTree", "()V"⟩, 22), (⟨"KeepTree", "holds", "(II)Z"⟩, 22), (⟨"KeepTreeModel", "isAlive", "(I)Z"⟩, 5), (⟨"KeepTreeModel", "find", "(I)V"⟩, 5), (⟨"KeepTreeModel", "gather", "()V"⟩, 5), (⟨"KeepTreeModel", "last", "(IIZ)I"⟩, 5), (⟨"KeepTreeModel", "both", "(IIIZ)Z"⟩, 5), (⟨"KeepTreeModel", "heldBy", "(I)I"⟩, 5)]
theorem lw_r1 : ∀ q ∈ lw_privs_1, lw_okq q := List.forall_mem_cons.mpr ⟨lw_p0, List.forall_mem_cons.mpr ⟨lw_p1, List.forall_mem_cons.mpr ⟨lw_p2, List.forall_mem_cons.mpr ⟨lw_p3, List.forall_mem_cons.mpr ⟨lw_p4, List.forall_mem_cons.mpr ⟨lw_p5, List.forall_mem_cons.mpr ⟨lw_p6, List.forall_mem_cons.mpr ⟨lw_p7, List.forall_mem_cons.mpr ⟨lw_p8, List.forall_mem_cons.mpr ⟨lw_p9, List.forall_mem_cons.mpr ⟨lw_p10, List.forall_mem_cons.mpr ⟨lw_p11, List.forall_mem_cons.mpr ⟨lw_p12, List.forall_mem_cons.mpr ⟨lw_p13, List.forall_mem_cons.mpr ⟨lw_p14, List.forall_mem_cons.mpr ⟨lw_p15, fun _ h => absurd h List.not_mem_nil⟩⟩⟩⟩⟩⟩⟩⟩⟩⟩⟩⟩⟩⟩⟩⟩
theorem lw_p16 : lw_okq (⟨"KeepTreeModel", "isGuard", "(II)Z"⟩, 5) := ⟨⟨by decide +kernel, by decide +kernel⟩, lw_t1 (List.mem_of_getElem? (i := 173) rfl), lw_t2 (List.mem_of_getElem? (i := 11) rfl), lw_t2 (List.mem_of_getElem? (i := 12) rfl)⟩
def lw_privs_2 : List (MethodName × Nat) := [(⟨"KeepTreeModel", "isGuard", "(II)Z"⟩, 5)]
theorem lw_r2 : ∀ q ∈ lw_privs_2, lw_okq q := List.forall_mem_cons.mpr ⟨lw_p16, fun _ h => absurd h List.not_mem_nil⟩
def lw_privs : List (MethodName × Nat) := lw_privs_1 ++ (lw_privs_2)
def lw_tbl : List Cond := k2_sels lw_privs ++ tables_1
theorem lw_privs_ok : ∀ q ∈ lw_privs, lw_okq q := by
  show ∀ q ∈ lw_privs_1 ++ (lw_privs_2), lw_okq q
  exact List.forall_mem_append.mpr ⟨lw_r1, lw_r2⟩
-- ===== ONE list of words for every method: the tables' words that hold all through a run =====
def lw_all : List Cond := lw_tbl.filter goodWord
/-- a word of the tables by its place: claim/WORDS.tsv -/
theorem lw_w {w : Cond} (i : Nat) (h : lw_tbl[i]? = some w) (g : goodWord w = true) : w ∈ lw_all := List.mem_filter.mpr ⟨List.mem_of_getElem? h, g⟩
theorem lw_all_tbl {w : Cond} (h : w ∈ lw_all) : w ∈ lw_tbl := (List.mem_filter.mp h).1
theorem lw_self : GoodIn lw_all lw_all := fun w h => ⟨h, good_of_word (List.mem_filter.mp h).2⟩
/-- a class's field words, by their places -/
theorem lw_in (ws : List Cond) (ps : List Nat) (hp : ws = ps.filterMap (fun i => lw_tbl[i]?)) (hg : ws.all goodWord = true) : ∀ w ∈ ws, w ∈ lw_all := by
  intro w h
  have h1 := List.all_eq_true.mp hg w h
  rw [hp] at h
  obtain ⟨i, -, hi⟩ := List.mem_filterMap.mp h
  exact lw_w i hi h1
/-- the words of a contract for the method y with code b, L locals, answer r -/
abbrev ws_ (y : MethodName) (b : ByteArray) (L : Nat) (r : Option FieldType) : List Cond := Cond.code y b L r :: lw_all
theorem lw_meth {y : MethodName} {b : ByteArray} {L : Nat} {r : Option FieldType} (h : Cond.code y b L r ∈ lw_all) : GoodIn lw_all (ws_ y b L r) := by
  intro w hw
  rcases List.mem_cons.mp hw with e | e
  · rw [e]
    exact lw_self _ h
  · exact lw_self _ e
theorem lw_app {a c : List Cond} (ha : ∀ w ∈ a, w ∈ lw_all) (hc : GoodIn lw_all c) : GoodIn lw_all (a ++ c) := by
  intro w hw
  rcases List.mem_append.mp hw with e | e
  · exact lw_self w (ha w e)
  · exact hc w e
/-- what a call through an object asks: cwV n hts (lw_V ..) -/
theorem lw_V {own : String} {idx : Nat} {C : String} {y : MethodName} {b : ByteArray} {L : Nat} {r : Option FieldType} (h1 : Cond.methodLink own idx y ∈ lw_all) (h2 : Cond.instanceMethod y ∈ lw_all) (h3 : Cond.selects C y y ∈ lw_all) (h4 : Cond.initialized C ∈ lw_all) (h5 : Cond.code y b L r ∈ lw_all) : GoodIn lw_all (wsV own idx C y (ws_ y b L r)) := by
  refine lw_app ?_ (lw_meth h5)
  intro w hw
  simp only [List.mem_cons, List.not_mem_nil, or_false] at hw
  rcases hw with e | e | e | e
  · rw [e]; exact h1
  · rw [e]; exact h2
  · rw [e]; exact h3
  · rw [e]; exact h4
/-- what a static call asks: va_cwS n hts (lw_S ..) -/
theorem lw_S {own : String} {idx : Nat} {y : MethodName} {b : ByteArray} {L : Nat} {r : Option FieldType} (h1 : Cond.methodLink own idx y ∈ lw_all) (h2 : Cond.static y ∈ lw_all) (h3 : Cond.initialized y.cls ∈ lw_all) (h4 : Cond.code y b L r ∈ lw_all) : GoodIn lw_all (va_wsS own idx y (ws_ y b L r)) := by
  refine lw_app ?_ (lw_meth h4)
  intro w hw
  simp only [List.mem_cons, List.not_mem_nil, or_false] at hw
  rcases hw with e | e | e
  · rw [e]; exact h1
  · rw [e]; exact h2
  · rw [e]; exact h3
/-- the words of a contract for a method WITH HANDLERS (hh: its table) -/
abbrev wsW_ (y : MethodName) (b : ByteArray) (L : Nat) (r : Option FieldType) (hh : List (Nat × Nat × Nat × Nat)) : List Cond := Cond.codeWith y b L r hh :: lw_all
theorem lw_methW {y : MethodName} {b : ByteArray} {L : Nat} {r : Option FieldType} {hh : List (Nat × Nat × Nat × Nat)} (h : Cond.codeWith y b L r hh ∈ lw_all) : GoodIn lw_all (wsW_ y b L r hh) := by
  intro w hw
  rcases List.mem_cons.mp hw with e | e
  · rw [e]
    exact lw_self _ h
  · exact lw_self _ e
/-- any list of words by their places (lw_in), good -/
theorem lw_good {ws : List Cond} (h : ∀ w ∈ ws, w ∈ lw_all) : GoodIn lw_all ws := fun w hw => lw_self w (h w hw)
/-- what a call of a method with handlers asks: vx_cwVW n hts (lw_VW ..), vx_cwSW n hts (lw_SW ..) -/
theorem lw_VW {own : String} {idx : Nat} {C : String} {y : MethodName} {b : ByteArray} {L : Nat} {r : Option FieldType} {hh : List (Nat × Nat × Nat × Nat)} (h1 : Cond.methodLink own idx y ∈ lw_all) (h2 : Cond.instanceMethod y ∈ lw_all) (h3 : Cond.selects C y y ∈ lw_all) (h4 : Cond.initialized C ∈ lw_all) (h5 : Cond.codeWith y b L r hh ∈ lw_all) : GoodIn lw_all (wsV own idx C y (wsW_ y b L r hh)) := by
  refine lw_app ?_ (lw_methW h5)
  intro w hw
  simp only [List.mem_cons, List.not_mem_nil, or_false] at hw
  rcases hw with e | e | e | e
  · rw [e]; exact h1
  · rw [e]; exact h2
  · rw [e]; exact h3
  · rw [e]; exact h4
theorem lw_SW {own : String} {idx : Nat} {y : MethodName} {b : ByteArray} {L : Nat} {r : Option FieldType} {hh : List (Nat × Nat × Nat × Nat)} (h1 : Cond.methodLink own idx y ∈ lw_all) (h2 : Cond.static y ∈ lw_all) (h3 : Cond.initialized y.cls ∈ lw_all) (h4 : Cond.codeWith y b L r hh ∈ lw_all) : GoodIn lw_all (va_wsS own idx y (wsW_ y b L r hh)) := by
  refine lw_app ?_ (lw_methW h4)
  intro w hw
  simp only [List.mem_cons, List.not_mem_nil, or_false] at hw
  rcases hw with e | e | e
  · rw [e]; exact h1
  · rw [e]; exact h2
  · rw [e]; exact h3
/-- a word by its place in its run of the tables -/
theorem lw_at {r : List Cond} (hr : ∀ w ∈ r, w ∈ lw_tbl) {w : Cond} (i : Nat) (h : r[i]? = some w) : w ∈ lw_tbl := hr w (List.mem_of_getElem? h)
theorem lw_g {w : Cond} (h : w ∈ lw_tbl) (g : goodWord w = true) : w ∈ lw_all := List.mem_filter.mpr ⟨h, g⟩
theorem lw_ms : ∀ w ∈ k2_sels lw_privs, w ∈ lw_tbl := fun w h => show w ∈ k2_sels lw_privs ++ tables_1 from List.mem_append_left _ h
theorem lw_m1 : ∀ w ∈ tables_1_1, w ∈ lw_tbl := fun w h => show w ∈ k2_sels lw_privs ++ tables_1 from List.mem_append_right (k2_sels lw_privs) (show w ∈ tables_1 from List.mem_append_left _ h)
theorem lw_m2 : ∀ w ∈ tables_1_2, w ∈ lw_tbl := fun w h => show w ∈ k2_sels lw_privs ++ tables_1 from List.mem_append_right (k2_sels lw_privs) (show w ∈ tables_1 from List.mem_append_right _ h)
theorem qs0 : (Cond.selects "KeepTree" ⟨"KeepTree", "prepare", "()V"⟩ ⟨"KeepTree", "prepare", "()V"⟩) ∈ lw_all := lw_g (lw_at lw_ms 0 rfl) rfl
theorem qs1 : (Cond.selects "KeepTree" ⟨"KeepTree", "numberVertices", "()V"⟩ ⟨"KeepTree", "numberVertices", "()V"⟩) ∈ lw_all := lw_g (lw_at lw_ms 1 rfl) rfl
theorem qs2 : (Cond.selects "KeepTree" ⟨"KeepTree", "visit", "(I)V"⟩ ⟨"KeepTree", "visit", "(I)V"⟩) ∈ lw_all := lw_g (lw_at lw_ms 2 rfl) rfl
theorem qs3 : (Cond.selects "KeepTree" ⟨"KeepTree", "findDominators", "()V"⟩ ⟨"KeepTree", "findDominators", "()V"⟩) ∈ lw_all := lw_g (lw_at lw_ms 3 rfl) rfl
theorem qs4 : (Cond.selects "KeepTree" ⟨"KeepTree", "findSemi", "(I)V"⟩ ⟨"KeepTree", "findSemi", "(I)V"⟩) ∈ lw_all := lw_g (lw_at lw_ms 4 rfl) rfl
theorem qs5 : (Cond.selects "KeepTree" ⟨"KeepTree", "evaluate", "(I)I"⟩ ⟨"KeepTree", "evaluate", "(I)I"⟩) ∈ lw_all := lw_g (lw_at lw_ms 5 rfl) rfl
theorem qs6 : (Cond.selects "KeepTree" ⟨"KeepTree", "emptyBucket", "(I)V"⟩ ⟨"KeepTree", "emptyBucket", "(I)V"⟩) ∈ lw_all := lw_g (lw_at lw_ms 6 rfl) rfl
theorem qs7 : (Cond.selects "KeepTree" ⟨"KeepTree", "layOutTree", "()V"⟩ ⟨"KeepTree", "layOutTree", "()V"⟩) ∈ lw_all := lw_g (lw_at lw_ms 7 rfl) rfl
theorem qs8 : (Cond.selects "KeepTree" ⟨"KeepTree", "walkTree", "()V"⟩ ⟨"KeepTree", "walkTree", "()V"⟩) ∈ lw_all := lw_g (lw_at lw_ms 8 rfl) rfl
theorem qs9 : (Cond.selects "KeepTree" ⟨"KeepTree", "holds", "(II)Z"⟩ ⟨"KeepTree", "holds", "(II)Z"⟩) ∈ lw_all := lw_g (lw_at lw_ms 9 rfl) rfl
theorem qs10 : (Cond.selects "KeepTreeModel" ⟨"KeepTreeModel", "isAlive", "(I)Z"⟩ ⟨"KeepTreeModel", "isAlive", "(I)Z"⟩) ∈ lw_all := lw_g (lw_at lw_ms 10 rfl) rfl
theorem qs11 : (Cond.selects "KeepTreeModel" ⟨"KeepTreeModel", "find", "(I)V"⟩ ⟨"KeepTreeModel", "find", "(I)V"⟩) ∈ lw_all := lw_g (lw_at lw_ms 11 rfl) rfl
theorem qs12 : (Cond.selects "KeepTreeModel" ⟨"KeepTreeModel", "gather", "()V"⟩ ⟨"KeepTreeModel", "gather", "()V"⟩) ∈ lw_all := lw_g (lw_at lw_ms 12 rfl) rfl
theorem qs13 : (Cond.selects "KeepTreeModel" ⟨"KeepTreeModel", "last", "(IIZ)I"⟩ ⟨"KeepTreeModel", "last", "(IIZ)I"⟩) ∈ lw_all := lw_g (lw_at lw_ms 13 rfl) rfl
theorem qs14 : (Cond.selects "KeepTreeModel" ⟨"KeepTreeModel", "both", "(IIIZ)Z"⟩ ⟨"KeepTreeModel", "both", "(IIIZ)Z"⟩) ∈ lw_all := lw_g (lw_at lw_ms 14 rfl) rfl
theorem qs15 : (Cond.selects "KeepTreeModel" ⟨"KeepTreeModel", "heldBy", "(I)I"⟩ ⟨"KeepTreeModel", "heldBy", "(I)I"⟩) ∈ lw_all := lw_g (lw_at lw_ms 15 rfl) rfl
theorem qs16 : (Cond.selects "KeepTreeModel" ⟨"KeepTreeModel", "isGuard", "(II)Z"⟩ ⟨"KeepTreeModel", "isGuard", "(II)Z"⟩) ∈ lw_all := lw_g (lw_at lw_ms 16 rfl) rfl
end
section
set_option maxRecDepth 100000
/-! KeepTree -/
def RX0 : String := "KeepTree"
def TX0 : u_T := fun k => match k with
  | 0 => ("KeepTree", "sizeOf", "[I", true)
  | 1 => ("KeepTree", "refers", "[I", true)
  | 2 => ("KeepTree", "roots", "I", false)
  | 3 => ("KeepTree", "fresh", "Z", false)
  | 4 => ("KeepTree", "reached", "I", false)
  | 5 => ("KeepTree", "number", "[I", true)
  | 6 => ("KeepTree", "order", "[I", true)
  | 7 => ("KeepTree", "treeParent", "[I", true)
  | 8 => ("KeepTree", "stack", "[I", true)
  | 9 => ("KeepTree", "untried", "[I", true)
  | 10 => ("KeepTree", "semi", "[I", true)
  | 11 => ("KeepTree", "idom", "[I", true)
  | 12 => ("KeepTree", "ancestor", "[I", true)
  | 13 => ("KeepTree", "label", "[I", true)
  | 14 => ("KeepTree", "path", "[I", true)
  | 15 => ("KeepTree", "bucketHead", "[I", true)
  | 16 => ("KeepTree", "bucketNext", "[I", true)
  | 17 => ("KeepTree", "keeperOf", "[I", true)
  | 18 => ("KeepTree", "depthOf", "[I", true)
  | 19 => ("KeepTree", "heldBy", "[I", true)
  | 20 => ("KeepTree", "first", "[I", true)
  | _ => ("KeepTree", "last", "[I", true)
def tyX0 : Nat → FieldType := fun k => match k with
  | 0 => .array .int
  | 1 => .array .int
  | 2 => .int
  | 3 => .boolean
  | 4 => .int
  | 5 => .array .int
  | 6 => .array .int
  | 7 => .array .int
  | 8 => .array .int
  | 9 => .array .int
  | 10 => .array .int
  | 11 => .array .int
  | 12 => .array .int
  | 13 => .array .int
  | 14 => .array .int
  | 15 => .array .int
  | 16 => .array .int
  | 17 => .array .int
  | 18 => .array .int
  | 19 => .array .int
  | 20 => .array .int
  | _ => .array .int
abbrev wsX00 : List Cond := u_ws RX0 TX0 22
set_option maxRecDepth 100000 in
theorem nmX0 : ∀ a, a < 22 → ∀ b, b < 22 → a ≠ b → (TX0 a).2.1 ≠ (TX0 b).2.1 := by decide +kernel
set_option maxRecDepth 100000 in
theorem tyX0_ok : ∀ k, k < 22 → parseFieldDescriptor (TX0 k).2.2.1 = some (tyX0 k) := by decide +kernel
abbrev cX0_init : ByteArray := prog_1_method_1_code
def yX0_init : MethodName := ⟨RX0, "<init>", "()V"⟩
abbrev cX0_setSize : ByteArray := prog_1_method_2_code
def yX0_setSize : MethodName := ⟨RX0, "setSize", "(II)I"⟩
abbrev cX0_isObject : ByteArray := prog_1_method_13_code
def yX0_isObject : MethodName := ⟨RX0, "isObject", "(I)Z"⟩
abbrev cX0_flip : ByteArray := prog_1_method_3_code
def yX0_flip : MethodName := ⟨RX0, "flip", "(II)I"⟩
abbrev cX0_setRoot : ByteArray := prog_1_method_4_code
def yX0_setRoot : MethodName := ⟨RX0, "setRoot", "(IZ)I"⟩
abbrev cX0_alive : ByteArray := prog_1_method_5_code
def yX0_alive : MethodName := ⟨RX0, "alive", "(I)I"⟩
abbrev cX0_prepare : ByteArray := prog_1_method_16_code
def yX0_prepare : MethodName := ⟨RX0, "prepare", "()V"⟩
abbrev cX0_numberVertices : ByteArray := prog_1_method_17_code
def yX0_numberVertices : MethodName := ⟨RX0, "numberVertices", "()V"⟩
abbrev cX0_visit : ByteArray := prog_1_method_18_code
def yX0_visit : MethodName := ⟨RX0, "visit", "(I)V"⟩
abbrev cX0_lowestOf : ByteArray := prog_1_method_19_code
def yX0_lowestOf : MethodName := ⟨RX0, "lowestOf", "(I)I"⟩
abbrev cX0_findDominators : ByteArray := prog_1_method_20_code
def yX0_findDominators : MethodName := ⟨RX0, "findDominators", "()V"⟩
abbrev cX0_findSemi : ByteArray := prog_1_method_21_code
def yX0_findSemi : MethodName := ⟨RX0, "findSemi", "(I)V"⟩
abbrev cX0_evaluate : ByteArray := prog_1_method_23_code
def yX0_evaluate : MethodName := ⟨RX0, "evaluate", "(I)I"⟩
abbrev cX0_emptyBucket : ByteArray := prog_1_method_22_code
def yX0_emptyBucket : MethodName := ⟨RX0, "emptyBucket", "(I)V"⟩
abbrev cX0_layOutTree : ByteArray := prog_1_method_24_code
def yX0_layOutTree : MethodName := ⟨RX0, "layOutTree", "()V"⟩
abbrev cX0_walkTree : ByteArray := prog_1_method_25_code
def yX0_walkTree : MethodName := ⟨RX0, "walkTree", "()V"⟩
abbrev cX0_keeper : ByteArray := prog_1_method_6_code
def yX0_keeper : MethodName := ⟨RX0, "keeper", "(I)I"⟩
abbrev cX0_visible : ByteArray := prog_1_method_14_code
def yX0_visible : MethodName := ⟨RX0, "visible", "(I)I"⟩
abbrev cX0_held : ByteArray := prog_1_method_7_code
def yX0_held : MethodName := ⟨RX0, "held", "(I)I"⟩
abbrev cX0_guards : ByteArray := prog_1_method_8_code
def yX0_guards : MethodName := ⟨RX0, "guards", "(II)I"⟩
abbrev cX0_holds : ByteArray := prog_1_method_15_code
def yX0_holds : MethodName := ⟨RX0, "holds", "(II)Z"⟩
abbrev cX0_depth : ByteArray := prog_1_method_9_code
def yX0_depth : MethodName := ⟨RX0, "depth", "(I)I"⟩
abbrev cX0_common : ByteArray := prog_1_method_10_code
def yX0_common : MethodName := ⟨RX0, "common", "(II)I"⟩
abbrev cX0_heaviest : ByteArray := prog_1_method_11_code
def yX0_heaviest : MethodName := ⟨RX0, "heaviest", "()I"⟩
abbrev cX0_total : ByteArray := prog_1_method_12_code
def yX0_total : MethodName := ⟨RX0, "total", "()I"⟩
theorem q18 : (Jvm.Cond.initialized "KeepTree") ∈ lw_all := lw_g (lw_at lw_m1 1 rfl) rfl
theorem q21 : (Jvm.Cond.instantiable "KeepTree" (22 : Nat)) ∈ lw_all := lw_g (lw_at lw_m1 4 rfl) rfl
theorem q23 : (Jvm.Cond.instanceMethod ({ cls := "KeepTree", name := "<init>", desc := "()V" } : Jvm.MethodName)) ∈ lw_all := lw_g (lw_at lw_m1 6 rfl) rfl
theorem q24 : (Jvm.Cond.code ({ cls := "KeepTree", name := "<init>", desc := "()V" } : Jvm.MethodName) prog_1_method_1_code (1 : Nat) (Option.none : Option Jvm.ClassFile.FieldType)) ∈ lw_all := lw_g (lw_at lw_m1 7 rfl) rfl
theorem q25 : (Jvm.Cond.methodLink "KeepTree" (1 : Nat) ({ cls := "java/lang/Object", name := "<init>", desc := "()V" } : Jvm.MethodName)) ∈ lw_all := lw_g (lw_at lw_m1 8 rfl) rfl
theorem q28 : (Jvm.Cond.fieldLink "KeepTree" (7 : Nat) "KeepTree" "sizeOf" "[I") ∈ lw_all := lw_g (lw_at lw_m1 11 rfl) rfl
theorem q29 : (Jvm.Cond.fieldLink "KeepTree" (13 : Nat) "KeepTree" "refers" "[I") ∈ lw_all := lw_g (lw_at lw_m1 12 rfl) rfl
theorem q30 : (Jvm.Cond.fieldLink "KeepTree" (75 : Nat) "KeepTree" "roots" "I") ∈ lw_all := lw_g (lw_at lw_m1 13 rfl) rfl
theorem q31 : (Jvm.Cond.fieldLink "KeepTree" (71 : Nat) "KeepTree" "fresh" "Z") ∈ lw_all := lw_g (lw_at lw_m1 14 rfl) rfl
theorem q32 : (Jvm.Cond.fieldLink "KeepTree" (99 : Nat) "KeepTree" "reached" "I") ∈ lw_all := lw_g (lw_at lw_m1 15 rfl) rfl
theorem q33 : (Jvm.Cond.fieldLink "KeepTree" (16 : Nat) "KeepTree" "number" "[I") ∈ lw_all := lw_g (lw_at lw_m1 16 rfl) rfl
theorem q34 : (Jvm.Cond.fieldLink "KeepTree" (19 : Nat) "KeepTree" "order" "[I") ∈ lw_all := lw_g (lw_at lw_m1 17 rfl) rfl
theorem q35 : (Jvm.Cond.fieldLink "KeepTree" (22 : Nat) "KeepTree" "treeParent" "[I") ∈ lw_all := lw_g (lw_at lw_m1 18 rfl) rfl
theorem q36 : (Jvm.Cond.fieldLink "KeepTree" (25 : Nat) "KeepTree" "stack" "[I") ∈ lw_all := lw_g (lw_at lw_m1 19 rfl) rfl
theorem q37 : (Jvm.Cond.fieldLink "KeepTree" (28 : Nat) "KeepTree" "untried" "[I") ∈ lw_all := lw_g (lw_at lw_m1 20 rfl) rfl
theorem q38 : (Jvm.Cond.fieldLink "KeepTree" (31 : Nat) "KeepTree" "semi" "[I") ∈ lw_all := lw_g (lw_at lw_m1 21 rfl) rfl
theorem q39 : (Jvm.Cond.fieldLink "KeepTree" (34 : Nat) "KeepTree" "idom" "[I") ∈ lw_all := lw_g (lw_at lw_m1 22 rfl) rfl
theorem q40 : (Jvm.Cond.fieldLink "KeepTree" (37 : Nat) "KeepTree" "ancestor" "[I") ∈ lw_all := lw_g (lw_at lw_m1 23 rfl) rfl
theorem q41 : (Jvm.Cond.fieldLink "KeepTree" (40 : Nat) "KeepTree" "label" "[I") ∈ lw_all := lw_g (lw_at lw_m1 24 rfl) rfl
theorem q42 : (Jvm.Cond.fieldLink "KeepTree" (43 : Nat) "KeepTree" "path" "[I") ∈ lw_all := lw_g (lw_at lw_m1 25 rfl) rfl
theorem q43 : (Jvm.Cond.fieldLink "KeepTree" (46 : Nat) "KeepTree" "bucketHead" "[I") ∈ lw_all := lw_g (lw_at lw_m1 26 rfl) rfl
theorem q44 : (Jvm.Cond.fieldLink "KeepTree" (49 : Nat) "KeepTree" "bucketNext" "[I") ∈ lw_all := lw_g (lw_at lw_m1 27 rfl) rfl
theorem q45 : (Jvm.Cond.fieldLink "KeepTree" (52 : Nat) "KeepTree" "keeperOf" "[I") ∈ lw_all := lw_g (lw_at lw_m1 28 rfl) rfl
theorem q46 : (Jvm.Cond.fieldLink "KeepTree" (55 : Nat) "KeepTree" "depthOf" "[I") ∈ lw_all := lw_g (lw_at lw_m1 29 rfl) rfl
theorem q47 : (Jvm.Cond.fieldLink "KeepTree" (58 : Nat) "KeepTree" "heldBy" "[I") ∈ lw_all := lw_g (lw_at lw_m1 30 rfl) rfl
theorem q48 : (Jvm.Cond.fieldLink "KeepTree" (61 : Nat) "KeepTree" "first" "[I") ∈ lw_all := lw_g (lw_at lw_m1 31 rfl) rfl
theorem q49 : (Jvm.Cond.fieldLink "KeepTree" (64 : Nat) "KeepTree" "last" "[I") ∈ lw_all := lw_g (lw_at lw_m1 32 rfl) rfl
theorem q50 : (Jvm.Cond.laysFinal "KeepTree" "KeepTree" "sizeOf" "[I") ∈ lw_all := lw_g (lw_at lw_m1 33 rfl) rfl
theorem q51 : (Jvm.Cond.soleField "KeepTree" "sizeOf") ∈ lw_all := lw_g (lw_at lw_m1 34 rfl) rfl
theorem q52 : (Jvm.Cond.laysFinal "KeepTree" "KeepTree" "refers" "[I") ∈ lw_all := lw_g (lw_at lw_m1 35 rfl) rfl
theorem q53 : (Jvm.Cond.soleField "KeepTree" "refers") ∈ lw_all := lw_g (lw_at lw_m1 36 rfl) rfl
theorem q54 : (Jvm.Cond.lays "KeepTree" "KeepTree" "roots" "I") ∈ lw_all := lw_g (lw_at lw_m1 37 rfl) rfl
theorem q55 : (Jvm.Cond.soleField "KeepTree" "roots") ∈ lw_all := lw_g (lw_at lw_m1 38 rfl) rfl
theorem q56 : (Jvm.Cond.lays "KeepTree" "KeepTree" "fresh" "Z") ∈ lw_all := lw_g (lw_at lw_m1 39 rfl) rfl
theorem q57 : (Jvm.Cond.soleField "KeepTree" "fresh") ∈ lw_all := lw_g (lw_at lw_m1 40 rfl) rfl
theorem q58 : (Jvm.Cond.lays "KeepTree" "KeepTree" "reached" "I") ∈ lw_all := lw_g (lw_at lw_m1 41 rfl) rfl
theorem q59 : (Jvm.Cond.soleField "KeepTree" "reached") ∈ lw_all := lw_g (lw_at lw_m1 42 rfl) rfl
theorem q60 : (Jvm.Cond.laysFinal "KeepTree" "KeepTree" "number" "[I") ∈ lw_all := lw_g (lw_at lw_m1 43 rfl) rfl
theorem q61 : (Jvm.Cond.soleField "KeepTree" "number") ∈ lw_all := lw_g (lw_at lw_m1 44 rfl) rfl
theorem q62 : (Jvm.Cond.laysFinal "KeepTree" "KeepTree" "order" "[I") ∈ lw_all := lw_g (lw_at lw_m1 45 rfl) rfl
theorem q63 : (Jvm.Cond.soleField "KeepTree" "order") ∈ lw_all := lw_g (lw_at lw_m1 46 rfl) rfl
theorem q64 : (Jvm.Cond.laysFinal "KeepTree" "KeepTree" "treeParent" "[I") ∈ lw_all := lw_g (lw_at lw_m1 47 rfl) rfl
theorem q65 : (Jvm.Cond.soleField "KeepTree" "treeParent") ∈ lw_all := lw_g (lw_at lw_m1 48 rfl) rfl
theorem q66 : (Jvm.Cond.laysFinal "KeepTree" "KeepTree" "stack" "[I") ∈ lw_all := lw_g (lw_at lw_m1 49 rfl) rfl
theorem q67 : (Jvm.Cond.soleField "KeepTree" "stack") ∈ lw_all := lw_g (lw_at lw_m1 50 rfl) rfl
theorem q68 : (Jvm.Cond.laysFinal "KeepTree" "KeepTree" "untried" "[I") ∈ lw_all := lw_g (lw_at lw_m1 51 rfl) rfl
theorem q69 : (Jvm.Cond.soleField "KeepTree" "untried") ∈ lw_all := lw_g (lw_at lw_m1 52 rfl) rfl
theorem q70 : (Jvm.Cond.laysFinal "KeepTree" "KeepTree" "semi" "[I") ∈ lw_all := lw_g (lw_at lw_m1 53 rfl) rfl
theorem q71 : (Jvm.Cond.soleField "KeepTree" "semi") ∈ lw_all := lw_g (lw_at lw_m1 54 rfl) rfl
theorem q72 : (Jvm.Cond.laysFinal "KeepTree" "KeepTree" "idom" "[I") ∈ lw_all := lw_g (lw_at lw_m1 55 rfl) rfl
theorem q73 : (Jvm.Cond.soleField "KeepTree" "idom") ∈ lw_all := lw_g (lw_at lw_m1 56 rfl) rfl
theorem q74 : (Jvm.Cond.laysFinal "KeepTree" "KeepTree" "ancestor" "[I") ∈ lw_all := lw_g (lw_at lw_m1 57 rfl) rfl
theorem q75 : (Jvm.Cond.soleField "KeepTree" "ancestor") ∈ lw_all := lw_g (lw_at lw_m1 58 rfl) rfl
theorem q76 : (Jvm.Cond.laysFinal "KeepTree" "KeepTree" "label" "[I") ∈ lw_all := lw_g (lw_at lw_m1 59 rfl) rfl
theorem q77 : (Jvm.Cond.soleField "KeepTree" "label") ∈ lw_all := lw_g (lw_at lw_m1 60 rfl) rfl
theorem q78 : (Jvm.Cond.laysFinal "KeepTree" "KeepTree" "path" "[I") ∈ lw_all := lw_g (lw_at lw_m1 61 rfl) rfl
theorem q79 : (Jvm.Cond.soleField "KeepTree" "path") ∈ lw_all := lw_g (lw_at lw_m1 62 rfl) rfl
theorem q80 : (Jvm.Cond.laysFinal "KeepTree" "KeepTree" "bucketHead" "[I") ∈ lw_all := lw_g (lw_at lw_m1 63 rfl) rfl
theorem q81 : (Jvm.Cond.soleField "KeepTree" "bucketHead") ∈ lw_all := lw_g (lw_at lw_m1 64 rfl) rfl
theorem q82 : (Jvm.Cond.laysFinal "KeepTree" "KeepTree" "bucketNext" "[I") ∈ lw_all := lw_g (lw_at lw_m1 65 rfl) rfl
theorem q83 : (Jvm.Cond.soleField "KeepTree" "bucketNext") ∈ lw_all := lw_g (lw_at lw_m1 66 rfl) rfl
theorem q84 : (Jvm.Cond.laysFinal "KeepTree" "KeepTree" "keeperOf" "[I") ∈ lw_all := lw_g (lw_at lw_m1 67 rfl) rfl
theorem q85 : (Jvm.Cond.soleField "KeepTree" "keeperOf") ∈ lw_all := lw_g (lw_at lw_m1 68 rfl) rfl
theorem q86 : (Jvm.Cond.laysFinal "KeepTree" "KeepTree" "depthOf" "[I") ∈ lw_all := lw_g (lw_at lw_m1 69 rfl) rfl
theorem q87 : (Jvm.Cond.soleField "KeepTree" "depthOf") ∈ lw_all := lw_g (lw_at lw_m1 70 rfl) rfl
theorem q88 : (Jvm.Cond.laysFinal "KeepTree" "KeepTree" "heldBy" "[I") ∈ lw_all := lw_g (lw_at lw_m1 71 rfl) rfl
theorem q89 : (Jvm.Cond.soleField "KeepTree" "heldBy") ∈ lw_all := lw_g (lw_at lw_m1 72 rfl) rfl
theorem q90 : (Jvm.Cond.laysFinal "KeepTree" "KeepTree" "first" "[I") ∈ lw_all := lw_g (lw_at lw_m1 73 rfl) rfl
theorem q91 : (Jvm.Cond.soleField "KeepTree" "first") ∈ lw_all := lw_g (lw_at lw_m1 74 rfl) rfl
theorem q92 : (Jvm.Cond.laysFinal "KeepTree" "KeepTree" "last" "[I") ∈ lw_all := lw_g (lw_at lw_m1 75 rfl) rfl
theorem q93 : (Jvm.Cond.soleField "KeepTree" "last") ∈ lw_all := lw_g (lw_at lw_m1 76 rfl) rfl
theorem q94 : (Jvm.Cond.superclass "KeepTree" "java/lang/Object") ∈ lw_all := lw_g (lw_at lw_m1 77 rfl) rfl
theorem q97 : (Jvm.Cond.instanceMethod ({ cls := "KeepTree", name := "setSize", desc := "(II)I" } : Jvm.MethodName)) ∈ lw_all := lw_g (lw_at lw_m1 80 rfl) rfl
theorem q98 : (Jvm.Cond.selects "KeepTree" ({ cls := "KeepTree", name := "setSize", desc := "(II)I" } : Jvm.MethodName) ({ cls := "KeepTree", name := "setSize", desc := "(II)I" } : Jvm.MethodName)) ∈ lw_all := lw_g (lw_at lw_m1 81 rfl) rfl
theorem q99 : (Jvm.Cond.code ({ cls := "KeepTree", name := "setSize", desc := "(II)I" } : Jvm.MethodName) prog_1_method_2_code (4 : Nat) (Option.some Jvm.ClassFile.FieldType.int)) ∈ lw_all := lw_g (lw_at lw_m1 82 rfl) rfl
theorem q100 : (Jvm.Cond.methodLink "KeepTree" (67 : Nat) ({ cls := "KeepTree", name := "isObject", desc := "(I)Z" } : Jvm.MethodName)) ∈ lw_all := lw_g (lw_at lw_m1 83 rfl) rfl
theorem q101 : (Jvm.Cond.static ({ cls := "KeepTree", name := "isObject", desc := "(I)Z" } : Jvm.MethodName)) ∈ lw_all := lw_g (lw_at lw_m1 84 rfl) rfl
theorem q102 : (Jvm.Cond.code ({ cls := "KeepTree", name := "isObject", desc := "(I)Z" } : Jvm.MethodName) prog_1_method_13_code (1 : Nat) (Option.some Jvm.ClassFile.FieldType.boolean)) ∈ lw_all := lw_g (lw_at lw_m1 85 rfl) rfl
theorem q104 : (Jvm.Cond.instanceMethod ({ cls := "KeepTree", name := "flip", desc := "(II)I" } : Jvm.MethodName)) ∈ lw_all := lw_g (lw_at lw_m1 87 rfl) rfl
theorem q105 : (Jvm.Cond.selects "KeepTree" ({ cls := "KeepTree", name := "flip", desc := "(II)I" } : Jvm.MethodName) ({ cls := "KeepTree", name := "flip", desc := "(II)I" } : Jvm.MethodName)) ∈ lw_all := lw_g (lw_at lw_m1 88 rfl) rfl
theorem q106 : (Jvm.Cond.code ({ cls := "KeepTree", name := "flip", desc := "(II)I" } : Jvm.MethodName) prog_1_method_3_code (3 : Nat) (Option.some Jvm.ClassFile.FieldType.int)) ∈ lw_all := lw_g (lw_at lw_m1 89 rfl) rfl
theorem q108 : (Jvm.Cond.instanceMethod ({ cls := "KeepTree", name := "setRoot", desc := "(IZ)I" } : Jvm.MethodName)) ∈ lw_all := lw_g (lw_at lw_m1 91 rfl) rfl
theorem q109 : (Jvm.Cond.selects "KeepTree" ({ cls := "KeepTree", name := "setRoot", desc := "(IZ)I" } : Jvm.MethodName) ({ cls := "KeepTree", name := "setRoot", desc := "(IZ)I" } : Jvm.MethodName)) ∈ lw_all := lw_g (lw_at lw_m1 92 rfl) rfl
theorem q110 : (Jvm.Cond.code ({ cls := "KeepTree", name := "setRoot", desc := "(IZ)I" } : Jvm.MethodName) prog_1_method_4_code (4 : Nat) (Option.some Jvm.ClassFile.FieldType.int)) ∈ lw_all := lw_g (lw_at lw_m1 93 rfl) rfl
theorem q112 : (Jvm.Cond.instanceMethod ({ cls := "KeepTree", name := "alive", desc := "(I)I" } : Jvm.MethodName)) ∈ lw_all := lw_g (lw_at lw_m1 95 rfl) rfl
theorem q113 : (Jvm.Cond.selects "KeepTree" ({ cls := "KeepTree", name := "alive", desc := "(I)I" } : Jvm.MethodName) ({ cls := "KeepTree", name := "alive", desc := "(I)I" } : Jvm.MethodName)) ∈ lw_all := lw_g (lw_at lw_m1 96 rfl) rfl
theorem q114 : (Jvm.Cond.code ({ cls := "KeepTree", name := "alive", desc := "(I)I" } : Jvm.MethodName) prog_1_method_5_code (2 : Nat) (Option.some Jvm.ClassFile.FieldType.int)) ∈ lw_all := lw_g (lw_at lw_m1 97 rfl) rfl
theorem q115 : (Jvm.Cond.methodLink "KeepTree" (79 : Nat) ({ cls := "KeepTree", name := "prepare", desc := "()V" } : Jvm.MethodName)) ∈ lw_all := lw_g (lw_at lw_m1 98 rfl) rfl
theorem q116 : (Jvm.Cond.privateMethod ({ cls := "KeepTree", name := "prepare", desc := "()V" } : Jvm.MethodName)) ∈ lw_tbl := lw_at lw_m1 99 rfl
theorem q117 : (Jvm.Cond.instanceMethod ({ cls := "KeepTree", name := "prepare", desc := "()V" } : Jvm.MethodName)) ∈ lw_all := lw_g (lw_at lw_m1 100 rfl) rfl
theorem q118 : (Jvm.Cond.code ({ cls := "KeepTree", name := "prepare", desc := "()V" } : Jvm.MethodName) prog_1_method_16_code (1 : Nat) (Option.none : Option Jvm.ClassFile.FieldType)) ∈ lw_all := lw_g (lw_at lw_m1 101 rfl) rfl
theorem q119 : (Jvm.Cond.methodLink "KeepTree" (90 : Nat) ({ cls := "KeepTree", name := "numberVertices", desc := "()V" } : Jvm.MethodName)) ∈ lw_all := lw_g (lw_at lw_m1 102 rfl) rfl
theorem q120 : (Jvm.Cond.privateMethod ({ cls := "KeepTree", name := "numberVertices", desc := "()V" } : Jvm.MethodName)) ∈ lw_tbl := lw_at lw_m1 103 rfl
theorem q121 : (Jvm.Cond.instanceMethod ({ cls := "KeepTree", name := "numberVertices", desc := "()V" } : Jvm.MethodName)) ∈ lw_all := lw_g (lw_at lw_m1 104 rfl) rfl
theorem q122 : (Jvm.Cond.code ({ cls := "KeepTree", name := "numberVertices", desc := "()V" } : Jvm.MethodName) prog_1_method_17_code (5 : Nat) (Option.none : Option Jvm.ClassFile.FieldType)) ∈ lw_all := lw_g (lw_at lw_m1 105 rfl) rfl
theorem q123 : (Jvm.Cond.methodLink "KeepTree" (102 : Nat) ({ cls := "KeepTree", name := "visit", desc := "(I)V" } : Jvm.MethodName)) ∈ lw_all := lw_g (lw_at lw_m1 106 rfl) rfl
theorem q124 : (Jvm.Cond.privateMethod ({ cls := "KeepTree", name := "visit", desc := "(I)V" } : Jvm.MethodName)) ∈ lw_tbl := lw_at lw_m1 107 rfl
theorem q125 : (Jvm.Cond.instanceMethod ({ cls := "KeepTree", name := "visit", desc := "(I)V" } : Jvm.MethodName)) ∈ lw_all := lw_g (lw_at lw_m1 108 rfl) rfl
theorem q126 : (Jvm.Cond.code ({ cls := "KeepTree", name := "visit", desc := "(I)V" } : Jvm.MethodName) prog_1_method_18_code (2 : Nat) (Option.none : Option Jvm.ClassFile.FieldType)) ∈ lw_all := lw_g (lw_at lw_m1 109 rfl) rfl
theorem q127 : (Jvm.Cond.methodLink "KeepTree" (106 : Nat) ({ cls := "KeepTree", name := "lowestOf", desc := "(I)I" } : Jvm.MethodName)) ∈ lw_all := lw_g (lw_at lw_m1 110 rfl) rfl
theorem q128 : (Jvm.Cond.static ({ cls := "KeepTree", name := "lowestOf", desc := "(I)I" } : Jvm.MethodName)) ∈ lw_all := lw_g (lw_at lw_m1 111 rfl) rfl
theorem q129 : (Jvm.Cond.code ({ cls := "KeepTree", name := "lowestOf", desc := "(I)I" } : Jvm.MethodName) prog_1_method_19_code (2 : Nat) (Option.some Jvm.ClassFile.FieldType.int)) ∈ lw_all := lw_g (lw_at lw_m1 112 rfl) rfl
theorem q130 : (Jvm.Cond.methodLink "KeepTree" (93 : Nat) ({ cls := "KeepTree", name := "findDominators", desc := "()V" } : Jvm.MethodName)) ∈ lw_all := lw_g (lw_at lw_m1 113 rfl) rfl
theorem q131 : (Jvm.Cond.privateMethod ({ cls := "KeepTree", name := "findDominators", desc := "()V" } : Jvm.MethodName)) ∈ lw_tbl := lw_at lw_m1 114 rfl
theorem q132 : (Jvm.Cond.instanceMethod ({ cls := "KeepTree", name := "findDominators", desc := "()V" } : Jvm.MethodName)) ∈ lw_all := lw_g (lw_at lw_m1 115 rfl) rfl
theorem q133 : (Jvm.Cond.code ({ cls := "KeepTree", name := "findDominators", desc := "()V" } : Jvm.MethodName) prog_1_method_20_code (2 : Nat) (Option.none : Option Jvm.ClassFile.FieldType)) ∈ lw_all := lw_g (lw_at lw_m1 116 rfl) rfl
theorem q134 : (Jvm.Cond.methodLink "KeepTree" (109 : Nat) ({ cls := "KeepTree", name := "findSemi", desc := "(I)V" } : Jvm.MethodName)) ∈ lw_all := lw_g (lw_at lw_m1 117 rfl) rfl
theorem q135 : (Jvm.Cond.privateMethod ({ cls := "KeepTree", name := "findSemi", desc := "(I)V" } : Jvm.MethodName)) ∈ lw_tbl := lw_at lw_m1 118 rfl
theorem q136 : (Jvm.Cond.instanceMethod ({ cls := "KeepTree", name := "findSemi", desc := "(I)V" } : Jvm.MethodName)) ∈ lw_all := lw_g (lw_at lw_m1 119 rfl) rfl
theorem q137 : (Jvm.Cond.code ({ cls := "KeepTree", name := "findSemi", desc := "(I)V" } : Jvm.MethodName) prog_1_method_21_code (5 : Nat) (Option.none : Option Jvm.ClassFile.FieldType)) ∈ lw_all := lw_g (lw_at lw_m1 120 rfl) rfl
theorem q138 : (Jvm.Cond.methodLink "KeepTree" (115 : Nat) ({ cls := "KeepTree", name := "evaluate", desc := "(I)I" } : Jvm.MethodName)) ∈ lw_all := lw_g (lw_at lw_m1 121 rfl) rfl
theorem q139 : (Jvm.Cond.privateMethod ({ cls := "KeepTree", name := "evaluate", desc := "(I)I" } : Jvm.MethodName)) ∈ lw_tbl := lw_at lw_m1 122 rfl
theorem q140 : (Jvm.Cond.instanceMethod ({ cls := "KeepTree", name := "evaluate", desc := "(I)I" } : Jvm.MethodName)) ∈ lw_all := lw_g (lw_at lw_m1 123 rfl) rfl
theorem q141 : (Jvm.Cond.code ({ cls := "KeepTree", name := "evaluate", desc := "(I)I" } : Jvm.MethodName) prog_1_method_23_code (7 : Nat) (Option.some Jvm.ClassFile.FieldType.int)) ∈ lw_all := lw_g (lw_at lw_m1 124 rfl) rfl
theorem q142 : (Jvm.Cond.methodLink "KeepTree" (112 : Nat) ({ cls := "KeepTree", name := "emptyBucket", desc := "(I)V" } : Jvm.MethodName)) ∈ lw_all := lw_g (lw_at lw_m1 125 rfl) rfl
theorem q143 : (Jvm.Cond.privateMethod ({ cls := "KeepTree", name := "emptyBucket", desc := "(I)V" } : Jvm.MethodName)) ∈ lw_tbl := lw_at lw_m1 126 rfl
theorem q144 : (Jvm.Cond.instanceMethod ({ cls := "KeepTree", name := "emptyBucket", desc := "(I)V" } : Jvm.MethodName)) ∈ lw_all := lw_g (lw_at lw_m1 127 rfl) rfl
theorem q145 : (Jvm.Cond.code ({ cls := "KeepTree", name := "emptyBucket", desc := "(I)V" } : Jvm.MethodName) prog_1_method_22_code (5 : Nat) (Option.none : Option Jvm.ClassFile.FieldType)) ∈ lw_all := lw_g (lw_at lw_m1 128 rfl) rfl
theorem q146 : (Jvm.Cond.methodLink "KeepTree" (96 : Nat) ({ cls := "KeepTree", name := "layOutTree", desc := "()V" } : Jvm.MethodName)) ∈ lw_all := lw_g (lw_at lw_m1 129 rfl) rfl
theorem q147 : (Jvm.Cond.privateMethod ({ cls := "KeepTree", name := "layOutTree", desc := "()V" } : Jvm.MethodName)) ∈ lw_tbl := lw_at lw_m1 130 rfl
theorem q148 : (Jvm.Cond.instanceMethod ({ cls := "KeepTree", name := "layOutTree", desc := "()V" } : Jvm.MethodName)) ∈ lw_all := lw_g (lw_at lw_m1 131 rfl) rfl
theorem q149 : (Jvm.Cond.code ({ cls := "KeepTree", name := "layOutTree", desc := "()V" } : Jvm.MethodName) prog_1_method_24_code (4 : Nat) (Option.none : Option Jvm.ClassFile.FieldType)) ∈ lw_all := lw_g (lw_at lw_m1 132 rfl) rfl
theorem q150 : (Jvm.Cond.methodLink "KeepTree" (118 : Nat) ({ cls := "KeepTree", name := "walkTree", desc := "()V" } : Jvm.MethodName)) ∈ lw_all := lw_g (lw_at lw_m1 133 rfl) rfl
theorem q151 : (Jvm.Cond.privateMethod ({ cls := "KeepTree", name := "walkTree", desc := "()V" } : Jvm.MethodName)) ∈ lw_tbl := lw_at lw_m1 134 rfl
theorem q152 : (Jvm.Cond.instanceMethod ({ cls := "KeepTree", name := "walkTree", desc := "()V" } : Jvm.MethodName)) ∈ lw_all := lw_g (lw_at lw_m1 135 rfl) rfl
theorem q153 : (Jvm.Cond.code ({ cls := "KeepTree", name := "walkTree", desc := "()V" } : Jvm.MethodName) prog_1_method_25_code (6 : Nat) (Option.none : Option Jvm.ClassFile.FieldType)) ∈ lw_all := lw_g (lw_at lw_m1 136 rfl) rfl
theorem q155 : (Jvm.Cond.instanceMethod ({ cls := "KeepTree", name := "keeper", desc := "(I)I" } : Jvm.MethodName)) ∈ lw_all := lw_g (lw_at lw_m1 138 rfl) rfl
theorem q156 : (Jvm.Cond.selects "KeepTree" ({ cls := "KeepTree", name := "keeper", desc := "(I)I" } : Jvm.MethodName) ({ cls := "KeepTree", name := "keeper", desc := "(I)I" } : Jvm.MethodName)) ∈ lw_all := lw_g (lw_at lw_m1 139 rfl) rfl
theorem q157 : (Jvm.Cond.code ({ cls := "KeepTree", name := "keeper", desc := "(I)I" } : Jvm.MethodName) prog_1_method_6_code (2 : Nat) (Option.some Jvm.ClassFile.FieldType.int)) ∈ lw_all := lw_g (lw_at lw_m1 140 rfl) rfl
theorem q158 : (Jvm.Cond.methodLink "KeepTree" (82 : Nat) ({ cls := "KeepTree", name := "visible", desc := "(I)I" } : Jvm.MethodName)) ∈ lw_all := lw_g (lw_at lw_m1 141 rfl) rfl
theorem q159 : (Jvm.Cond.static ({ cls := "KeepTree", name := "visible", desc := "(I)I" } : Jvm.MethodName)) ∈ lw_all := lw_g (lw_at lw_m1 142 rfl) rfl
theorem q160 : (Jvm.Cond.code ({ cls := "KeepTree", name := "visible", desc := "(I)I" } : Jvm.MethodName) prog_1_method_14_code (1 : Nat) (Option.some Jvm.ClassFile.FieldType.int)) ∈ lw_all := lw_g (lw_at lw_m1 143 rfl) rfl
theorem q162 : (Jvm.Cond.instanceMethod ({ cls := "KeepTree", name := "held", desc := "(I)I" } : Jvm.MethodName)) ∈ lw_all := lw_g (lw_at lw_m1 145 rfl) rfl
theorem q163 : (Jvm.Cond.selects "KeepTree" ({ cls := "KeepTree", name := "held", desc := "(I)I" } : Jvm.MethodName) ({ cls := "KeepTree", name := "held", desc := "(I)I" } : Jvm.MethodName)) ∈ lw_all := lw_g (lw_at lw_m1 146 rfl) rfl
theorem q164 : (Jvm.Cond.code ({ cls := "KeepTree", name := "held", desc := "(I)I" } : Jvm.MethodName) prog_1_method_7_code (2 : Nat) (Option.some Jvm.ClassFile.FieldType.int)) ∈ lw_all := lw_g (lw_at lw_m1 147 rfl) rfl
theorem q166 : (Jvm.Cond.instanceMethod ({ cls := "KeepTree", name := "guards", desc := "(II)I" } : Jvm.MethodName)) ∈ lw_all := lw_g (lw_at lw_m1 149 rfl) rfl
theorem q167 : (Jvm.Cond.selects "KeepTree" ({ cls := "KeepTree", name := "guards", desc := "(II)I" } : Jvm.MethodName) ({ cls := "KeepTree", name := "guards", desc := "(II)I" } : Jvm.MethodName)) ∈ lw_all := lw_g (lw_at lw_m1 150 rfl) rfl
theorem q168 : (Jvm.Cond.code ({ cls := "KeepTree", name := "guards", desc := "(II)I" } : Jvm.MethodName) prog_1_method_8_code (3 : Nat) (Option.some Jvm.ClassFile.FieldType.int)) ∈ lw_all := lw_g (lw_at lw_m1 151 rfl) rfl
theorem q169 : (Jvm.Cond.methodLink "KeepTree" (86 : Nat) ({ cls := "KeepTree", name := "holds", desc := "(II)Z" } : Jvm.MethodName)) ∈ lw_all := lw_g (lw_at lw_m1 152 rfl) rfl
theorem q170 : (Jvm.Cond.privateMethod ({ cls := "KeepTree", name := "holds", desc := "(II)Z" } : Jvm.MethodName)) ∈ lw_tbl := lw_at lw_m1 153 rfl
theorem q171 : (Jvm.Cond.instanceMethod ({ cls := "KeepTree", name := "holds", desc := "(II)Z" } : Jvm.MethodName)) ∈ lw_all := lw_g (lw_at lw_m1 154 rfl) rfl
theorem q172 : (Jvm.Cond.code ({ cls := "KeepTree", name := "holds", desc := "(II)Z" } : Jvm.MethodName) prog_1_method_15_code (3 : Nat) (Option.some Jvm.ClassFile.FieldType.boolean)) ∈ lw_all := lw_g (lw_at lw_m1 155 rfl) rfl
theorem q174 : (Jvm.Cond.instanceMethod ({ cls := "KeepTree", name := "depth", desc := "(I)I" } : Jvm.MethodName)) ∈ lw_all := lw_g (lw_at lw_m1 157 rfl) rfl
theorem q175 : (Jvm.Cond.selects "KeepTree" ({ cls := "KeepTree", name := "depth", desc := "(I)I" } : Jvm.MethodName) ({ cls := "KeepTree", name := "depth", desc := "(I)I" } : Jvm.MethodName)) ∈ lw_all := lw_g (lw_at lw_m1 158 rfl) rfl
theorem q176 : (Jvm.Cond.code ({ cls := "KeepTree", name := "depth", desc := "(I)I" } : Jvm.MethodName) prog_1_method_9_code (2 : Nat) (Option.some Jvm.ClassFile.FieldType.int)) ∈ lw_all := lw_g (lw_at lw_m1 159 rfl) rfl
theorem q178 : (Jvm.Cond.instanceMethod ({ cls := "KeepTree", name := "common", desc := "(II)I" } : Jvm.MethodName)) ∈ lw_all := lw_g (lw_at lw_m1 161 rfl) rfl
theorem q179 : (Jvm.Cond.selects "KeepTree" ({ cls := "KeepTree", name := "common", desc := "(II)I" } : Jvm.MethodName) ({ cls := "KeepTree", name := "common", desc := "(II)I" } : Jvm.MethodName)) ∈ lw_all := lw_g (lw_at lw_m1 162 rfl) rfl
theorem q180 : (Jvm.Cond.code ({ cls := "KeepTree", name := "common", desc := "(II)I" } : Jvm.MethodName) prog_1_method_10_code (6 : Nat) (Option.some Jvm.ClassFile.FieldType.int)) ∈ lw_all := lw_g (lw_at lw_m1 163 rfl) rfl
theorem q182 : (Jvm.Cond.instanceMethod ({ cls := "KeepTree", name := "heaviest", desc := "()I" } : Jvm.MethodName)) ∈ lw_all := lw_g (lw_at lw_m1 165 rfl) rfl
theorem q183 : (Jvm.Cond.selects "KeepTree" ({ cls := "KeepTree", name := "heaviest", desc := "()I" } : Jvm.MethodName) ({ cls := "KeepTree", name := "heaviest", desc := "()I" } : Jvm.MethodName)) ∈ lw_all := lw_g (lw_at lw_m1 166 rfl) rfl
theorem q184 : (Jvm.Cond.code ({ cls := "KeepTree", name := "heaviest", desc := "()I" } : Jvm.MethodName) prog_1_method_11_code (3 : Nat) (Option.some Jvm.ClassFile.FieldType.int)) ∈ lw_all := lw_g (lw_at lw_m1 167 rfl) rfl
theorem q186 : (Jvm.Cond.instanceMethod ({ cls := "KeepTree", name := "total", desc := "()I" } : Jvm.MethodName)) ∈ lw_all := lw_g (lw_at lw_m1 169 rfl) rfl
theorem q187 : (Jvm.Cond.selects "KeepTree" ({ cls := "KeepTree", name := "total", desc := "()I" } : Jvm.MethodName) ({ cls := "KeepTree", name := "total", desc := "()I" } : Jvm.MethodName)) ∈ lw_all := lw_g (lw_at lw_m1 170 rfl) rfl
theorem q188 : (Jvm.Cond.code ({ cls := "KeepTree", name := "total", desc := "()I" } : Jvm.MethodName) prog_1_method_12_code (1 : Nat) (Option.some Jvm.ClassFile.FieldType.int)) ∈ lw_all := lw_g (lw_at lw_m1 171 rfl) rfl
theorem in_X0 : ∀ w ∈ wsX00, w ∈ lw_all := lw_in wsX00 [50, 52, 54, 56, 58, 60, 62, 64, 66, 68, 70, 72, 74, 76, 78, 80, 82, 84, 86, 88, 90, 92] (by decide +kernel) (by decide +kernel)

/-! KeepTreeModel -/
def RX1 : String := "KeepTreeModel"
def TX1 : u_T := fun k => match k with
  | 0 => ("KeepTreeModel", "size", "[I", true)
  | 1 => ("KeepTreeModel", "root", "[Z", true)
  | 2 => ("KeepTreeModel", "refers", "[Z", true)
  | 3 => ("KeepTreeModel", "found", "[Z", true)
  | _ => ("KeepTreeModel", "guard", "[Z", true)
def tyX1 : Nat → FieldType := fun k => match k with
  | 0 => .array .int
  | 1 => .array .boolean
  | 2 => .array .boolean
  | 3 => .array .boolean
  | _ => .array .boolean
abbrev wsX10 : List Cond := u_ws RX1 TX1 5
theorem nmX1 : ∀ a, a < 5 → ∀ b, b < 5 → a ≠ b → (TX1 a).2.1 ≠ (TX1 b).2.1 := by decide +kernel
theorem tyX1_ok : ∀ k, k < 5 → parseFieldDescriptor (TX1 k).2.2.1 = some (tyX1 k) := by decide +kernel
abbrev cX1_init : ByteArray := prog_3_method_1_code
def yX1_init : MethodName := ⟨RX1, "<init>", "()V"⟩
abbrev cX1_setSize : ByteArray := prog_3_method_3_code
def yX1_setSize : MethodName := ⟨RX1, "setSize", "(II)I"⟩
abbrev cX1_bad : ByteArray := prog_3_method_2_code
def yX1_bad : MethodName := ⟨RX1, "bad", "(I)Z"⟩
abbrev cX1_flip : ByteArray := prog_3_method_4_code
def yX1_flip : MethodName := ⟨RX1, "flip", "(II)I"⟩
abbrev cX1_setRoot : ByteArray := prog_3_method_5_code
def yX1_setRoot : MethodName := ⟨RX1, "setRoot", "(IZ)I"⟩
abbrev cX1_alive : ByteArray := prog_3_method_10_code
def yX1_alive : MethodName := ⟨RX1, "alive", "(I)I"⟩
abbrev cX1_isAlive : ByteArray := prog_3_method_7_code
def yX1_isAlive : MethodName := ⟨RX1, "isAlive", "(I)Z"⟩
abbrev cX1_find : ByteArray := prog_3_method_6_code
def yX1_find : MethodName := ⟨RX1, "find", "(I)V"⟩
abbrev cX1_keeper : ByteArray := prog_3_method_13_code
def yX1_keeper : MethodName := ⟨RX1, "keeper", "(I)I"⟩
abbrev cX1_gather : ByteArray := prog_3_method_9_code
def yX1_gather : MethodName := ⟨RX1, "gather", "()V"⟩
abbrev cX1_last : ByteArray := prog_3_method_12_code
def yX1_last : MethodName := ⟨RX1, "last", "(IIZ)I"⟩
abbrev cX1_both : ByteArray := prog_3_method_11_code
def yX1_both : MethodName := ⟨RX1, "both", "(IIIZ)Z"⟩
abbrev cX1_held : ByteArray := prog_3_method_15_code
def yX1_held : MethodName := ⟨RX1, "held", "(I)I"⟩
abbrev cX1_heldBy : ByteArray := prog_3_method_14_code
def yX1_heldBy : MethodName := ⟨RX1, "heldBy", "(I)I"⟩
abbrev cX1_guards : ByteArray := prog_3_method_16_code
def yX1_guards : MethodName := ⟨RX1, "guards", "(II)I"⟩
abbrev cX1_isGuard : ByteArray := prog_3_method_8_code
def yX1_isGuard : MethodName := ⟨RX1, "isGuard", "(II)Z"⟩
abbrev cX1_depth : ByteArray := prog_3_method_17_code
def yX1_depth : MethodName := ⟨RX1, "depth", "(I)I"⟩
abbrev cX1_common : ByteArray := prog_3_method_18_code
def yX1_common : MethodName := ⟨RX1, "common", "(II)I"⟩
abbrev cX1_heaviest : ByteArray := prog_3_method_19_code
def yX1_heaviest : MethodName := ⟨RX1, "heaviest", "()I"⟩
abbrev cX1_total : ByteArray := prog_3_method_20_code
def yX1_total : MethodName := ⟨RX1, "total", "()I"⟩
theorem q19 : (Jvm.Cond.initialized "KeepTreeModel") ∈ lw_all := lw_g (lw_at lw_m1 2 rfl) rfl
theorem q190 : (Jvm.Cond.instantiable "KeepTreeModel" (5 : Nat)) ∈ lw_all := lw_g (lw_at lw_m1 173 rfl) rfl
theorem q192 : (Jvm.Cond.instanceMethod ({ cls := "KeepTreeModel", name := "<init>", desc := "()V" } : Jvm.MethodName)) ∈ lw_all := lw_g (lw_at lw_m1 175 rfl) rfl
theorem q193 : (Jvm.Cond.code ({ cls := "KeepTreeModel", name := "<init>", desc := "()V" } : Jvm.MethodName) prog_3_method_1_code (1 : Nat) (Option.none : Option Jvm.ClassFile.FieldType)) ∈ lw_all := lw_g (lw_at lw_m1 176 rfl) rfl
theorem q194 : (Jvm.Cond.methodLink "KeepTreeModel" (1 : Nat) ({ cls := "java/lang/Object", name := "<init>", desc := "()V" } : Jvm.MethodName)) ∈ lw_all := lw_g (lw_at lw_m1 177 rfl) rfl
theorem q195 : (Jvm.Cond.fieldLink "KeepTreeModel" (7 : Nat) "KeepTreeModel" "size" "[I") ∈ lw_all := lw_g (lw_at lw_m1 178 rfl) rfl
theorem q196 : (Jvm.Cond.fieldLink "KeepTreeModel" (13 : Nat) "KeepTreeModel" "root" "[Z") ∈ lw_all := lw_g (lw_at lw_m1 179 rfl) rfl
theorem q197 : (Jvm.Cond.fieldLink "KeepTreeModel" (17 : Nat) "KeepTreeModel" "refers" "[Z") ∈ lw_all := lw_g (lw_at lw_m1 180 rfl) rfl
theorem q198 : (Jvm.Cond.fieldLink "KeepTreeModel" (20 : Nat) "KeepTreeModel" "found" "[Z") ∈ lw_all := lw_g (lw_at lw_m1 181 rfl) rfl
theorem q199 : (Jvm.Cond.fieldLink "KeepTreeModel" (23 : Nat) "KeepTreeModel" "guard" "[Z") ∈ lw_all := lw_g (lw_at lw_m1 182 rfl) rfl
theorem q200 : (Jvm.Cond.laysFinal "KeepTreeModel" "KeepTreeModel" "size" "[I") ∈ lw_all := lw_g (lw_at lw_m1 183 rfl) rfl
theorem q201 : (Jvm.Cond.soleField "KeepTreeModel" "size") ∈ lw_all := lw_g (lw_at lw_m1 184 rfl) rfl
theorem q202 : (Jvm.Cond.laysFinal "KeepTreeModel" "KeepTreeModel" "root" "[Z") ∈ lw_all := lw_g (lw_at lw_m1 185 rfl) rfl
theorem q203 : (Jvm.Cond.soleField "KeepTreeModel" "root") ∈ lw_all := lw_g (lw_at lw_m1 186 rfl) rfl
theorem q204 : (Jvm.Cond.laysFinal "KeepTreeModel" "KeepTreeModel" "refers" "[Z") ∈ lw_all := lw_g (lw_at lw_m1 187 rfl) rfl
theorem q205 : (Jvm.Cond.soleField "KeepTreeModel" "refers") ∈ lw_all := lw_g (lw_at lw_m1 188 rfl) rfl
theorem q206 : (Jvm.Cond.laysFinal "KeepTreeModel" "KeepTreeModel" "found" "[Z") ∈ lw_all := lw_g (lw_at lw_m1 189 rfl) rfl
theorem q207 : (Jvm.Cond.soleField "KeepTreeModel" "found") ∈ lw_all := lw_g (lw_at lw_m1 190 rfl) rfl
theorem q208 : (Jvm.Cond.laysFinal "KeepTreeModel" "KeepTreeModel" "guard" "[Z") ∈ lw_all := lw_g (lw_at lw_m1 191 rfl) rfl
theorem q209 : (Jvm.Cond.soleField "KeepTreeModel" "guard") ∈ lw_all := lw_g (lw_at lw_m1 192 rfl) rfl
theorem q210 : (Jvm.Cond.superclass "KeepTreeModel" "java/lang/Object") ∈ lw_all := lw_g (lw_at lw_m1 193 rfl) rfl
theorem q213 : (Jvm.Cond.instanceMethod ({ cls := "KeepTreeModel", name := "setSize", desc := "(II)I" } : Jvm.MethodName)) ∈ lw_all := lw_g (lw_at lw_m1 196 rfl) rfl
theorem q214 : (Jvm.Cond.selects "KeepTreeModel" ({ cls := "KeepTreeModel", name := "setSize", desc := "(II)I" } : Jvm.MethodName) ({ cls := "KeepTreeModel", name := "setSize", desc := "(II)I" } : Jvm.MethodName)) ∈ lw_all := lw_g (lw_at lw_m1 197 rfl) rfl
theorem q215 : (Jvm.Cond.code ({ cls := "KeepTreeModel", name := "setSize", desc := "(II)I" } : Jvm.MethodName) prog_3_method_3_code (4 : Nat) (Option.some Jvm.ClassFile.FieldType.int)) ∈ lw_all := lw_g (lw_at lw_m1 198 rfl) rfl
theorem q216 : (Jvm.Cond.methodLink "KeepTreeModel" (26 : Nat) ({ cls := "KeepTreeModel", name := "bad", desc := "(I)Z" } : Jvm.MethodName)) ∈ lw_all := lw_g (lw_at lw_m1 199 rfl) rfl
theorem q217 : (Jvm.Cond.static ({ cls := "KeepTreeModel", name := "bad", desc := "(I)Z" } : Jvm.MethodName)) ∈ lw_all := lw_g (lw_at lw_m1 200 rfl) rfl
theorem q218 : (Jvm.Cond.code ({ cls := "KeepTreeModel", name := "bad", desc := "(I)Z" } : Jvm.MethodName) prog_3_method_2_code (1 : Nat) (Option.some Jvm.ClassFile.FieldType.boolean)) ∈ lw_all := lw_g (lw_at lw_m1 201 rfl) rfl
theorem q220 : (Jvm.Cond.instanceMethod ({ cls := "KeepTreeModel", name := "flip", desc := "(II)I" } : Jvm.MethodName)) ∈ lw_all := lw_g (lw_at lw_m1 203 rfl) rfl
theorem q221 : (Jvm.Cond.selects "KeepTreeModel" ({ cls := "KeepTreeModel", name := "flip", desc := "(II)I" } : Jvm.MethodName) ({ cls := "KeepTreeModel", name := "flip", desc := "(II)I" } : Jvm.MethodName)) ∈ lw_all := lw_g (lw_at lw_m1 204 rfl) rfl
theorem q222 : (Jvm.Cond.code ({ cls := "KeepTreeModel", name := "flip", desc := "(II)I" } : Jvm.MethodName) prog_3_method_4_code (3 : Nat) (Option.some Jvm.ClassFile.FieldType.int)) ∈ lw_all := lw_g (lw_at lw_m1 205 rfl) rfl
theorem q224 : (Jvm.Cond.instanceMethod ({ cls := "KeepTreeModel", name := "setRoot", desc := "(IZ)I" } : Jvm.MethodName)) ∈ lw_all := lw_g (lw_at lw_m1 207 rfl) rfl
theorem q225 : (Jvm.Cond.selects "KeepTreeModel" ({ cls := "KeepTreeModel", name := "setRoot", desc := "(IZ)I" } : Jvm.MethodName) ({ cls := "KeepTreeModel", name := "setRoot", desc := "(IZ)I" } : Jvm.MethodName)) ∈ lw_all := lw_g (lw_at lw_m1 208 rfl) rfl
theorem q226 : (Jvm.Cond.code ({ cls := "KeepTreeModel", name := "setRoot", desc := "(IZ)I" } : Jvm.MethodName) prog_3_method_5_code (4 : Nat) (Option.some Jvm.ClassFile.FieldType.int)) ∈ lw_all := lw_g (lw_at lw_m1 209 rfl) rfl
theorem q228 : (Jvm.Cond.instanceMethod ({ cls := "KeepTreeModel", name := "alive", desc := "(I)I" } : Jvm.MethodName)) ∈ lw_all := lw_g (lw_at lw_m1 211 rfl) rfl
theorem q229 : (Jvm.Cond.selects "KeepTreeModel" ({ cls := "KeepTreeModel", name := "alive", desc := "(I)I" } : Jvm.MethodName) ({ cls := "KeepTreeModel", name := "alive", desc := "(I)I" } : Jvm.MethodName)) ∈ lw_all := lw_g (lw_at lw_m1 212 rfl) rfl
theorem q230 : (Jvm.Cond.code ({ cls := "KeepTreeModel", name := "alive", desc := "(I)I" } : Jvm.MethodName) prog_3_method_10_code (2 : Nat) (Option.some Jvm.ClassFile.FieldType.int)) ∈ lw_all := lw_g (lw_at lw_m1 213 rfl) rfl
theorem q231 : (Jvm.Cond.methodLink "KeepTreeModel" (34 : Nat) ({ cls := "KeepTreeModel", name := "isAlive", desc := "(I)Z" } : Jvm.MethodName)) ∈ lw_all := lw_g (lw_at lw_m1 214 rfl) rfl
theorem q232 : (Jvm.Cond.privateMethod ({ cls := "KeepTreeModel", name := "isAlive", desc := "(I)Z" } : Jvm.MethodName)) ∈ lw_tbl := lw_at lw_m1 215 rfl
theorem q233 : (Jvm.Cond.instanceMethod ({ cls := "KeepTreeModel", name := "isAlive", desc := "(I)Z" } : Jvm.MethodName)) ∈ lw_all := lw_g (lw_at lw_m1 216 rfl) rfl
theorem q234 : (Jvm.Cond.code ({ cls := "KeepTreeModel", name := "isAlive", desc := "(I)Z" } : Jvm.MethodName) prog_3_method_7_code (2 : Nat) (Option.some Jvm.ClassFile.FieldType.boolean)) ∈ lw_all := lw_g (lw_at lw_m1 217 rfl) rfl
theorem q235 : (Jvm.Cond.methodLink "KeepTreeModel" (30 : Nat) ({ cls := "KeepTreeModel", name := "find", desc := "(I)V" } : Jvm.MethodName)) ∈ lw_all := lw_g (lw_at lw_m1 218 rfl) rfl
theorem q236 : (Jvm.Cond.privateMethod ({ cls := "KeepTreeModel", name := "find", desc := "(I)V" } : Jvm.MethodName)) ∈ lw_tbl := lw_at lw_m1 219 rfl
theorem q237 : (Jvm.Cond.instanceMethod ({ cls := "KeepTreeModel", name := "find", desc := "(I)V" } : Jvm.MethodName)) ∈ lw_all := lw_g (lw_at lw_m1 220 rfl) rfl
theorem q238 : (Jvm.Cond.code ({ cls := "KeepTreeModel", name := "find", desc := "(I)V" } : Jvm.MethodName) prog_3_method_6_code (6 : Nat) (Option.none : Option Jvm.ClassFile.FieldType)) ∈ lw_all := lw_g (lw_at lw_m1 221 rfl) rfl
theorem q240 : (Jvm.Cond.instanceMethod ({ cls := "KeepTreeModel", name := "keeper", desc := "(I)I" } : Jvm.MethodName)) ∈ lw_all := lw_g (lw_at lw_m1 223 rfl) rfl
theorem q241 : (Jvm.Cond.selects "KeepTreeModel" ({ cls := "KeepTreeModel", name := "keeper", desc := "(I)I" } : Jvm.MethodName) ({ cls := "KeepTreeModel", name := "keeper", desc := "(I)I" } : Jvm.MethodName)) ∈ lw_all := lw_g (lw_at lw_m1 224 rfl) rfl
theorem q242 : (Jvm.Cond.code ({ cls := "KeepTreeModel", name := "keeper", desc := "(I)I" } : Jvm.MethodName) prog_3_method_13_code (2 : Nat) (Option.some Jvm.ClassFile.FieldType.int)) ∈ lw_all := lw_g (lw_at lw_m1 225 rfl) rfl
theorem q243 : (Jvm.Cond.methodLink "KeepTreeModel" (41 : Nat) ({ cls := "KeepTreeModel", name := "gather", desc := "()V" } : Jvm.MethodName)) ∈ lw_all := lw_g (lw_at lw_m1 226 rfl) rfl
theorem q244 : (Jvm.Cond.privateMethod ({ cls := "KeepTreeModel", name := "gather", desc := "()V" } : Jvm.MethodName)) ∈ lw_tbl := lw_at lw_m1 227 rfl
theorem q245 : (Jvm.Cond.instanceMethod ({ cls := "KeepTreeModel", name := "gather", desc := "()V" } : Jvm.MethodName)) ∈ lw_all := lw_g (lw_at lw_m1 228 rfl) rfl
theorem q246 : (Jvm.Cond.code ({ cls := "KeepTreeModel", name := "gather", desc := "()V" } : Jvm.MethodName) prog_3_method_9_code (3 : Nat) (Option.none : Option Jvm.ClassFile.FieldType)) ∈ lw_all := lw_g (lw_at lw_m1 229 rfl) rfl
theorem q247 : (Jvm.Cond.methodLink "KeepTreeModel" (44 : Nat) ({ cls := "KeepTreeModel", name := "last", desc := "(IIZ)I" } : Jvm.MethodName)) ∈ lw_all := lw_g (lw_at lw_m1 230 rfl) rfl
theorem q248 : (Jvm.Cond.privateMethod ({ cls := "KeepTreeModel", name := "last", desc := "(IIZ)I" } : Jvm.MethodName)) ∈ lw_tbl := lw_at lw_m1 231 rfl
theorem q249 : (Jvm.Cond.instanceMethod ({ cls := "KeepTreeModel", name := "last", desc := "(IIZ)I" } : Jvm.MethodName)) ∈ lw_all := lw_g (lw_at lw_m1 232 rfl) rfl
theorem q250 : (Jvm.Cond.code ({ cls := "KeepTreeModel", name := "last", desc := "(IIZ)I" } : Jvm.MethodName) prog_3_method_12_code (7 : Nat) (Option.some Jvm.ClassFile.FieldType.int)) ∈ lw_all := lw_g (lw_at lw_m1 233 rfl) rfl
theorem q251 : (Jvm.Cond.methodLink "KeepTreeModel" (37 : Nat) ({ cls := "KeepTreeModel", name := "both", desc := "(IIIZ)Z" } : Jvm.MethodName)) ∈ lw_all := lw_g (lw_at lw_m1 234 rfl) rfl
theorem q252 : (Jvm.Cond.privateMethod ({ cls := "KeepTreeModel", name := "both", desc := "(IIIZ)Z" } : Jvm.MethodName)) ∈ lw_tbl := lw_at lw_m1 235 rfl
theorem q253 : (Jvm.Cond.instanceMethod ({ cls := "KeepTreeModel", name := "both", desc := "(IIIZ)Z" } : Jvm.MethodName)) ∈ lw_all := lw_g (lw_at lw_m1 236 rfl) rfl
theorem q254 : (Jvm.Cond.code ({ cls := "KeepTreeModel", name := "both", desc := "(IIIZ)Z" } : Jvm.MethodName) prog_3_method_11_code (5 : Nat) (Option.some Jvm.ClassFile.FieldType.boolean)) ∈ lw_all := lw_g (lw_at lw_m1 237 rfl) rfl
theorem q256 : (Jvm.Cond.instanceMethod ({ cls := "KeepTreeModel", name := "held", desc := "(I)I" } : Jvm.MethodName)) ∈ lw_all := lw_g (lw_at lw_m1 239 rfl) rfl
theorem q257 : (Jvm.Cond.selects "KeepTreeModel" ({ cls := "KeepTreeModel", name := "held", desc := "(I)I" } : Jvm.MethodName) ({ cls := "KeepTreeModel", name := "held", desc := "(I)I" } : Jvm.MethodName)) ∈ lw_all := lw_g (lw_at lw_m2 0 rfl) rfl
theorem q258 : (Jvm.Cond.code ({ cls := "KeepTreeModel", name := "held", desc := "(I)I" } : Jvm.MethodName) prog_3_method_15_code (2 : Nat) (Option.some Jvm.ClassFile.FieldType.int)) ∈ lw_all := lw_g (lw_at lw_m2 1 rfl) rfl
theorem q259 : (Jvm.Cond.methodLink "KeepTreeModel" (48 : Nat) ({ cls := "KeepTreeModel", name := "heldBy", desc := "(I)I" } : Jvm.MethodName)) ∈ lw_all := lw_g (lw_at lw_m2 2 rfl) rfl
theorem q260 : (Jvm.Cond.privateMethod ({ cls := "KeepTreeModel", name := "heldBy", desc := "(I)I" } : Jvm.MethodName)) ∈ lw_tbl := lw_at lw_m2 3 rfl
theorem q261 : (Jvm.Cond.instanceMethod ({ cls := "KeepTreeModel", name := "heldBy", desc := "(I)I" } : Jvm.MethodName)) ∈ lw_all := lw_g (lw_at lw_m2 4 rfl) rfl
theorem q262 : (Jvm.Cond.code ({ cls := "KeepTreeModel", name := "heldBy", desc := "(I)I" } : Jvm.MethodName) prog_3_method_14_code (4 : Nat) (Option.some Jvm.ClassFile.FieldType.int)) ∈ lw_all := lw_g (lw_at lw_m2 5 rfl) rfl
theorem q264 : (Jvm.Cond.instanceMethod ({ cls := "KeepTreeModel", name := "guards", desc := "(II)I" } : Jvm.MethodName)) ∈ lw_all := lw_g (lw_at lw_m2 7 rfl) rfl
theorem q265 : (Jvm.Cond.selects "KeepTreeModel" ({ cls := "KeepTreeModel", name := "guards", desc := "(II)I" } : Jvm.MethodName) ({ cls := "KeepTreeModel", name := "guards", desc := "(II)I" } : Jvm.MethodName)) ∈ lw_all := lw_g (lw_at lw_m2 8 rfl) rfl
theorem q266 : (Jvm.Cond.code ({ cls := "KeepTreeModel", name := "guards", desc := "(II)I" } : Jvm.MethodName) prog_3_method_16_code (3 : Nat) (Option.some Jvm.ClassFile.FieldType.int)) ∈ lw_all := lw_g (lw_at lw_m2 9 rfl) rfl
theorem q267 : (Jvm.Cond.methodLink "KeepTreeModel" (52 : Nat) ({ cls := "KeepTreeModel", name := "isGuard", desc := "(II)Z" } : Jvm.MethodName)) ∈ lw_all := lw_g (lw_at lw_m2 10 rfl) rfl
theorem q268 : (Jvm.Cond.privateMethod ({ cls := "KeepTreeModel", name := "isGuard", desc := "(II)Z" } : Jvm.MethodName)) ∈ lw_tbl := lw_at lw_m2 11 rfl
theorem q269 : (Jvm.Cond.instanceMethod ({ cls := "KeepTreeModel", name := "isGuard", desc := "(II)Z" } : Jvm.MethodName)) ∈ lw_all := lw_g (lw_at lw_m2 12 rfl) rfl
theorem q270 : (Jvm.Cond.code ({ cls := "KeepTreeModel", name := "isGuard", desc := "(II)Z" } : Jvm.MethodName) prog_3_method_8_code (4 : Nat) (Option.some Jvm.ClassFile.FieldType.boolean)) ∈ lw_all := lw_g (lw_at lw_m2 13 rfl) rfl
theorem q272 : (Jvm.Cond.instanceMethod ({ cls := "KeepTreeModel", name := "depth", desc := "(I)I" } : Jvm.MethodName)) ∈ lw_all := lw_g (lw_at lw_m2 15 rfl) rfl
theorem q273 : (Jvm.Cond.selects "KeepTreeModel" ({ cls := "KeepTreeModel", name := "depth", desc := "(I)I" } : Jvm.MethodName) ({ cls := "KeepTreeModel", name := "depth", desc := "(I)I" } : Jvm.MethodName)) ∈ lw_all := lw_g (lw_at lw_m2 16 rfl) rfl
theorem q274 : (Jvm.Cond.code ({ cls := "KeepTreeModel", name := "depth", desc := "(I)I" } : Jvm.MethodName) prog_3_method_17_code (4 : Nat) (Option.some Jvm.ClassFile.FieldType.int)) ∈ lw_all := lw_g (lw_at lw_m2 17 rfl) rfl
theorem q276 : (Jvm.Cond.instanceMethod ({ cls := "KeepTreeModel", name := "common", desc := "(II)I" } : Jvm.MethodName)) ∈ lw_all := lw_g (lw_at lw_m2 19 rfl) rfl
theorem q277 : (Jvm.Cond.selects "KeepTreeModel" ({ cls := "KeepTreeModel", name := "common", desc := "(II)I" } : Jvm.MethodName) ({ cls := "KeepTreeModel", name := "common", desc := "(II)I" } : Jvm.MethodName)) ∈ lw_all := lw_g (lw_at lw_m2 20 rfl) rfl
theorem q278 : (Jvm.Cond.code ({ cls := "KeepTreeModel", name := "common", desc := "(II)I" } : Jvm.MethodName) prog_3_method_18_code (3 : Nat) (Option.some Jvm.ClassFile.FieldType.int)) ∈ lw_all := lw_g (lw_at lw_m2 21 rfl) rfl
theorem q280 : (Jvm.Cond.instanceMethod ({ cls := "KeepTreeModel", name := "heaviest", desc := "()I" } : Jvm.MethodName)) ∈ lw_all := lw_g (lw_at lw_m2 23 rfl) rfl
theorem q281 : (Jvm.Cond.selects "KeepTreeModel" ({ cls := "KeepTreeModel", name := "heaviest", desc := "()I" } : Jvm.MethodName) ({ cls := "KeepTreeModel", name := "heaviest", desc := "()I" } : Jvm.MethodName)) ∈ lw_all := lw_g (lw_at lw_m2 24 rfl) rfl
theorem q282 : (Jvm.Cond.code ({ cls := "KeepTreeModel", name := "heaviest", desc := "()I" } : Jvm.MethodName) prog_3_method_19_code (5 : Nat) (Option.some Jvm.ClassFile.FieldType.int)) ∈ lw_all := lw_g (lw_at lw_m2 25 rfl) rfl
theorem q284 : (Jvm.Cond.instanceMethod ({ cls := "KeepTreeModel", name := "total", desc := "()I" } : Jvm.MethodName)) ∈ lw_all := lw_g (lw_at lw_m2 27 rfl) rfl
theorem q285 : (Jvm.Cond.selects "KeepTreeModel" ({ cls := "KeepTreeModel", name := "total", desc := "()I" } : Jvm.MethodName) ({ cls := "KeepTreeModel", name := "total", desc := "()I" } : Jvm.MethodName)) ∈ lw_all := lw_g (lw_at lw_m2 28 rfl) rfl
theorem q286 : (Jvm.Cond.code ({ cls := "KeepTreeModel", name := "total", desc := "()I" } : Jvm.MethodName) prog_3_method_20_code (3 : Nat) (Option.some Jvm.ClassFile.FieldType.int)) ∈ lw_all := lw_g (lw_at lw_m2 29 rfl) rfl
theorem in_X1 : ∀ w ∈ wsX10, w ∈ lw_all := lw_in wsX10 [200, 202, 204, 206, 208] (by decide +kernel) (by decide +kernel)

/-! java/lang/Object -/
def RJ0 : String := "java/lang/Object"
abbrev cJ0_init : ByteArray := object_method_1_code
def yJ0_init : MethodName := ⟨RJ0, "<init>", "()V"⟩
theorem dJ0_init_0 : decode cJ0_init 0 = .ok (.return_, 1) := by decide +kernel
theorem q26 : (Jvm.Cond.instanceMethod ({ cls := "java/lang/Object", name := "<init>", desc := "()V" } : Jvm.MethodName)) ∈ lw_all := lw_g (lw_at lw_m1 9 rfl) rfl
theorem q27 : (Jvm.Cond.code ({ cls := "java/lang/Object", name := "<init>", desc := "()V" } : Jvm.MethodName) object_method_1_code (1 : Nat) (Option.none : Option Jvm.ClassFile.FieldType)) ∈ lw_all := lw_g (lw_at lw_m1 10 rfl) rfl

theorem q17 : (Jvm.Cond.initialized "KeepTreeLaw") ∈ lw_all := lw_g (lw_at lw_m1 0 rfl) rfl
theorem q20 : (Jvm.Cond.classLink "KeepTreeLaw" (7 : Nat) "KeepTree") ∈ lw_all := lw_g (lw_at lw_m1 3 rfl) rfl
theorem q22 : (Jvm.Cond.methodLink "KeepTreeLaw" (9 : Nat) ({ cls := "KeepTree", name := "<init>", desc := "()V" } : Jvm.MethodName)) ∈ lw_all := lw_g (lw_at lw_m1 5 rfl) rfl
theorem q96 : (Jvm.Cond.methodLink "KeepTreeLaw" (13 : Nat) ({ cls := "KeepTree", name := "setSize", desc := "(II)I" } : Jvm.MethodName)) ∈ lw_all := lw_g (lw_at lw_m1 79 rfl) rfl
theorem q103 : (Jvm.Cond.methodLink "KeepTreeLaw" (18 : Nat) ({ cls := "KeepTree", name := "flip", desc := "(II)I" } : Jvm.MethodName)) ∈ lw_all := lw_g (lw_at lw_m1 86 rfl) rfl
theorem q107 : (Jvm.Cond.methodLink "KeepTreeLaw" (22 : Nat) ({ cls := "KeepTree", name := "setRoot", desc := "(IZ)I" } : Jvm.MethodName)) ∈ lw_all := lw_g (lw_at lw_m1 90 rfl) rfl
theorem q111 : (Jvm.Cond.methodLink "KeepTreeLaw" (27 : Nat) ({ cls := "KeepTree", name := "alive", desc := "(I)I" } : Jvm.MethodName)) ∈ lw_all := lw_g (lw_at lw_m1 94 rfl) rfl
theorem q154 : (Jvm.Cond.methodLink "KeepTreeLaw" (32 : Nat) ({ cls := "KeepTree", name := "keeper", desc := "(I)I" } : Jvm.MethodName)) ∈ lw_all := lw_g (lw_at lw_m1 137 rfl) rfl
theorem q161 : (Jvm.Cond.methodLink "KeepTreeLaw" (36 : Nat) ({ cls := "KeepTree", name := "held", desc := "(I)I" } : Jvm.MethodName)) ∈ lw_all := lw_g (lw_at lw_m1 144 rfl) rfl
theorem q165 : (Jvm.Cond.methodLink "KeepTreeLaw" (40 : Nat) ({ cls := "KeepTree", name := "guards", desc := "(II)I" } : Jvm.MethodName)) ∈ lw_all := lw_g (lw_at lw_m1 148 rfl) rfl
theorem q173 : (Jvm.Cond.methodLink "KeepTreeLaw" (44 : Nat) ({ cls := "KeepTree", name := "depth", desc := "(I)I" } : Jvm.MethodName)) ∈ lw_all := lw_g (lw_at lw_m1 156 rfl) rfl
theorem q177 : (Jvm.Cond.methodLink "KeepTreeLaw" (48 : Nat) ({ cls := "KeepTree", name := "common", desc := "(II)I" } : Jvm.MethodName)) ∈ lw_all := lw_g (lw_at lw_m1 160 rfl) rfl
theorem q181 : (Jvm.Cond.methodLink "KeepTreeLaw" (52 : Nat) ({ cls := "KeepTree", name := "heaviest", desc := "()I" } : Jvm.MethodName)) ∈ lw_all := lw_g (lw_at lw_m1 164 rfl) rfl
theorem q185 : (Jvm.Cond.methodLink "KeepTreeLaw" (57 : Nat) ({ cls := "KeepTree", name := "total", desc := "()I" } : Jvm.MethodName)) ∈ lw_all := lw_g (lw_at lw_m1 168 rfl) rfl
theorem q189 : (Jvm.Cond.classLink "KeepTreeLaw" (10 : Nat) "KeepTreeModel") ∈ lw_all := lw_g (lw_at lw_m1 172 rfl) rfl
theorem q191 : (Jvm.Cond.methodLink "KeepTreeLaw" (12 : Nat) ({ cls := "KeepTreeModel", name := "<init>", desc := "()V" } : Jvm.MethodName)) ∈ lw_all := lw_g (lw_at lw_m1 174 rfl) rfl
theorem q212 : (Jvm.Cond.methodLink "KeepTreeLaw" (17 : Nat) ({ cls := "KeepTreeModel", name := "setSize", desc := "(II)I" } : Jvm.MethodName)) ∈ lw_all := lw_g (lw_at lw_m1 195 rfl) rfl
theorem q219 : (Jvm.Cond.methodLink "KeepTreeLaw" (21 : Nat) ({ cls := "KeepTreeModel", name := "flip", desc := "(II)I" } : Jvm.MethodName)) ∈ lw_all := lw_g (lw_at lw_m1 202 rfl) rfl
theorem q223 : (Jvm.Cond.methodLink "KeepTreeLaw" (26 : Nat) ({ cls := "KeepTreeModel", name := "setRoot", desc := "(IZ)I" } : Jvm.MethodName)) ∈ lw_all := lw_g (lw_at lw_m1 206 rfl) rfl
theorem q227 : (Jvm.Cond.methodLink "KeepTreeLaw" (31 : Nat) ({ cls := "KeepTreeModel", name := "alive", desc := "(I)I" } : Jvm.MethodName)) ∈ lw_all := lw_g (lw_at lw_m1 210 rfl) rfl
theorem q239 : (Jvm.Cond.methodLink "KeepTreeLaw" (35 : Nat) ({ cls := "KeepTreeModel", name := "keeper", desc := "(I)I" } : Jvm.MethodName)) ∈ lw_all := lw_g (lw_at lw_m1 222 rfl) rfl
theorem q255 : (Jvm.Cond.methodLink "KeepTreeLaw" (39 : Nat) ({ cls := "KeepTreeModel", name := "held", desc := "(I)I" } : Jvm.MethodName)) ∈ lw_all := lw_g (lw_at lw_m1 238 rfl) rfl
theorem q263 : (Jvm.Cond.methodLink "KeepTreeLaw" (43 : Nat) ({ cls := "KeepTreeModel", name := "guards", desc := "(II)I" } : Jvm.MethodName)) ∈ lw_all := lw_g (lw_at lw_m2 6 rfl) rfl
theorem q271 : (Jvm.Cond.methodLink "KeepTreeLaw" (47 : Nat) ({ cls := "KeepTreeModel", name := "depth", desc := "(I)I" } : Jvm.MethodName)) ∈ lw_all := lw_g (lw_at lw_m2 14 rfl) rfl
theorem q275 : (Jvm.Cond.methodLink "KeepTreeLaw" (51 : Nat) ({ cls := "KeepTreeModel", name := "common", desc := "(II)I" } : Jvm.MethodName)) ∈ lw_all := lw_g (lw_at lw_m2 18 rfl) rfl
theorem q279 : (Jvm.Cond.methodLink "KeepTreeLaw" (56 : Nat) ({ cls := "KeepTreeModel", name := "heaviest", desc := "()I" } : Jvm.MethodName)) ∈ lw_all := lw_g (lw_at lw_m2 22 rfl) rfl
theorem q283 : (Jvm.Cond.methodLink "KeepTreeLaw" (60 : Nat) ({ cls := "KeepTreeModel", name := "total", desc := "()I" } : Jvm.MethodName)) ∈ lw_all := lw_g (lw_at lw_m2 26 rfl) rfl

theorem q95 : (Jvm.Cond.arrayClass Jvm.ClassFile.FieldType.int) ∈ lw_all := lw_g (lw_at lw_m1 78 rfl) rfl
theorem q211 : (Jvm.Cond.arrayClass Jvm.ClassFile.FieldType.boolean) ∈ lw_all := lw_g (lw_at lw_m1 194 rfl) rfl

/-! the law's own entry -/
abbrev cL_law : ByteArray := code
end
section
set_option maxRecDepth 100000
theorem dX1_init_0 : decode cX1_init 0 = .ok (.aload_n 0, 1) := by decide +kernel
theorem dX1_init_1 : decode cX1_init 1 = .ok (.invokespecial 1, 3) := by decide +kernel
theorem dX1_init_4 : decode cX1_init 4 = .ok (.aload_n 0, 1) := by decide +kernel
theorem dX1_init_5 : decode cX1_init 5 = .ok (.bipush 16, 2) := by decide +kernel
theorem dX1_init_7 : decode cX1_init 7 = .ok (.newarray .int, 2) := by decide +kernel
theorem dX1_init_9 : decode cX1_init 9 = .ok (.putfield 7, 3) := by decide +kernel
theorem dX1_init_12 : decode cX1_init 12 = .ok (.aload_n 0, 1) := by decide +kernel
theorem dX1_init_13 : decode cX1_init 13 = .ok (.bipush 16, 2) := by decide +kernel
theorem dX1_init_15 : decode cX1_init 15 = .ok (.newarray .boolean, 2) := by decide +kernel
theorem dX1_init_17 : decode cX1_init 17 = .ok (.putfield 13, 3) := by decide +kernel
theorem dX1_init_20 : decode cX1_init 20 = .ok (.aload_n 0, 1) := by decide +kernel
theorem dX1_init_21 : decode cX1_init 21 = .ok (.sipush 256, 3) := by decide +kernel
theorem dX1_init_24 : decode cX1_init 24 = .ok (.newarray .boolean, 2) := by decide +kernel
theorem dX1_init_26 : decode cX1_init 26 = .ok (.putfield 17, 3) := by decide +kernel
theorem dX1_init_29 : decode cX1_init 29 = .ok (.aload_n 0, 1) := by decide +kernel
theorem dX1_init_30 : decode cX1_init 30 = .ok (.bipush 16, 2) := by decide +kernel
theorem dX1_init_32 : decode cX1_init 32 = .ok (.newarray .boolean, 2) := by decide +kernel
theorem dX1_init_34 : decode cX1_init 34 = .ok (.putfield 20, 3) := by decide +kernel
theorem dX1_init_37 : decode cX1_init 37 = .ok (.aload_n 0, 1) := by decide +kernel
theorem dX1_init_38 : decode cX1_init 38 = .ok (.sipush 256, 3) := by decide +kernel
theorem dX1_init_41 : decode cX1_init 41 = .ok (.newarray .boolean, 2) := by decide +kernel
theorem dX1_init_43 : decode cX1_init 43 = .ok (.putfield 23, 3) := by decide +kernel
theorem dX1_init_46 : decode cX1_init 46 = .ok (.return_, 1) := by decide +kernel
theorem dX1_setSize_0 : decode cX1_setSize 0 = .ok (.iload_n 1, 1) := by decide +kernel
theorem dX1_setSize_1 : decode cX1_setSize 1 = .ok (.invokestatic 26, 3) := by decide +kernel
theorem dX1_setSize_4 : decode cX1_setSize 4 = .ok (.ifCond .eq 6, 3) := by decide +kernel
theorem dX1_setSize_7 : decode cX1_setSize 7 = .ok (.bipush (-2), 2) := by decide +kernel
theorem dX1_setSize_9 : decode cX1_setSize 9 = .ok (.ireturn, 1) := by decide +kernel
theorem dX1_setSize_10 : decode cX1_setSize 10 = .ok (.aload_n 0, 1) := by decide +kernel
theorem dX1_setSize_11 : decode cX1_setSize 11 = .ok (.getfield 7, 3) := by decide +kernel
theorem dX1_setSize_14 : decode cX1_setSize 14 = .ok (.iload_n 1, 1) := by decide +kernel
theorem dX1_setSize_15 : decode cX1_setSize 15 = .ok (.iaload, 1) := by decide +kernel
theorem dX1_setSize_16 : decode cX1_setSize 16 = .ok (.istore_n 3, 1) := by decide +kernel
theorem dX1_setSize_17 : decode cX1_setSize 17 = .ok (.aload_n 0, 1) := by decide +kernel
theorem dX1_setSize_18 : decode cX1_setSize 18 = .ok (.getfield 7, 3) := by decide +kernel
theorem dX1_setSize_21 : decode cX1_setSize 21 = .ok (.iload_n 1, 1) := by decide +kernel
theorem dX1_setSize_22 : decode cX1_setSize 22 = .ok (.iload_n 2, 1) := by decide +kernel
theorem dX1_setSize_23 : decode cX1_setSize 23 = .ok (.ifCond .ge 7, 3) := by decide +kernel
theorem dX1_setSize_26 : decode cX1_setSize 26 = .ok (.iconst 0, 1) := by decide +kernel
theorem dX1_setSize_27 : decode cX1_setSize 27 = .ok (.goto 17, 3) := by decide +kernel
theorem dX1_setSize_30 : decode cX1_setSize 30 = .ok (.iload_n 2, 1) := by decide +kernel
theorem dX1_setSize_31 : decode cX1_setSize 31 = .ok (.sipush 1000, 3) := by decide +kernel
theorem dX1_setSize_34 : decode cX1_setSize 34 = .ok (.if_icmp .le 9, 3) := by decide +kernel
theorem dX1_setSize_37 : decode cX1_setSize 37 = .ok (.sipush 1000, 3) := by decide +kernel
theorem dX1_setSize_40 : decode cX1_setSize 40 = .ok (.goto 4, 3) := by decide +kernel
theorem dX1_setSize_43 : decode cX1_setSize 43 = .ok (.iload_n 2, 1) := by decide +kernel
theorem dX1_setSize_44 : decode cX1_setSize 44 = .ok (.iastore, 1) := by decide +kernel
theorem dX1_setSize_45 : decode cX1_setSize 45 = .ok (.iload_n 3, 1) := by decide +kernel
theorem dX1_setSize_46 : decode cX1_setSize 46 = .ok (.ireturn, 1) := by decide +kernel
theorem dX1_bad_0 : decode cX1_bad 0 = .ok (.iload_n 0, 1) := by decide +kernel
theorem dX1_bad_1 : decode cX1_bad 1 = .ok (.ifCond .lt 9, 3) := by decide +kernel
theorem dX1_bad_4 : decode cX1_bad 4 = .ok (.iload_n 0, 1) := by decide +kernel
theorem dX1_bad_5 : decode cX1_bad 5 = .ok (.bipush 15, 2) := by decide +kernel
theorem dX1_bad_7 : decode cX1_bad 7 = .ok (.if_icmp .le 7, 3) := by decide +kernel
theorem dX1_bad_10 : decode cX1_bad 10 = .ok (.iconst 1, 1) := by decide +kernel
theorem dX1_bad_11 : decode cX1_bad 11 = .ok (.goto 4, 3) := by decide +kernel
theorem dX1_bad_14 : decode cX1_bad 14 = .ok (.iconst 0, 1) := by decide +kernel
theorem dX1_bad_15 : decode cX1_bad 15 = .ok (.ireturn, 1) := by decide +kernel
theorem dX1_flip_0 : decode cX1_flip 0 = .ok (.iload_n 1, 1) := by decide +kernel
theorem dX1_flip_1 : decode cX1_flip 1 = .ok (.invokestatic 26, 3) := by decide +kernel
theorem dX1_flip_4 : decode cX1_flip 4 = .ok (.ifCond .ne 10, 3) := by decide +kernel
theorem dX1_flip_7 : decode cX1_flip 7 = .ok (.iload_n 2, 1) := by decide +kernel
theorem dX1_flip_8 : decode cX1_flip 8 = .ok (.invokestatic 26, 3) := by decide +kernel
theorem dX1_flip_11 : decode cX1_flip 11 = .ok (.ifCond .eq 6, 3) := by decide +kernel
theorem dX1_flip_14 : decode cX1_flip 14 = .ok (.bipush (-2), 2) := by decide +kernel
theorem dX1_flip_16 : decode cX1_flip 16 = .ok (.ireturn, 1) := by decide +kernel
theorem dX1_flip_17 : decode cX1_flip 17 = .ok (.aload_n 0, 1) := by decide +kernel
theorem dX1_flip_18 : decode cX1_flip 18 = .ok (.getfield 17, 3) := by decide +kernel
theorem dX1_flip_21 : decode cX1_flip 21 = .ok (.bipush 16, 2) := by decide +kernel
theorem dX1_flip_23 : decode cX1_flip 23 = .ok (.iload_n 1, 1) := by decide +kernel
theorem dX1_flip_24 : decode cX1_flip 24 = .ok (.imul, 1) := by decide +kernel
theorem dX1_flip_25 : decode cX1_flip 25 = .ok (.iload_n 2, 1) := by decide +kernel
theorem dX1_flip_26 : decode cX1_flip 26 = .ok (.iadd, 1) := by decide +kernel
theorem dX1_flip_27 : decode cX1_flip 27 = .ok (.aload_n 0, 1) := by decide +kernel
theorem dX1_flip_28 : decode cX1_flip 28 = .ok (.getfield 17, 3) := by decide +kernel
theorem dX1_flip_31 : decode cX1_flip 31 = .ok (.bipush 16, 2) := by decide +kernel
theorem dX1_flip_33 : decode cX1_flip 33 = .ok (.iload_n 1, 1) := by decide +kernel
theorem dX1_flip_34 : decode cX1_flip 34 = .ok (.imul, 1) := by decide +kernel
theorem dX1_flip_35 : decode cX1_flip 35 = .ok (.iload_n 2, 1) := by decide +kernel
theorem dX1_flip_36 : decode cX1_flip 36 = .ok (.iadd, 1) := by decide +kernel
theorem dX1_flip_37 : decode cX1_flip 37 = .ok (.baload, 1) := by decide +kernel
theorem dX1_flip_38 : decode cX1_flip 38 = .ok (.ifCond .ne 7, 3) := by decide +kernel
theorem dX1_flip_41 : decode cX1_flip 41 = .ok (.iconst 1, 1) := by decide +kernel
theorem dX1_flip_42 : decode cX1_flip 42 = .ok (.goto 4, 3) := by decide +kernel
theorem dX1_flip_45 : decode cX1_flip 45 = .ok (.iconst 0, 1) := by decide +kernel
theorem dX1_flip_46 : decode cX1_flip 46 = .ok (.bastore, 1) := by decide +kernel
theorem dX1_flip_47 : decode cX1_flip 47 = .ok (.aload_n 0, 1) := by decide +kernel
theorem dX1_flip_48 : decode cX1_flip 48 = .ok (.getfield 17, 3) := by decide +kernel
theorem dX1_flip_51 : decode cX1_flip 51 = .ok (.bipush 16, 2) := by decide +kernel
theorem dX1_flip_53 : decode cX1_flip 53 = .ok (.iload_n 1, 1) := by decide +kernel
theorem dX1_flip_54 : decode cX1_flip 54 = .ok (.imul, 1) := by decide +kernel
theorem dX1_flip_55 : decode cX1_flip 55 = .ok (.iload_n 2, 1) := by decide +kernel
theorem dX1_flip_56 : decode cX1_flip 56 = .ok (.iadd, 1) := by decide +kernel
theorem dX1_flip_57 : decode cX1_flip 57 = .ok (.baload, 1) := by decide +kernel
theorem dX1_flip_58 : decode cX1_flip 58 = .ok (.ifCond .eq 7, 3) := by decide +kernel
theorem dX1_flip_61 : decode cX1_flip 61 = .ok (.iconst 1, 1) := by decide +kernel
theorem dX1_flip_62 : decode cX1_flip 62 = .ok (.goto 4, 3) := by decide +kernel
theorem dX1_flip_65 : decode cX1_flip 65 = .ok (.iconst 0, 1) := by decide +kernel
theorem dX1_flip_66 : decode cX1_flip 66 = .ok (.ireturn, 1) := by decide +kernel
theorem dX1_setRoot_0 : decode cX1_setRoot 0 = .ok (.iload_n 1, 1) := by decide +kernel
theorem dX1_setRoot_1 : decode cX1_setRoot 1 = .ok (.invokestatic 26, 3) := by decide +kernel
theorem dX1_setRoot_4 : decode cX1_setRoot 4 = .ok (.ifCond .eq 6, 3) := by decide +kernel
theorem dX1_setRoot_7 : decode cX1_setRoot 7 = .ok (.bipush (-2), 2) := by decide +kernel
theorem dX1_setRoot_9 : decode cX1_setRoot 9 = .ok (.ireturn, 1) := by decide +kernel
theorem dX1_setRoot_10 : decode cX1_setRoot 10 = .ok (.aload_n 0, 1) := by decide +kernel
theorem dX1_setRoot_11 : decode cX1_setRoot 11 = .ok (.getfield 13, 3) := by decide +kernel
theorem dX1_setRoot_14 : decode cX1_setRoot 14 = .ok (.iload_n 1, 1) := by decide +kernel
theorem dX1_setRoot_15 : decode cX1_setRoot 15 = .ok (.baload, 1) := by decide +kernel
theorem dX1_setRoot_16 : decode cX1_setRoot 16 = .ok (.ifCond .eq 7, 3) := by decide +kernel
theorem dX1_setRoot_19 : decode cX1_setRoot 19 = .ok (.iconst 1, 1) := by decide +kernel
theorem dX1_setRoot_20 : decode cX1_setRoot 20 = .ok (.goto 4, 3) := by decide +kernel
theorem dX1_setRoot_23 : decode cX1_setRoot 23 = .ok (.iconst 0, 1) := by decide +kernel
theorem dX1_setRoot_24 : decode cX1_setRoot 24 = .ok (.istore_n 3, 1) := by decide +kernel
theorem dX1_setRoot_25 : decode cX1_setRoot 25 = .ok (.aload_n 0, 1) := by decide +kernel
theorem dX1_setRoot_26 : decode cX1_setRoot 26 = .ok (.getfield 13, 3) := by decide +kernel
theorem dX1_setRoot_29 : decode cX1_setRoot 29 = .ok (.iload_n 1, 1) := by decide +kernel
theorem dX1_setRoot_30 : decode cX1_setRoot 30 = .ok (.iload_n 2, 1) := by decide +kernel
theorem dX1_setRoot_31 : decode cX1_setRoot 31 = .ok (.bastore, 1) := by decide +kernel
theorem dX1_setRoot_32 : decode cX1_setRoot 32 = .ok (.iload_n 3, 1) := by decide +kernel
theorem dX1_setRoot_33 : decode cX1_setRoot 33 = .ok (.ireturn, 1) := by decide +kernel
theorem dX1_alive_0 : decode cX1_alive 0 = .ok (.iload_n 1, 1) := by decide +kernel
theorem dX1_alive_1 : decode cX1_alive 1 = .ok (.invokestatic 26, 3) := by decide +kernel
theorem dX1_alive_4 : decode cX1_alive 4 = .ok (.ifCond .eq 6, 3) := by decide +kernel
theorem dX1_alive_7 : decode cX1_alive 7 = .ok (.bipush (-2), 2) := by decide +kernel
theorem dX1_alive_9 : decode cX1_alive 9 = .ok (.ireturn, 1) := by decide +kernel
theorem dX1_alive_10 : decode cX1_alive 10 = .ok (.aload_n 0, 1) := by decide +kernel
theorem dX1_alive_11 : decode cX1_alive 11 = .ok (.iload_n 1, 1) := by decide +kernel
theorem dX1_alive_12 : decode cX1_alive 12 = .ok (.invokevirtual 34, 3) := by decide +kernel
theorem dX1_alive_15 : decode cX1_alive 15 = .ok (.ifCond .eq 7, 3) := by decide +kernel
theorem dX1_alive_18 : decode cX1_alive 18 = .ok (.iconst 1, 1) := by decide +kernel
theorem dX1_alive_19 : decode cX1_alive 19 = .ok (.goto 4, 3) := by decide +kernel
theorem dX1_alive_22 : decode cX1_alive 22 = .ok (.iconst 0, 1) := by decide +kernel
theorem dX1_alive_23 : decode cX1_alive 23 = .ok (.ireturn, 1) := by decide +kernel
theorem dX1_isAlive_0 : decode cX1_isAlive 0 = .ok (.aload_n 0, 1) := by decide +kernel
theorem dX1_isAlive_1 : decode cX1_isAlive 1 = .ok (.iconst (-1), 1) := by decide +kernel
theorem dX1_isAlive_2 : decode cX1_isAlive 2 = .ok (.invokevirtual 30, 3) := by decide +kernel
theorem dX1_isAlive_5 : decode cX1_isAlive 5 = .ok (.aload_n 0, 1) := by decide +kernel
theorem dX1_isAlive_6 : decode cX1_isAlive 6 = .ok (.getfield 20, 3) := by decide +kernel
theorem dX1_isAlive_9 : decode cX1_isAlive 9 = .ok (.iload_n 1, 1) := by decide +kernel
theorem dX1_isAlive_10 : decode cX1_isAlive 10 = .ok (.baload, 1) := by decide +kernel
theorem dX1_isAlive_11 : decode cX1_isAlive 11 = .ok (.ireturn, 1) := by decide +kernel
theorem dX1_find_0 : decode cX1_find 0 = .ok (.iconst 0, 1) := by decide +kernel
theorem dX1_find_1 : decode cX1_find 1 = .ok (.istore_n 2, 1) := by decide +kernel
theorem dX1_find_2 : decode cX1_find 2 = .ok (.iload_n 2, 1) := by decide +kernel
theorem dX1_find_3 : decode cX1_find 3 = .ok (.bipush 16, 2) := by decide +kernel
theorem dX1_find_5 : decode cX1_find 5 = .ok (.if_icmp .ge 34, 3) := by decide +kernel
theorem dX1_find_8 : decode cX1_find 8 = .ok (.aload_n 0, 1) := by decide +kernel
theorem dX1_find_9 : decode cX1_find 9 = .ok (.getfield 20, 3) := by decide +kernel
theorem dX1_find_12 : decode cX1_find 12 = .ok (.iload_n 2, 1) := by decide +kernel
theorem dX1_find_13 : decode cX1_find 13 = .ok (.aload_n 0, 1) := by decide +kernel
theorem dX1_find_14 : decode cX1_find 14 = .ok (.getfield 13, 3) := by decide +kernel
theorem dX1_find_17 : decode cX1_find 17 = .ok (.iload_n 2, 1) := by decide +kernel
theorem dX1_find_18 : decode cX1_find 18 = .ok (.baload, 1) := by decide +kernel
theorem dX1_find_19 : decode cX1_find 19 = .ok (.ifCond .eq 12, 3) := by decide +kernel
theorem dX1_find_22 : decode cX1_find 22 = .ok (.iload_n 2, 1) := by decide +kernel
theorem dX1_find_23 : decode cX1_find 23 = .ok (.iload_n 1, 1) := by decide +kernel
theorem dX1_find_24 : decode cX1_find 24 = .ok (.if_icmp .eq 7, 3) := by decide +kernel
theorem dX1_find_27 : decode cX1_find 27 = .ok (.iconst 1, 1) := by decide +kernel
theorem dX1_find_28 : decode cX1_find 28 = .ok (.goto 4, 3) := by decide +kernel
theorem dX1_find_31 : decode cX1_find 31 = .ok (.iconst 0, 1) := by decide +kernel
theorem dX1_find_32 : decode cX1_find 32 = .ok (.bastore, 1) := by decide +kernel
theorem dX1_find_33 : decode cX1_find 33 = .ok (.iinc 2 1, 3) := by decide +kernel
theorem dX1_find_36 : decode cX1_find 36 = .ok (.goto (-34), 3) := by decide +kernel
theorem dX1_find_39 : decode cX1_find 39 = .ok (.iconst 1, 1) := by decide +kernel
theorem dX1_find_40 : decode cX1_find 40 = .ok (.istore_n 2, 1) := by decide +kernel
theorem dX1_find_41 : decode cX1_find 41 = .ok (.iconst 0, 1) := by decide +kernel
theorem dX1_find_42 : decode cX1_find 42 = .ok (.istore_n 3, 1) := by decide +kernel
theorem dX1_find_43 : decode cX1_find 43 = .ok (.iload_n 3, 1) := by decide +kernel
theorem dX1_find_44 : decode cX1_find 44 = .ok (.bipush 16, 2) := by decide +kernel
theorem dX1_find_46 : decode cX1_find 46 = .ok (.if_icmp .ge 88, 3) := by decide +kernel
theorem dX1_find_49 : decode cX1_find 49 = .ok (.iload_n 2, 1) := by decide +kernel
theorem dX1_find_50 : decode cX1_find 50 = .ok (.ifCond .eq 84, 3) := by decide +kernel
theorem dX1_find_53 : decode cX1_find 53 = .ok (.iconst 0, 1) := by decide +kernel
theorem dX1_find_54 : decode cX1_find 54 = .ok (.istore_n 2, 1) := by decide +kernel
theorem dX1_find_55 : decode cX1_find 55 = .ok (.iconst 0, 1) := by decide +kernel
theorem dX1_find_56 : decode cX1_find 56 = .ok (.istore 4, 2) := by decide +kernel
theorem dX1_find_58 : decode cX1_find 58 = .ok (.iload 4, 2) := by decide +kernel
theorem dX1_find_60 : decode cX1_find 60 = .ok (.sipush 256, 3) := by decide +kernel
theorem dX1_find_63 : decode cX1_find 63 = .ok (.if_icmp .ge 65, 3) := by decide +kernel
theorem dX1_find_66 : decode cX1_find 66 = .ok (.iload 4, 2) := by decide +kernel
theorem dX1_find_68 : decode cX1_find 68 = .ok (.bipush 16, 2) := by decide +kernel
theorem dX1_find_70 : decode cX1_find 70 = .ok (.irem, 1) := by decide +kernel
theorem dX1_find_71 : decode cX1_find 71 = .ok (.istore 5, 2) := by decide +kernel
theorem dX1_find_73 : decode cX1_find 73 = .ok (.aload_n 0, 1) := by decide +kernel
theorem dX1_find_74 : decode cX1_find 74 = .ok (.getfield 17, 3) := by decide +kernel
theorem dX1_find_77 : decode cX1_find 77 = .ok (.iload 4, 2) := by decide +kernel
theorem dX1_find_79 : decode cX1_find 79 = .ok (.baload, 1) := by decide +kernel
theorem dX1_find_80 : decode cX1_find 80 = .ok (.ifCond .eq 42, 3) := by decide +kernel
theorem dX1_find_83 : decode cX1_find 83 = .ok (.aload_n 0, 1) := by decide +kernel
theorem dX1_find_84 : decode cX1_find 84 = .ok (.getfield 20, 3) := by decide +kernel
theorem dX1_find_87 : decode cX1_find 87 = .ok (.iload 4, 2) := by decide +kernel
theorem dX1_find_89 : decode cX1_find 89 = .ok (.bipush 16, 2) := by decide +kernel
theorem dX1_find_91 : decode cX1_find 91 = .ok (.idiv, 1) := by decide +kernel
theorem dX1_find_92 : decode cX1_find 92 = .ok (.baload, 1) := by decide +kernel
theorem dX1_find_93 : decode cX1_find 93 = .ok (.ifCond .eq 29, 3) := by decide +kernel
theorem dX1_find_96 : decode cX1_find 96 = .ok (.aload_n 0, 1) := by decide +kernel
theorem dX1_find_97 : decode cX1_find 97 = .ok (.getfield 20, 3) := by decide +kernel
theorem dX1_find_100 : decode cX1_find 100 = .ok (.iload 5, 2) := by decide +kernel
theorem dX1_find_102 : decode cX1_find 102 = .ok (.baload, 1) := by decide +kernel
theorem dX1_find_103 : decode cX1_find 103 = .ok (.ifCond .ne 19, 3) := by decide +kernel
theorem dX1_find_106 : decode cX1_find 106 = .ok (.iload 5, 2) := by decide +kernel
theorem dX1_find_108 : decode cX1_find 108 = .ok (.iload_n 1, 1) := by decide +kernel
theorem dX1_find_109 : decode cX1_find 109 = .ok (.if_icmp .eq 13, 3) := by decide +kernel
theorem dX1_find_112 : decode cX1_find 112 = .ok (.aload_n 0, 1) := by decide +kernel
theorem dX1_find_113 : decode cX1_find 113 = .ok (.getfield 20, 3) := by decide +kernel
theorem dX1_find_116 : decode cX1_find 116 = .ok (.iload 5, 2) := by decide +kernel
theorem dX1_find_118 : decode cX1_find 118 = .ok (.iconst 1, 1) := by decide +kernel
theorem dX1_find_119 : decode cX1_find 119 = .ok (.bastore, 1) := by decide +kernel
theorem dX1_find_120 : decode cX1_find 120 = .ok (.iconst 1, 1) := by decide +kernel
theorem dX1_find_121 : decode cX1_find 121 = .ok (.istore_n 2, 1) := by decide +kernel
theorem dX1_find_122 : decode cX1_find 122 = .ok (.iinc 4 1, 3) := by decide +kernel
theorem dX1_find_125 : decode cX1_find 125 = .ok (.goto (-67), 3) := by decide +kernel
theorem dX1_find_128 : decode cX1_find 128 = .ok (.iinc 3 1, 3) := by decide +kernel
theorem dX1_find_131 : decode cX1_find 131 = .ok (.goto (-88), 3) := by decide +kernel
theorem dX1_find_134 : decode cX1_find 134 = .ok (.return_, 1) := by decide +kernel
theorem dX1_keeper_0 : decode cX1_keeper 0 = .ok (.iload_n 1, 1) := by decide +kernel
theorem dX1_keeper_1 : decode cX1_keeper 1 = .ok (.invokestatic 26, 3) := by decide +kernel
theorem dX1_keeper_4 : decode cX1_keeper 4 = .ok (.ifCond .eq 6, 3) := by decide +kernel
theorem dX1_keeper_7 : decode cX1_keeper 7 = .ok (.bipush (-2), 2) := by decide +kernel
theorem dX1_keeper_9 : decode cX1_keeper 9 = .ok (.ireturn, 1) := by decide +kernel
theorem dX1_keeper_10 : decode cX1_keeper 10 = .ok (.aload_n 0, 1) := by decide +kernel
theorem dX1_keeper_11 : decode cX1_keeper 11 = .ok (.invokevirtual 41, 3) := by decide +kernel
theorem dX1_keeper_14 : decode cX1_keeper 14 = .ok (.aload_n 0, 1) := by decide +kernel
theorem dX1_keeper_15 : decode cX1_keeper 15 = .ok (.iload_n 1, 1) := by decide +kernel
theorem dX1_keeper_16 : decode cX1_keeper 16 = .ok (.iload_n 1, 1) := by decide +kernel
theorem dX1_keeper_17 : decode cX1_keeper 17 = .ok (.iconst 1, 1) := by decide +kernel
theorem dX1_keeper_18 : decode cX1_keeper 18 = .ok (.invokevirtual 44, 3) := by decide +kernel
theorem dX1_keeper_21 : decode cX1_keeper 21 = .ok (.ireturn, 1) := by decide +kernel
theorem dX1_gather_0 : decode cX1_gather 0 = .ok (.iconst 0, 1) := by decide +kernel
theorem dX1_gather_1 : decode cX1_gather 1 = .ok (.istore_n 1, 1) := by decide +kernel
theorem dX1_gather_2 : decode cX1_gather 2 = .ok (.iload_n 1, 1) := by decide +kernel
theorem dX1_gather_3 : decode cX1_gather 3 = .ok (.bipush 16, 2) := by decide +kernel
theorem dX1_gather_5 : decode cX1_gather 5 = .ok (.if_icmp .ge 53, 3) := by decide +kernel
theorem dX1_gather_8 : decode cX1_gather 8 = .ok (.aload_n 0, 1) := by decide +kernel
theorem dX1_gather_9 : decode cX1_gather 9 = .ok (.iload_n 1, 1) := by decide +kernel
theorem dX1_gather_10 : decode cX1_gather 10 = .ok (.invokevirtual 30, 3) := by decide +kernel
theorem dX1_gather_13 : decode cX1_gather 13 = .ok (.iconst 0, 1) := by decide +kernel
theorem dX1_gather_14 : decode cX1_gather 14 = .ok (.istore_n 2, 1) := by decide +kernel
theorem dX1_gather_15 : decode cX1_gather 15 = .ok (.iload_n 2, 1) := by decide +kernel
theorem dX1_gather_16 : decode cX1_gather 16 = .ok (.bipush 16, 2) := by decide +kernel
theorem dX1_gather_18 : decode cX1_gather 18 = .ok (.if_icmp .ge 34, 3) := by decide +kernel
theorem dX1_gather_21 : decode cX1_gather 21 = .ok (.aload_n 0, 1) := by decide +kernel
theorem dX1_gather_22 : decode cX1_gather 22 = .ok (.getfield 23, 3) := by decide +kernel
theorem dX1_gather_25 : decode cX1_gather 25 = .ok (.bipush 16, 2) := by decide +kernel
theorem dX1_gather_27 : decode cX1_gather 27 = .ok (.iload_n 1, 1) := by decide +kernel
theorem dX1_gather_28 : decode cX1_gather 28 = .ok (.imul, 1) := by decide +kernel
theorem dX1_gather_29 : decode cX1_gather 29 = .ok (.iload_n 2, 1) := by decide +kernel
theorem dX1_gather_30 : decode cX1_gather 30 = .ok (.iadd, 1) := by decide +kernel
theorem dX1_gather_31 : decode cX1_gather 31 = .ok (.aload_n 0, 1) := by decide +kernel
theorem dX1_gather_32 : decode cX1_gather 32 = .ok (.getfield 20, 3) := by decide +kernel
theorem dX1_gather_35 : decode cX1_gather 35 = .ok (.iload_n 2, 1) := by decide +kernel
theorem dX1_gather_36 : decode cX1_gather 36 = .ok (.baload, 1) := by decide +kernel
theorem dX1_gather_37 : decode cX1_gather 37 = .ok (.ifCond .ne 7, 3) := by decide +kernel
theorem dX1_gather_40 : decode cX1_gather 40 = .ok (.iconst 1, 1) := by decide +kernel
theorem dX1_gather_41 : decode cX1_gather 41 = .ok (.goto 4, 3) := by decide +kernel
theorem dX1_gather_44 : decode cX1_gather 44 = .ok (.iconst 0, 1) := by decide +kernel
theorem dX1_gather_45 : decode cX1_gather 45 = .ok (.bastore, 1) := by decide +kernel
theorem dX1_gather_46 : decode cX1_gather 46 = .ok (.iinc 2 1, 3) := by decide +kernel
theorem dX1_gather_49 : decode cX1_gather 49 = .ok (.goto (-34), 3) := by decide +kernel
theorem dX1_gather_52 : decode cX1_gather 52 = .ok (.iinc 1 1, 3) := by decide +kernel
theorem dX1_gather_55 : decode cX1_gather 55 = .ok (.goto (-53), 3) := by decide +kernel
theorem dX1_gather_58 : decode cX1_gather 58 = .ok (.aload_n 0, 1) := by decide +kernel
theorem dX1_gather_59 : decode cX1_gather 59 = .ok (.iconst (-1), 1) := by decide +kernel
theorem dX1_gather_60 : decode cX1_gather 60 = .ok (.invokevirtual 30, 3) := by decide +kernel
theorem dX1_gather_63 : decode cX1_gather 63 = .ok (.iconst 0, 1) := by decide +kernel
theorem dX1_gather_64 : decode cX1_gather 64 = .ok (.istore_n 1, 1) := by decide +kernel
theorem dX1_gather_65 : decode cX1_gather 65 = .ok (.iload_n 1, 1) := by decide +kernel
theorem dX1_gather_66 : decode cX1_gather 66 = .ok (.sipush 256, 3) := by decide +kernel
theorem dX1_gather_69 : decode cX1_gather 69 = .ok (.if_icmp .ge 41, 3) := by decide +kernel
theorem dX1_gather_72 : decode cX1_gather 72 = .ok (.aload_n 0, 1) := by decide +kernel
theorem dX1_gather_73 : decode cX1_gather 73 = .ok (.getfield 23, 3) := by decide +kernel
theorem dX1_gather_76 : decode cX1_gather 76 = .ok (.iload_n 1, 1) := by decide +kernel
theorem dX1_gather_77 : decode cX1_gather 77 = .ok (.aload_n 0, 1) := by decide +kernel
theorem dX1_gather_78 : decode cX1_gather 78 = .ok (.getfield 23, 3) := by decide +kernel
theorem dX1_gather_81 : decode cX1_gather 81 = .ok (.iload_n 1, 1) := by decide +kernel
theorem dX1_gather_82 : decode cX1_gather 82 = .ok (.baload, 1) := by decide +kernel
theorem dX1_gather_83 : decode cX1_gather 83 = .ok (.ifCond .eq 19, 3) := by decide +kernel
theorem dX1_gather_86 : decode cX1_gather 86 = .ok (.aload_n 0, 1) := by decide +kernel
theorem dX1_gather_87 : decode cX1_gather 87 = .ok (.getfield 20, 3) := by decide +kernel
theorem dX1_gather_90 : decode cX1_gather 90 = .ok (.iload_n 1, 1) := by decide +kernel
theorem dX1_gather_91 : decode cX1_gather 91 = .ok (.bipush 16, 2) := by decide +kernel
theorem dX1_gather_93 : decode cX1_gather 93 = .ok (.irem, 1) := by decide +kernel
theorem dX1_gather_94 : decode cX1_gather 94 = .ok (.baload, 1) := by decide +kernel
theorem dX1_gather_95 : decode cX1_gather 95 = .ok (.ifCond .eq 7, 3) := by decide +kernel
theorem dX1_gather_98 : decode cX1_gather 98 = .ok (.iconst 1, 1) := by decide +kernel
theorem dX1_gather_99 : decode cX1_gather 99 = .ok (.goto 4, 3) := by decide +kernel
theorem dX1_gather_102 : decode cX1_gather 102 = .ok (.iconst 0, 1) := by decide +kernel
theorem dX1_gather_103 : decode cX1_gather 103 = .ok (.bastore, 1) := by decide +kernel
theorem dX1_gather_104 : decode cX1_gather 104 = .ok (.iinc 1 1, 3) := by decide +kernel
theorem dX1_gather_107 : decode cX1_gather 107 = .ok (.goto (-42), 3) := by decide +kernel
theorem dX1_gather_110 : decode cX1_gather 110 = .ok (.return_, 1) := by decide +kernel
theorem dX1_last_0 : decode cX1_last 0 = .ok (.iconst 0, 1) := by decide +kernel
theorem dX1_last_1 : decode cX1_last 1 = .ok (.istore 4, 2) := by decide +kernel
theorem dX1_last_3 : decode cX1_last 3 = .ok (.iload 4, 2) := by decide +kernel
theorem dX1_last_5 : decode cX1_last 5 = .ok (.bipush 16, 2) := by decide +kernel
theorem dX1_last_7 : decode cX1_last 7 = .ok (.if_icmp .ge 75, 3) := by decide +kernel
theorem dX1_last_10 : decode cX1_last 10 = .ok (.aload_n 0, 1) := by decide +kernel
theorem dX1_last_11 : decode cX1_last 11 = .ok (.iload 4, 2) := by decide +kernel
theorem dX1_last_13 : decode cX1_last 13 = .ok (.iload_n 1, 1) := by decide +kernel
theorem dX1_last_14 : decode cX1_last 14 = .ok (.iload_n 2, 1) := by decide +kernel
theorem dX1_last_15 : decode cX1_last 15 = .ok (.iload_n 3, 1) := by decide +kernel
theorem dX1_last_16 : decode cX1_last 16 = .ok (.invokevirtual 37, 3) := by decide +kernel
theorem dX1_last_19 : decode cX1_last 19 = .ok (.istore 5, 2) := by decide +kernel
theorem dX1_last_21 : decode cX1_last 21 = .ok (.iconst 0, 1) := by decide +kernel
theorem dX1_last_22 : decode cX1_last 22 = .ok (.istore 6, 2) := by decide +kernel
theorem dX1_last_24 : decode cX1_last 24 = .ok (.iload 6, 2) := by decide +kernel
theorem dX1_last_26 : decode cX1_last 26 = .ok (.bipush 16, 2) := by decide +kernel
theorem dX1_last_28 : decode cX1_last 28 = .ok (.if_icmp .ge 40, 3) := by decide +kernel
theorem dX1_last_31 : decode cX1_last 31 = .ok (.aload_n 0, 1) := by decide +kernel
theorem dX1_last_32 : decode cX1_last 32 = .ok (.iload 6, 2) := by decide +kernel
theorem dX1_last_34 : decode cX1_last 34 = .ok (.iload_n 1, 1) := by decide +kernel
theorem dX1_last_35 : decode cX1_last 35 = .ok (.iload_n 2, 1) := by decide +kernel
theorem dX1_last_36 : decode cX1_last 36 = .ok (.iload_n 3, 1) := by decide +kernel
theorem dX1_last_37 : decode cX1_last 37 = .ok (.invokevirtual 37, 3) := by decide +kernel
theorem dX1_last_40 : decode cX1_last 40 = .ok (.ifCond .eq 22, 3) := by decide +kernel
theorem dX1_last_43 : decode cX1_last 43 = .ok (.aload_n 0, 1) := by decide +kernel
theorem dX1_last_44 : decode cX1_last 44 = .ok (.getfield 23, 3) := by decide +kernel
theorem dX1_last_47 : decode cX1_last 47 = .ok (.bipush 16, 2) := by decide +kernel
theorem dX1_last_49 : decode cX1_last 49 = .ok (.iload 6, 2) := by decide +kernel
theorem dX1_last_51 : decode cX1_last 51 = .ok (.imul, 1) := by decide +kernel
theorem dX1_last_52 : decode cX1_last 52 = .ok (.iload 4, 2) := by decide +kernel
theorem dX1_last_54 : decode cX1_last 54 = .ok (.iadd, 1) := by decide +kernel
theorem dX1_last_55 : decode cX1_last 55 = .ok (.baload, 1) := by decide +kernel
theorem dX1_last_56 : decode cX1_last 56 = .ok (.ifCond .ne 6, 3) := by decide +kernel
theorem dX1_last_59 : decode cX1_last 59 = .ok (.iconst 0, 1) := by decide +kernel
theorem dX1_last_60 : decode cX1_last 60 = .ok (.istore 5, 2) := by decide +kernel
theorem dX1_last_62 : decode cX1_last 62 = .ok (.iinc 6 1, 3) := by decide +kernel
theorem dX1_last_65 : decode cX1_last 65 = .ok (.goto (-41), 3) := by decide +kernel
theorem dX1_last_68 : decode cX1_last 68 = .ok (.iload 5, 2) := by decide +kernel
theorem dX1_last_70 : decode cX1_last 70 = .ok (.ifCond .eq 6, 3) := by decide +kernel
theorem dX1_last_73 : decode cX1_last 73 = .ok (.iload 4, 2) := by decide +kernel
theorem dX1_last_75 : decode cX1_last 75 = .ok (.ireturn, 1) := by decide +kernel
theorem dX1_last_76 : decode cX1_last 76 = .ok (.iinc 4 1, 3) := by decide +kernel
theorem dX1_last_79 : decode cX1_last 79 = .ok (.goto (-76), 3) := by decide +kernel
theorem dX1_last_82 : decode cX1_last 82 = .ok (.iconst (-1), 1) := by decide +kernel
theorem dX1_last_83 : decode cX1_last 83 = .ok (.ireturn, 1) := by decide +kernel
theorem dX1_both_0 : decode cX1_both 0 = .ok (.aload_n 0, 1) := by decide +kernel
theorem dX1_both_1 : decode cX1_both 1 = .ok (.getfield 23, 3) := by decide +kernel
theorem dX1_both_4 : decode cX1_both 4 = .ok (.bipush 16, 2) := by decide +kernel
theorem dX1_both_6 : decode cX1_both 6 = .ok (.iload_n 1, 1) := by decide +kernel
theorem dX1_both_7 : decode cX1_both 7 = .ok (.imul, 1) := by decide +kernel
theorem dX1_both_8 : decode cX1_both 8 = .ok (.iload_n 2, 1) := by decide +kernel
theorem dX1_both_9 : decode cX1_both 9 = .ok (.iadd, 1) := by decide +kernel
theorem dX1_both_10 : decode cX1_both 10 = .ok (.baload, 1) := by decide +kernel
theorem dX1_both_11 : decode cX1_both 11 = .ok (.ifCond .eq 31, 3) := by decide +kernel
theorem dX1_both_14 : decode cX1_both 14 = .ok (.aload_n 0, 1) := by decide +kernel
theorem dX1_both_15 : decode cX1_both 15 = .ok (.getfield 23, 3) := by decide +kernel
theorem dX1_both_18 : decode cX1_both 18 = .ok (.bipush 16, 2) := by decide +kernel
theorem dX1_both_20 : decode cX1_both 20 = .ok (.iload_n 1, 1) := by decide +kernel
theorem dX1_both_21 : decode cX1_both 21 = .ok (.imul, 1) := by decide +kernel
theorem dX1_both_22 : decode cX1_both 22 = .ok (.iload_n 3, 1) := by decide +kernel
theorem dX1_both_23 : decode cX1_both 23 = .ok (.iadd, 1) := by decide +kernel
theorem dX1_both_24 : decode cX1_both 24 = .ok (.baload, 1) := by decide +kernel
theorem dX1_both_25 : decode cX1_both 25 = .ok (.ifCond .eq 17, 3) := by decide +kernel
theorem dX1_both_28 : decode cX1_both 28 = .ok (.iload 4, 2) := by decide +kernel
theorem dX1_both_30 : decode cX1_both 30 = .ok (.ifCond .eq 8, 3) := by decide +kernel
theorem dX1_both_33 : decode cX1_both 33 = .ok (.iload_n 1, 1) := by decide +kernel
theorem dX1_both_34 : decode cX1_both 34 = .ok (.iload_n 2, 1) := by decide +kernel
theorem dX1_both_35 : decode cX1_both 35 = .ok (.if_icmp .eq 7, 3) := by decide +kernel
theorem dX1_both_38 : decode cX1_both 38 = .ok (.iconst 1, 1) := by decide +kernel
theorem dX1_both_39 : decode cX1_both 39 = .ok (.goto 4, 3) := by decide +kernel
theorem dX1_both_42 : decode cX1_both 42 = .ok (.iconst 0, 1) := by decide +kernel
theorem dX1_both_43 : decode cX1_both 43 = .ok (.ireturn, 1) := by decide +kernel
theorem dX1_held_0 : decode cX1_held 0 = .ok (.iload_n 1, 1) := by decide +kernel
theorem dX1_held_1 : decode cX1_held 1 = .ok (.invokestatic 26, 3) := by decide +kernel
theorem dX1_held_4 : decode cX1_held 4 = .ok (.ifCond .eq 6, 3) := by decide +kernel
theorem dX1_held_7 : decode cX1_held 7 = .ok (.bipush (-2), 2) := by decide +kernel
theorem dX1_held_9 : decode cX1_held 9 = .ok (.ireturn, 1) := by decide +kernel
theorem dX1_held_10 : decode cX1_held 10 = .ok (.aload_n 0, 1) := by decide +kernel
theorem dX1_held_11 : decode cX1_held 11 = .ok (.invokevirtual 41, 3) := by decide +kernel
theorem dX1_held_14 : decode cX1_held 14 = .ok (.aload_n 0, 1) := by decide +kernel
theorem dX1_held_15 : decode cX1_held 15 = .ok (.iload_n 1, 1) := by decide +kernel
theorem dX1_held_16 : decode cX1_held 16 = .ok (.invokevirtual 48, 3) := by decide +kernel
theorem dX1_held_19 : decode cX1_held 19 = .ok (.ireturn, 1) := by decide +kernel
theorem dX1_heldBy_0 : decode cX1_heldBy 0 = .ok (.iconst 0, 1) := by decide +kernel
theorem dX1_heldBy_1 : decode cX1_heldBy 1 = .ok (.istore_n 2, 1) := by decide +kernel
theorem dX1_heldBy_2 : decode cX1_heldBy 2 = .ok (.iconst 0, 1) := by decide +kernel
theorem dX1_heldBy_3 : decode cX1_heldBy 3 = .ok (.istore_n 3, 1) := by decide +kernel
theorem dX1_heldBy_4 : decode cX1_heldBy 4 = .ok (.iload_n 3, 1) := by decide +kernel
theorem dX1_heldBy_5 : decode cX1_heldBy 5 = .ok (.bipush 16, 2) := by decide +kernel
theorem dX1_heldBy_7 : decode cX1_heldBy 7 = .ok (.if_icmp .ge 32, 3) := by decide +kernel
theorem dX1_heldBy_10 : decode cX1_heldBy 10 = .ok (.aload_n 0, 1) := by decide +kernel
theorem dX1_heldBy_11 : decode cX1_heldBy 11 = .ok (.getfield 23, 3) := by decide +kernel
theorem dX1_heldBy_14 : decode cX1_heldBy 14 = .ok (.bipush 16, 2) := by decide +kernel
theorem dX1_heldBy_16 : decode cX1_heldBy 16 = .ok (.iload_n 1, 1) := by decide +kernel
theorem dX1_heldBy_17 : decode cX1_heldBy 17 = .ok (.imul, 1) := by decide +kernel
theorem dX1_heldBy_18 : decode cX1_heldBy 18 = .ok (.iload_n 3, 1) := by decide +kernel
theorem dX1_heldBy_19 : decode cX1_heldBy 19 = .ok (.iadd, 1) := by decide +kernel
theorem dX1_heldBy_20 : decode cX1_heldBy 20 = .ok (.baload, 1) := by decide +kernel
theorem dX1_heldBy_21 : decode cX1_heldBy 21 = .ok (.ifCond .eq 12, 3) := by decide +kernel
theorem dX1_heldBy_24 : decode cX1_heldBy 24 = .ok (.iload_n 2, 1) := by decide +kernel
theorem dX1_heldBy_25 : decode cX1_heldBy 25 = .ok (.aload_n 0, 1) := by decide +kernel
theorem dX1_heldBy_26 : decode cX1_heldBy 26 = .ok (.getfield 7, 3) := by decide +kernel
theorem dX1_heldBy_29 : decode cX1_heldBy 29 = .ok (.iload_n 3, 1) := by decide +kernel
theorem dX1_heldBy_30 : decode cX1_heldBy 30 = .ok (.iaload, 1) := by decide +kernel
theorem dX1_heldBy_31 : decode cX1_heldBy 31 = .ok (.iadd, 1) := by decide +kernel
theorem dX1_heldBy_32 : decode cX1_heldBy 32 = .ok (.istore_n 2, 1) := by decide +kernel
theorem dX1_heldBy_33 : decode cX1_heldBy 33 = .ok (.iinc 3 1, 3) := by decide +kernel
theorem dX1_heldBy_36 : decode cX1_heldBy 36 = .ok (.goto (-32), 3) := by decide +kernel
theorem dX1_heldBy_39 : decode cX1_heldBy 39 = .ok (.iload_n 2, 1) := by decide +kernel
theorem dX1_heldBy_40 : decode cX1_heldBy 40 = .ok (.ireturn, 1) := by decide +kernel
theorem dX1_guards_0 : decode cX1_guards 0 = .ok (.iload_n 1, 1) := by decide +kernel
theorem dX1_guards_1 : decode cX1_guards 1 = .ok (.invokestatic 26, 3) := by decide +kernel
theorem dX1_guards_4 : decode cX1_guards 4 = .ok (.ifCond .ne 10, 3) := by decide +kernel
theorem dX1_guards_7 : decode cX1_guards 7 = .ok (.iload_n 2, 1) := by decide +kernel
theorem dX1_guards_8 : decode cX1_guards 8 = .ok (.invokestatic 26, 3) := by decide +kernel
theorem dX1_guards_11 : decode cX1_guards 11 = .ok (.ifCond .eq 6, 3) := by decide +kernel
theorem dX1_guards_14 : decode cX1_guards 14 = .ok (.bipush (-2), 2) := by decide +kernel
theorem dX1_guards_16 : decode cX1_guards 16 = .ok (.ireturn, 1) := by decide +kernel
theorem dX1_guards_17 : decode cX1_guards 17 = .ok (.aload_n 0, 1) := by decide +kernel
theorem dX1_guards_18 : decode cX1_guards 18 = .ok (.iload_n 1, 1) := by decide +kernel
theorem dX1_guards_19 : decode cX1_guards 19 = .ok (.iload_n 2, 1) := by decide +kernel
theorem dX1_guards_20 : decode cX1_guards 20 = .ok (.invokevirtual 52, 3) := by decide +kernel
theorem dX1_guards_23 : decode cX1_guards 23 = .ok (.ifCond .eq 7, 3) := by decide +kernel
theorem dX1_guards_26 : decode cX1_guards 26 = .ok (.iconst 1, 1) := by decide +kernel
theorem dX1_guards_27 : decode cX1_guards 27 = .ok (.goto 4, 3) := by decide +kernel
theorem dX1_guards_30 : decode cX1_guards 30 = .ok (.iconst 0, 1) := by decide +kernel
theorem dX1_guards_31 : decode cX1_guards 31 = .ok (.ireturn, 1) := by decide +kernel
theorem dX1_isGuard_0 : decode cX1_isGuard 0 = .ok (.aload_n 0, 1) := by decide +kernel
theorem dX1_isGuard_1 : decode cX1_isGuard 1 = .ok (.iload_n 2, 1) := by decide +kernel
theorem dX1_isGuard_2 : decode cX1_isGuard 2 = .ok (.invokevirtual 34, 3) := by decide +kernel
theorem dX1_isGuard_5 : decode cX1_isGuard 5 = .ok (.istore_n 3, 1) := by decide +kernel
theorem dX1_isGuard_6 : decode cX1_isGuard 6 = .ok (.aload_n 0, 1) := by decide +kernel
theorem dX1_isGuard_7 : decode cX1_isGuard 7 = .ok (.iload_n 1, 1) := by decide +kernel
theorem dX1_isGuard_8 : decode cX1_isGuard 8 = .ok (.invokevirtual 30, 3) := by decide +kernel
theorem dX1_isGuard_11 : decode cX1_isGuard 11 = .ok (.iload_n 3, 1) := by decide +kernel
theorem dX1_isGuard_12 : decode cX1_isGuard 12 = .ok (.ifCond .eq 16, 3) := by decide +kernel
theorem dX1_isGuard_15 : decode cX1_isGuard 15 = .ok (.aload_n 0, 1) := by decide +kernel
theorem dX1_isGuard_16 : decode cX1_isGuard 16 = .ok (.getfield 20, 3) := by decide +kernel
theorem dX1_isGuard_19 : decode cX1_isGuard 19 = .ok (.iload_n 2, 1) := by decide +kernel
theorem dX1_isGuard_20 : decode cX1_isGuard 20 = .ok (.baload, 1) := by decide +kernel
theorem dX1_isGuard_21 : decode cX1_isGuard 21 = .ok (.ifCond .ne 7, 3) := by decide +kernel
theorem dX1_isGuard_24 : decode cX1_isGuard 24 = .ok (.iconst 1, 1) := by decide +kernel
theorem dX1_isGuard_25 : decode cX1_isGuard 25 = .ok (.goto 4, 3) := by decide +kernel
theorem dX1_isGuard_28 : decode cX1_isGuard 28 = .ok (.iconst 0, 1) := by decide +kernel
theorem dX1_isGuard_29 : decode cX1_isGuard 29 = .ok (.ireturn, 1) := by decide +kernel
theorem dX1_depth_0 : decode cX1_depth 0 = .ok (.iload_n 1, 1) := by decide +kernel
theorem dX1_depth_1 : decode cX1_depth 1 = .ok (.invokestatic 26, 3) := by decide +kernel
theorem dX1_depth_4 : decode cX1_depth 4 = .ok (.ifCond .eq 6, 3) := by decide +kernel
theorem dX1_depth_7 : decode cX1_depth 7 = .ok (.bipush (-2), 2) := by decide +kernel
theorem dX1_depth_9 : decode cX1_depth 9 = .ok (.ireturn, 1) := by decide +kernel
theorem dX1_depth_10 : decode cX1_depth 10 = .ok (.aload_n 0, 1) := by decide +kernel
theorem dX1_depth_11 : decode cX1_depth 11 = .ok (.invokevirtual 41, 3) := by decide +kernel
theorem dX1_depth_14 : decode cX1_depth 14 = .ok (.iconst 0, 1) := by decide +kernel
theorem dX1_depth_15 : decode cX1_depth 15 = .ok (.istore_n 2, 1) := by decide +kernel
theorem dX1_depth_16 : decode cX1_depth 16 = .ok (.iconst 0, 1) := by decide +kernel
theorem dX1_depth_17 : decode cX1_depth 17 = .ok (.istore_n 3, 1) := by decide +kernel
theorem dX1_depth_18 : decode cX1_depth 18 = .ok (.iload_n 3, 1) := by decide +kernel
theorem dX1_depth_19 : decode cX1_depth 19 = .ok (.bipush 16, 2) := by decide +kernel
theorem dX1_depth_21 : decode cX1_depth 21 = .ok (.if_icmp .ge 26, 3) := by decide +kernel
theorem dX1_depth_24 : decode cX1_depth 24 = .ok (.aload_n 0, 1) := by decide +kernel
theorem dX1_depth_25 : decode cX1_depth 25 = .ok (.getfield 23, 3) := by decide +kernel
theorem dX1_depth_28 : decode cX1_depth 28 = .ok (.bipush 16, 2) := by decide +kernel
theorem dX1_depth_30 : decode cX1_depth 30 = .ok (.iload_n 3, 1) := by decide +kernel
theorem dX1_depth_31 : decode cX1_depth 31 = .ok (.imul, 1) := by decide +kernel
theorem dX1_depth_32 : decode cX1_depth 32 = .ok (.iload_n 1, 1) := by decide +kernel
theorem dX1_depth_33 : decode cX1_depth 33 = .ok (.iadd, 1) := by decide +kernel
theorem dX1_depth_34 : decode cX1_depth 34 = .ok (.baload, 1) := by decide +kernel
theorem dX1_depth_35 : decode cX1_depth 35 = .ok (.ifCond .eq 6, 3) := by decide +kernel
theorem dX1_depth_38 : decode cX1_depth 38 = .ok (.iinc 2 1, 3) := by decide +kernel
theorem dX1_depth_41 : decode cX1_depth 41 = .ok (.iinc 3 1, 3) := by decide +kernel
theorem dX1_depth_44 : decode cX1_depth 44 = .ok (.goto (-26), 3) := by decide +kernel
theorem dX1_depth_47 : decode cX1_depth 47 = .ok (.iload_n 2, 1) := by decide +kernel
theorem dX1_depth_48 : decode cX1_depth 48 = .ok (.ireturn, 1) := by decide +kernel
theorem dX1_common_0 : decode cX1_common 0 = .ok (.iload_n 1, 1) := by decide +kernel
theorem dX1_common_1 : decode cX1_common 1 = .ok (.invokestatic 26, 3) := by decide +kernel
theorem dX1_common_4 : decode cX1_common 4 = .ok (.ifCond .ne 10, 3) := by decide +kernel
theorem dX1_common_7 : decode cX1_common 7 = .ok (.iload_n 2, 1) := by decide +kernel
theorem dX1_common_8 : decode cX1_common 8 = .ok (.invokestatic 26, 3) := by decide +kernel
theorem dX1_common_11 : decode cX1_common 11 = .ok (.ifCond .eq 6, 3) := by decide +kernel
theorem dX1_common_14 : decode cX1_common 14 = .ok (.bipush (-2), 2) := by decide +kernel
theorem dX1_common_16 : decode cX1_common 16 = .ok (.ireturn, 1) := by decide +kernel
theorem dX1_common_17 : decode cX1_common 17 = .ok (.aload_n 0, 1) := by decide +kernel
theorem dX1_common_18 : decode cX1_common 18 = .ok (.invokevirtual 41, 3) := by decide +kernel
theorem dX1_common_21 : decode cX1_common 21 = .ok (.aload_n 0, 1) := by decide +kernel
theorem dX1_common_22 : decode cX1_common 22 = .ok (.iload_n 1, 1) := by decide +kernel
theorem dX1_common_23 : decode cX1_common 23 = .ok (.iload_n 2, 1) := by decide +kernel
theorem dX1_common_24 : decode cX1_common 24 = .ok (.iconst 0, 1) := by decide +kernel
theorem dX1_common_25 : decode cX1_common 25 = .ok (.invokevirtual 44, 3) := by decide +kernel
theorem dX1_common_28 : decode cX1_common 28 = .ok (.ireturn, 1) := by decide +kernel
theorem dX1_heaviest_0 : decode cX1_heaviest 0 = .ok (.aload_n 0, 1) := by decide +kernel
theorem dX1_heaviest_1 : decode cX1_heaviest 1 = .ok (.invokevirtual 41, 3) := by decide +kernel
theorem dX1_heaviest_4 : decode cX1_heaviest 4 = .ok (.iconst (-1), 1) := by decide +kernel
theorem dX1_heaviest_5 : decode cX1_heaviest 5 = .ok (.istore_n 1, 1) := by decide +kernel
theorem dX1_heaviest_6 : decode cX1_heaviest 6 = .ok (.iconst (-1), 1) := by decide +kernel
theorem dX1_heaviest_7 : decode cX1_heaviest 7 = .ok (.istore_n 2, 1) := by decide +kernel
theorem dX1_heaviest_8 : decode cX1_heaviest 8 = .ok (.iconst 0, 1) := by decide +kernel
theorem dX1_heaviest_9 : decode cX1_heaviest 9 = .ok (.istore_n 3, 1) := by decide +kernel
theorem dX1_heaviest_10 : decode cX1_heaviest 10 = .ok (.iload_n 3, 1) := by decide +kernel
theorem dX1_heaviest_11 : decode cX1_heaviest 11 = .ok (.bipush 16, 2) := by decide +kernel
theorem dX1_heaviest_13 : decode cX1_heaviest 13 = .ok (.if_icmp .ge 62, 3) := by decide +kernel
theorem dX1_heaviest_16 : decode cX1_heaviest 16 = .ok (.aload_n 0, 1) := by decide +kernel
theorem dX1_heaviest_17 : decode cX1_heaviest 17 = .ok (.getfield 23, 3) := by decide +kernel
theorem dX1_heaviest_20 : decode cX1_heaviest 20 = .ok (.bipush 16, 2) := by decide +kernel
theorem dX1_heaviest_22 : decode cX1_heaviest 22 = .ok (.iload_n 3, 1) := by decide +kernel
theorem dX1_heaviest_23 : decode cX1_heaviest 23 = .ok (.imul, 1) := by decide +kernel
theorem dX1_heaviest_24 : decode cX1_heaviest 24 = .ok (.iload_n 3, 1) := by decide +kernel
theorem dX1_heaviest_25 : decode cX1_heaviest 25 = .ok (.iadd, 1) := by decide +kernel
theorem dX1_heaviest_26 : decode cX1_heaviest 26 = .ok (.baload, 1) := by decide +kernel
theorem dX1_heaviest_27 : decode cX1_heaviest 27 = .ok (.ifCond .eq 17, 3) := by decide +kernel
theorem dX1_heaviest_30 : decode cX1_heaviest 30 = .ok (.aload_n 0, 1) := by decide +kernel
theorem dX1_heaviest_31 : decode cX1_heaviest 31 = .ok (.iload_n 3, 1) := by decide +kernel
theorem dX1_heaviest_32 : decode cX1_heaviest 32 = .ok (.iload_n 3, 1) := by decide +kernel
theorem dX1_heaviest_33 : decode cX1_heaviest 33 = .ok (.iconst 1, 1) := by decide +kernel
theorem dX1_heaviest_34 : decode cX1_heaviest 34 = .ok (.invokevirtual 44, 3) := by decide +kernel
theorem dX1_heaviest_37 : decode cX1_heaviest 37 = .ok (.ifCond .ge 7, 3) := by decide +kernel
theorem dX1_heaviest_40 : decode cX1_heaviest 40 = .ok (.iconst 1, 1) := by decide +kernel
theorem dX1_heaviest_41 : decode cX1_heaviest 41 = .ok (.goto 4, 3) := by decide +kernel
theorem dX1_heaviest_44 : decode cX1_heaviest 44 = .ok (.iconst 0, 1) := by decide +kernel
theorem dX1_heaviest_45 : decode cX1_heaviest 45 = .ok (.istore 4, 2) := by decide +kernel
theorem dX1_heaviest_47 : decode cX1_heaviest 47 = .ok (.iload 4, 2) := by decide +kernel
theorem dX1_heaviest_49 : decode cX1_heaviest 49 = .ok (.ifCond .eq 20, 3) := by decide +kernel
theorem dX1_heaviest_52 : decode cX1_heaviest 52 = .ok (.aload_n 0, 1) := by decide +kernel
theorem dX1_heaviest_53 : decode cX1_heaviest 53 = .ok (.iload_n 3, 1) := by decide +kernel
theorem dX1_heaviest_54 : decode cX1_heaviest 54 = .ok (.invokevirtual 48, 3) := by decide +kernel
theorem dX1_heaviest_57 : decode cX1_heaviest 57 = .ok (.iload_n 2, 1) := by decide +kernel
theorem dX1_heaviest_58 : decode cX1_heaviest 58 = .ok (.if_icmp .le 11, 3) := by decide +kernel
theorem dX1_heaviest_61 : decode cX1_heaviest 61 = .ok (.iload_n 3, 1) := by decide +kernel
theorem dX1_heaviest_62 : decode cX1_heaviest 62 = .ok (.istore_n 1, 1) := by decide +kernel
theorem dX1_heaviest_63 : decode cX1_heaviest 63 = .ok (.aload_n 0, 1) := by decide +kernel
theorem dX1_heaviest_64 : decode cX1_heaviest 64 = .ok (.iload_n 3, 1) := by decide +kernel
theorem dX1_heaviest_65 : decode cX1_heaviest 65 = .ok (.invokevirtual 48, 3) := by decide +kernel
theorem dX1_heaviest_68 : decode cX1_heaviest 68 = .ok (.istore_n 2, 1) := by decide +kernel
theorem dX1_heaviest_69 : decode cX1_heaviest 69 = .ok (.iinc 3 1, 3) := by decide +kernel
theorem dX1_heaviest_72 : decode cX1_heaviest 72 = .ok (.goto (-62), 3) := by decide +kernel
theorem dX1_heaviest_75 : decode cX1_heaviest 75 = .ok (.iload_n 1, 1) := by decide +kernel
theorem dX1_heaviest_76 : decode cX1_heaviest 76 = .ok (.ireturn, 1) := by decide +kernel
theorem dX1_total_0 : decode cX1_total 0 = .ok (.aload_n 0, 1) := by decide +kernel
theorem dX1_total_1 : decode cX1_total 1 = .ok (.iconst (-1), 1) := by decide +kernel
theorem dX1_total_2 : decode cX1_total 2 = .ok (.invokevirtual 30, 3) := by decide +kernel
theorem dX1_total_5 : decode cX1_total 5 = .ok (.iconst 0, 1) := by decide +kernel
theorem dX1_total_6 : decode cX1_total 6 = .ok (.istore_n 1, 1) := by decide +kernel
theorem dX1_total_7 : decode cX1_total 7 = .ok (.iconst 0, 1) := by decide +kernel
theorem dX1_total_8 : decode cX1_total 8 = .ok (.istore_n 2, 1) := by decide +kernel
theorem dX1_total_9 : decode cX1_total 9 = .ok (.iload_n 2, 1) := by decide +kernel
theorem dX1_total_10 : decode cX1_total 10 = .ok (.bipush 16, 2) := by decide +kernel
theorem dX1_total_12 : decode cX1_total 12 = .ok (.if_icmp .ge 27, 3) := by decide +kernel
theorem dX1_total_15 : decode cX1_total 15 = .ok (.aload_n 0, 1) := by decide +kernel
theorem dX1_total_16 : decode cX1_total 16 = .ok (.getfield 20, 3) := by decide +kernel
theorem dX1_total_19 : decode cX1_total 19 = .ok (.iload_n 2, 1) := by decide +kernel
theorem dX1_total_20 : decode cX1_total 20 = .ok (.baload, 1) := by decide +kernel
theorem dX1_total_21 : decode cX1_total 21 = .ok (.ifCond .eq 12, 3) := by decide +kernel
theorem dX1_total_24 : decode cX1_total 24 = .ok (.iload_n 1, 1) := by decide +kernel
theorem dX1_total_25 : decode cX1_total 25 = .ok (.aload_n 0, 1) := by decide +kernel
theorem dX1_total_26 : decode cX1_total 26 = .ok (.getfield 7, 3) := by decide +kernel
theorem dX1_total_29 : decode cX1_total 29 = .ok (.iload_n 2, 1) := by decide +kernel
theorem dX1_total_30 : decode cX1_total 30 = .ok (.iaload, 1) := by decide +kernel
theorem dX1_total_31 : decode cX1_total 31 = .ok (.iadd, 1) := by decide +kernel
theorem dX1_total_32 : decode cX1_total 32 = .ok (.istore_n 1, 1) := by decide +kernel
theorem dX1_total_33 : decode cX1_total 33 = .ok (.iinc 2 1, 3) := by decide +kernel
theorem dX1_total_36 : decode cX1_total 36 = .ok (.goto (-27), 3) := by decide +kernel
theorem dX1_total_39 : decode cX1_total 39 = .ok (.iload_n 1, 1) := by decide +kernel
theorem dX1_total_40 : decode cX1_total 40 = .ok (.ireturn, 1) := by decide +kernel
end
section
set_option maxRecDepth 100000
theorem dX0_init_0 : decode cX0_init 0 = .ok (.aload_n 0, 1) := by decide +kernel
theorem dX0_init_1 : decode cX0_init 1 = .ok (.invokespecial 1, 3) := by decide +kernel
theorem dX0_init_4 : decode cX0_init 4 = .ok (.aload_n 0, 1) := by decide +kernel
theorem dX0_init_5 : decode cX0_init 5 = .ok (.bipush 17, 2) := by decide +kernel
theorem dX0_init_7 : decode cX0_init 7 = .ok (.newarray .int, 2) := by decide +kernel
theorem dX0_init_9 : decode cX0_init 9 = .ok (.putfield 7, 3) := by decide +kernel
theorem dX0_init_12 : decode cX0_init 12 = .ok (.aload_n 0, 1) := by decide +kernel
theorem dX0_init_13 : decode cX0_init 13 = .ok (.bipush 17, 2) := by decide +kernel
theorem dX0_init_15 : decode cX0_init 15 = .ok (.newarray .int, 2) := by decide +kernel
theorem dX0_init_17 : decode cX0_init 17 = .ok (.putfield 13, 3) := by decide +kernel
theorem dX0_init_20 : decode cX0_init 20 = .ok (.aload_n 0, 1) := by decide +kernel
theorem dX0_init_21 : decode cX0_init 21 = .ok (.bipush 17, 2) := by decide +kernel
theorem dX0_init_23 : decode cX0_init 23 = .ok (.newarray .int, 2) := by decide +kernel
theorem dX0_init_25 : decode cX0_init 25 = .ok (.putfield 16, 3) := by decide +kernel
theorem dX0_init_28 : decode cX0_init 28 = .ok (.aload_n 0, 1) := by decide +kernel
theorem dX0_init_29 : decode cX0_init 29 = .ok (.bipush 17, 2) := by decide +kernel
theorem dX0_init_31 : decode cX0_init 31 = .ok (.newarray .int, 2) := by decide +kernel
theorem dX0_init_33 : decode cX0_init 33 = .ok (.putfield 19, 3) := by decide +kernel
theorem dX0_init_36 : decode cX0_init 36 = .ok (.aload_n 0, 1) := by decide +kernel
theorem dX0_init_37 : decode cX0_init 37 = .ok (.bipush 17, 2) := by decide +kernel
theorem dX0_init_39 : decode cX0_init 39 = .ok (.newarray .int, 2) := by decide +kernel
theorem dX0_init_41 : decode cX0_init 41 = .ok (.putfield 22, 3) := by decide +kernel
theorem dX0_init_44 : decode cX0_init 44 = .ok (.aload_n 0, 1) := by decide +kernel
theorem dX0_init_45 : decode cX0_init 45 = .ok (.bipush 18, 2) := by decide +kernel
theorem dX0_init_47 : decode cX0_init 47 = .ok (.newarray .int, 2) := by decide +kernel
theorem dX0_init_49 : decode cX0_init 49 = .ok (.putfield 25, 3) := by decide +kernel
theorem dX0_init_52 : decode cX0_init 52 = .ok (.aload_n 0, 1) := by decide +kernel
theorem dX0_init_53 : decode cX0_init 53 = .ok (.bipush 18, 2) := by decide +kernel
theorem dX0_init_55 : decode cX0_init 55 = .ok (.newarray .int, 2) := by decide +kernel
theorem dX0_init_57 : decode cX0_init 57 = .ok (.putfield 28, 3) := by decide +kernel
theorem dX0_init_60 : decode cX0_init 60 = .ok (.aload_n 0, 1) := by decide +kernel
theorem dX0_init_61 : decode cX0_init 61 = .ok (.bipush 17, 2) := by decide +kernel
theorem dX0_init_63 : decode cX0_init 63 = .ok (.newarray .int, 2) := by decide +kernel
theorem dX0_init_65 : decode cX0_init 65 = .ok (.putfield 31, 3) := by decide +kernel
theorem dX0_init_68 : decode cX0_init 68 = .ok (.aload_n 0, 1) := by decide +kernel
theorem dX0_init_69 : decode cX0_init 69 = .ok (.bipush 17, 2) := by decide +kernel
theorem dX0_init_71 : decode cX0_init 71 = .ok (.newarray .int, 2) := by decide +kernel
theorem dX0_init_73 : decode cX0_init 73 = .ok (.putfield 34, 3) := by decide +kernel
theorem dX0_init_76 : decode cX0_init 76 = .ok (.aload_n 0, 1) := by decide +kernel
theorem dX0_init_77 : decode cX0_init 77 = .ok (.bipush 17, 2) := by decide +kernel
theorem dX0_init_79 : decode cX0_init 79 = .ok (.newarray .int, 2) := by decide +kernel
theorem dX0_init_81 : decode cX0_init 81 = .ok (.putfield 37, 3) := by decide +kernel
theorem dX0_init_84 : decode cX0_init 84 = .ok (.aload_n 0, 1) := by decide +kernel
theorem dX0_init_85 : decode cX0_init 85 = .ok (.bipush 17, 2) := by decide +kernel
theorem dX0_init_87 : decode cX0_init 87 = .ok (.newarray .int, 2) := by decide +kernel
theorem dX0_init_89 : decode cX0_init 89 = .ok (.putfield 40, 3) := by decide +kernel
theorem dX0_init_92 : decode cX0_init 92 = .ok (.aload_n 0, 1) := by decide +kernel
theorem dX0_init_93 : decode cX0_init 93 = .ok (.bipush 18, 2) := by decide +kernel
theorem dX0_init_95 : decode cX0_init 95 = .ok (.newarray .int, 2) := by decide +kernel
theorem dX0_init_97 : decode cX0_init 97 = .ok (.putfield 43, 3) := by decide +kernel
theorem dX0_init_100 : decode cX0_init 100 = .ok (.aload_n 0, 1) := by decide +kernel
theorem dX0_init_101 : decode cX0_init 101 = .ok (.bipush 17, 2) := by decide +kernel
theorem dX0_init_103 : decode cX0_init 103 = .ok (.newarray .int, 2) := by decide +kernel
theorem dX0_init_105 : decode cX0_init 105 = .ok (.putfield 46, 3) := by decide +kernel
theorem dX0_init_108 : decode cX0_init 108 = .ok (.aload_n 0, 1) := by decide +kernel
theorem dX0_init_109 : decode cX0_init 109 = .ok (.bipush 17, 2) := by decide +kernel
theorem dX0_init_111 : decode cX0_init 111 = .ok (.newarray .int, 2) := by decide +kernel
theorem dX0_init_113 : decode cX0_init 113 = .ok (.putfield 49, 3) := by decide +kernel
theorem dX0_init_116 : decode cX0_init 116 = .ok (.aload_n 0, 1) := by decide +kernel
theorem dX0_init_117 : decode cX0_init 117 = .ok (.bipush 17, 2) := by decide +kernel
theorem dX0_init_119 : decode cX0_init 119 = .ok (.newarray .int, 2) := by decide +kernel
theorem dX0_init_121 : decode cX0_init 121 = .ok (.putfield 52, 3) := by decide +kernel
theorem dX0_init_124 : decode cX0_init 124 = .ok (.aload_n 0, 1) := by decide +kernel
theorem dX0_init_125 : decode cX0_init 125 = .ok (.bipush 17, 2) := by decide +kernel
theorem dX0_init_127 : decode cX0_init 127 = .ok (.newarray .int, 2) := by decide +kernel
theorem dX0_init_129 : decode cX0_init 129 = .ok (.putfield 55, 3) := by decide +kernel
theorem dX0_init_132 : decode cX0_init 132 = .ok (.aload_n 0, 1) := by decide +kernel
theorem dX0_init_133 : decode cX0_init 133 = .ok (.bipush 17, 2) := by decide +kernel
theorem dX0_init_135 : decode cX0_init 135 = .ok (.newarray .int, 2) := by decide +kernel
theorem dX0_init_137 : decode cX0_init 137 = .ok (.putfield 58, 3) := by decide +kernel
theorem dX0_init_140 : decode cX0_init 140 = .ok (.aload_n 0, 1) := by decide +kernel
theorem dX0_init_141 : decode cX0_init 141 = .ok (.bipush 17, 2) := by decide +kernel
theorem dX0_init_143 : decode cX0_init 143 = .ok (.newarray .int, 2) := by decide +kernel
theorem dX0_init_145 : decode cX0_init 145 = .ok (.putfield 61, 3) := by decide +kernel
theorem dX0_init_148 : decode cX0_init 148 = .ok (.aload_n 0, 1) := by decide +kernel
theorem dX0_init_149 : decode cX0_init 149 = .ok (.bipush 17, 2) := by decide +kernel
theorem dX0_init_151 : decode cX0_init 151 = .ok (.newarray .int, 2) := by decide +kernel
theorem dX0_init_153 : decode cX0_init 153 = .ok (.putfield 64, 3) := by decide +kernel
theorem dX0_init_156 : decode cX0_init 156 = .ok (.return_, 1) := by decide +kernel
theorem dX0_setSize_0 : decode cX0_setSize 0 = .ok (.iload_n 1, 1) := by decide +kernel
theorem dX0_setSize_1 : decode cX0_setSize 1 = .ok (.invokestatic 67, 3) := by decide +kernel
theorem dX0_setSize_4 : decode cX0_setSize 4 = .ok (.ifCond .ne 6, 3) := by decide +kernel
theorem dX0_setSize_7 : decode cX0_setSize 7 = .ok (.bipush (-2), 2) := by decide +kernel
theorem dX0_setSize_9 : decode cX0_setSize 9 = .ok (.ireturn, 1) := by decide +kernel
theorem dX0_setSize_10 : decode cX0_setSize 10 = .ok (.aload_n 0, 1) := by decide +kernel
theorem dX0_setSize_11 : decode cX0_setSize 11 = .ok (.getfield 7, 3) := by decide +kernel
theorem dX0_setSize_14 : decode cX0_setSize 14 = .ok (.iload_n 1, 1) := by decide +kernel
theorem dX0_setSize_15 : decode cX0_setSize 15 = .ok (.iaload, 1) := by decide +kernel
theorem dX0_setSize_16 : decode cX0_setSize 16 = .ok (.istore_n 3, 1) := by decide +kernel
theorem dX0_setSize_17 : decode cX0_setSize 17 = .ok (.aload_n 0, 1) := by decide +kernel
theorem dX0_setSize_18 : decode cX0_setSize 18 = .ok (.getfield 7, 3) := by decide +kernel
theorem dX0_setSize_21 : decode cX0_setSize 21 = .ok (.iload_n 1, 1) := by decide +kernel
theorem dX0_setSize_22 : decode cX0_setSize 22 = .ok (.iload_n 2, 1) := by decide +kernel
theorem dX0_setSize_23 : decode cX0_setSize 23 = .ok (.ifCond .ge 7, 3) := by decide +kernel
theorem dX0_setSize_26 : decode cX0_setSize 26 = .ok (.iconst 0, 1) := by decide +kernel
theorem dX0_setSize_27 : decode cX0_setSize 27 = .ok (.goto 17, 3) := by decide +kernel
theorem dX0_setSize_30 : decode cX0_setSize 30 = .ok (.iload_n 2, 1) := by decide +kernel
theorem dX0_setSize_31 : decode cX0_setSize 31 = .ok (.sipush 1000, 3) := by decide +kernel
theorem dX0_setSize_34 : decode cX0_setSize 34 = .ok (.if_icmp .le 9, 3) := by decide +kernel
theorem dX0_setSize_37 : decode cX0_setSize 37 = .ok (.sipush 1000, 3) := by decide +kernel
theorem dX0_setSize_40 : decode cX0_setSize 40 = .ok (.goto 4, 3) := by decide +kernel
theorem dX0_setSize_43 : decode cX0_setSize 43 = .ok (.iload_n 2, 1) := by decide +kernel
theorem dX0_setSize_44 : decode cX0_setSize 44 = .ok (.iastore, 1) := by decide +kernel
theorem dX0_setSize_45 : decode cX0_setSize 45 = .ok (.aload_n 0, 1) := by decide +kernel
theorem dX0_setSize_46 : decode cX0_setSize 46 = .ok (.iconst 0, 1) := by decide +kernel
theorem dX0_setSize_47 : decode cX0_setSize 47 = .ok (.putfield 71, 3) := by decide +kernel
theorem dX0_setSize_50 : decode cX0_setSize 50 = .ok (.iload_n 3, 1) := by decide +kernel
theorem dX0_setSize_51 : decode cX0_setSize 51 = .ok (.ireturn, 1) := by decide +kernel
theorem dX0_isObject_0 : decode cX0_isObject 0 = .ok (.iload_n 0, 1) := by decide +kernel
theorem dX0_isObject_1 : decode cX0_isObject 1 = .ok (.ifCond .lt 13, 3) := by decide +kernel
theorem dX0_isObject_4 : decode cX0_isObject 4 = .ok (.iload_n 0, 1) := by decide +kernel
theorem dX0_isObject_5 : decode cX0_isObject 5 = .ok (.bipush 15, 2) := by decide +kernel
theorem dX0_isObject_7 : decode cX0_isObject 7 = .ok (.if_icmp .gt 7, 3) := by decide +kernel
theorem dX0_isObject_10 : decode cX0_isObject 10 = .ok (.iconst 1, 1) := by decide +kernel
theorem dX0_isObject_11 : decode cX0_isObject 11 = .ok (.goto 4, 3) := by decide +kernel
theorem dX0_isObject_14 : decode cX0_isObject 14 = .ok (.iconst 0, 1) := by decide +kernel
theorem dX0_isObject_15 : decode cX0_isObject 15 = .ok (.ireturn, 1) := by decide +kernel
theorem dX0_flip_0 : decode cX0_flip 0 = .ok (.iload_n 1, 1) := by decide +kernel
theorem dX0_flip_1 : decode cX0_flip 1 = .ok (.invokestatic 67, 3) := by decide +kernel
theorem dX0_flip_4 : decode cX0_flip 4 = .ok (.ifCond .eq 10, 3) := by decide +kernel
theorem dX0_flip_7 : decode cX0_flip 7 = .ok (.iload_n 2, 1) := by decide +kernel
theorem dX0_flip_8 : decode cX0_flip 8 = .ok (.invokestatic 67, 3) := by decide +kernel
theorem dX0_flip_11 : decode cX0_flip 11 = .ok (.ifCond .ne 6, 3) := by decide +kernel
theorem dX0_flip_14 : decode cX0_flip 14 = .ok (.bipush (-2), 2) := by decide +kernel
theorem dX0_flip_16 : decode cX0_flip 16 = .ok (.ireturn, 1) := by decide +kernel
theorem dX0_flip_17 : decode cX0_flip 17 = .ok (.aload_n 0, 1) := by decide +kernel
theorem dX0_flip_18 : decode cX0_flip 18 = .ok (.getfield 13, 3) := by decide +kernel
theorem dX0_flip_21 : decode cX0_flip 21 = .ok (.iload_n 1, 1) := by decide +kernel
theorem dX0_flip_22 : decode cX0_flip 22 = .ok (.dup2, 1) := by decide +kernel
theorem dX0_flip_23 : decode cX0_flip 23 = .ok (.iaload, 1) := by decide +kernel
theorem dX0_flip_24 : decode cX0_flip 24 = .ok (.iconst 1, 1) := by decide +kernel
theorem dX0_flip_25 : decode cX0_flip 25 = .ok (.iload_n 2, 1) := by decide +kernel
theorem dX0_flip_26 : decode cX0_flip 26 = .ok (.ishl, 1) := by decide +kernel
theorem dX0_flip_27 : decode cX0_flip 27 = .ok (.ixor, 1) := by decide +kernel
theorem dX0_flip_28 : decode cX0_flip 28 = .ok (.iastore, 1) := by decide +kernel
theorem dX0_flip_29 : decode cX0_flip 29 = .ok (.aload_n 0, 1) := by decide +kernel
theorem dX0_flip_30 : decode cX0_flip 30 = .ok (.iconst 0, 1) := by decide +kernel
theorem dX0_flip_31 : decode cX0_flip 31 = .ok (.putfield 71, 3) := by decide +kernel
theorem dX0_flip_34 : decode cX0_flip 34 = .ok (.aload_n 0, 1) := by decide +kernel
theorem dX0_flip_35 : decode cX0_flip 35 = .ok (.getfield 13, 3) := by decide +kernel
theorem dX0_flip_38 : decode cX0_flip 38 = .ok (.iload_n 1, 1) := by decide +kernel
theorem dX0_flip_39 : decode cX0_flip 39 = .ok (.iaload, 1) := by decide +kernel
theorem dX0_flip_40 : decode cX0_flip 40 = .ok (.iload_n 2, 1) := by decide +kernel
theorem dX0_flip_41 : decode cX0_flip 41 = .ok (.iushr, 1) := by decide +kernel
theorem dX0_flip_42 : decode cX0_flip 42 = .ok (.iconst 1, 1) := by decide +kernel
theorem dX0_flip_43 : decode cX0_flip 43 = .ok (.iand, 1) := by decide +kernel
theorem dX0_flip_44 : decode cX0_flip 44 = .ok (.ireturn, 1) := by decide +kernel
theorem dX0_setRoot_0 : decode cX0_setRoot 0 = .ok (.iload_n 1, 1) := by decide +kernel
theorem dX0_setRoot_1 : decode cX0_setRoot 1 = .ok (.invokestatic 67, 3) := by decide +kernel
theorem dX0_setRoot_4 : decode cX0_setRoot 4 = .ok (.ifCond .ne 6, 3) := by decide +kernel
theorem dX0_setRoot_7 : decode cX0_setRoot 7 = .ok (.bipush (-2), 2) := by decide +kernel
theorem dX0_setRoot_9 : decode cX0_setRoot 9 = .ok (.ireturn, 1) := by decide +kernel
theorem dX0_setRoot_10 : decode cX0_setRoot 10 = .ok (.aload_n 0, 1) := by decide +kernel
theorem dX0_setRoot_11 : decode cX0_setRoot 11 = .ok (.getfield 75, 3) := by decide +kernel
theorem dX0_setRoot_14 : decode cX0_setRoot 14 = .ok (.iload_n 1, 1) := by decide +kernel
theorem dX0_setRoot_15 : decode cX0_setRoot 15 = .ok (.iushr, 1) := by decide +kernel
theorem dX0_setRoot_16 : decode cX0_setRoot 16 = .ok (.iconst 1, 1) := by decide +kernel
theorem dX0_setRoot_17 : decode cX0_setRoot 17 = .ok (.iand, 1) := by decide +kernel
theorem dX0_setRoot_18 : decode cX0_setRoot 18 = .ok (.istore_n 3, 1) := by decide +kernel
theorem dX0_setRoot_19 : decode cX0_setRoot 19 = .ok (.aload_n 0, 1) := by decide +kernel
theorem dX0_setRoot_20 : decode cX0_setRoot 20 = .ok (.iload_n 2, 1) := by decide +kernel
theorem dX0_setRoot_21 : decode cX0_setRoot 21 = .ok (.ifCond .eq 14, 3) := by decide +kernel
theorem dX0_setRoot_24 : decode cX0_setRoot 24 = .ok (.aload_n 0, 1) := by decide +kernel
theorem dX0_setRoot_25 : decode cX0_setRoot 25 = .ok (.getfield 75, 3) := by decide +kernel
theorem dX0_setRoot_28 : decode cX0_setRoot 28 = .ok (.iconst 1, 1) := by decide +kernel
theorem dX0_setRoot_29 : decode cX0_setRoot 29 = .ok (.iload_n 1, 1) := by decide +kernel
theorem dX0_setRoot_30 : decode cX0_setRoot 30 = .ok (.ishl, 1) := by decide +kernel
theorem dX0_setRoot_31 : decode cX0_setRoot 31 = .ok (.ior, 1) := by decide +kernel
theorem dX0_setRoot_32 : decode cX0_setRoot 32 = .ok (.goto 13, 3) := by decide +kernel
theorem dX0_setRoot_35 : decode cX0_setRoot 35 = .ok (.aload_n 0, 1) := by decide +kernel
theorem dX0_setRoot_36 : decode cX0_setRoot 36 = .ok (.getfield 75, 3) := by decide +kernel
theorem dX0_setRoot_39 : decode cX0_setRoot 39 = .ok (.iconst 1, 1) := by decide +kernel
theorem dX0_setRoot_40 : decode cX0_setRoot 40 = .ok (.iload_n 1, 1) := by decide +kernel
theorem dX0_setRoot_41 : decode cX0_setRoot 41 = .ok (.ishl, 1) := by decide +kernel
theorem dX0_setRoot_42 : decode cX0_setRoot 42 = .ok (.iconst (-1), 1) := by decide +kernel
theorem dX0_setRoot_43 : decode cX0_setRoot 43 = .ok (.ixor, 1) := by decide +kernel
theorem dX0_setRoot_44 : decode cX0_setRoot 44 = .ok (.iand, 1) := by decide +kernel
theorem dX0_setRoot_45 : decode cX0_setRoot 45 = .ok (.putfield 75, 3) := by decide +kernel
theorem dX0_setRoot_48 : decode cX0_setRoot 48 = .ok (.aload_n 0, 1) := by decide +kernel
theorem dX0_setRoot_49 : decode cX0_setRoot 49 = .ok (.iconst 0, 1) := by decide +kernel
theorem dX0_setRoot_50 : decode cX0_setRoot 50 = .ok (.putfield 71, 3) := by decide +kernel
theorem dX0_setRoot_53 : decode cX0_setRoot 53 = .ok (.iload_n 3, 1) := by decide +kernel
theorem dX0_setRoot_54 : decode cX0_setRoot 54 = .ok (.ireturn, 1) := by decide +kernel
theorem dX0_alive_0 : decode cX0_alive 0 = .ok (.iload_n 1, 1) := by decide +kernel
theorem dX0_alive_1 : decode cX0_alive 1 = .ok (.invokestatic 67, 3) := by decide +kernel
theorem dX0_alive_4 : decode cX0_alive 4 = .ok (.ifCond .ne 6, 3) := by decide +kernel
theorem dX0_alive_7 : decode cX0_alive 7 = .ok (.bipush (-2), 2) := by decide +kernel
theorem dX0_alive_9 : decode cX0_alive 9 = .ok (.ireturn, 1) := by decide +kernel
theorem dX0_alive_10 : decode cX0_alive 10 = .ok (.aload_n 0, 1) := by decide +kernel
theorem dX0_alive_11 : decode cX0_alive 11 = .ok (.invokevirtual 79, 3) := by decide +kernel
theorem dX0_alive_14 : decode cX0_alive 14 = .ok (.aload_n 0, 1) := by decide +kernel
theorem dX0_alive_15 : decode cX0_alive 15 = .ok (.getfield 16, 3) := by decide +kernel
theorem dX0_alive_18 : decode cX0_alive 18 = .ok (.iload_n 1, 1) := by decide +kernel
theorem dX0_alive_19 : decode cX0_alive 19 = .ok (.iaload, 1) := by decide +kernel
theorem dX0_alive_20 : decode cX0_alive 20 = .ok (.ifCond .lt 7, 3) := by decide +kernel
theorem dX0_alive_23 : decode cX0_alive 23 = .ok (.iconst 1, 1) := by decide +kernel
theorem dX0_alive_24 : decode cX0_alive 24 = .ok (.goto 4, 3) := by decide +kernel
theorem dX0_alive_27 : decode cX0_alive 27 = .ok (.iconst 0, 1) := by decide +kernel
theorem dX0_alive_28 : decode cX0_alive 28 = .ok (.ireturn, 1) := by decide +kernel
theorem dX0_prepare_0 : decode cX0_prepare 0 = .ok (.aload_n 0, 1) := by decide +kernel
theorem dX0_prepare_1 : decode cX0_prepare 1 = .ok (.getfield 71, 3) := by decide +kernel
theorem dX0_prepare_4 : decode cX0_prepare 4 = .ok (.ifCond .eq 4, 3) := by decide +kernel
theorem dX0_prepare_7 : decode cX0_prepare 7 = .ok (.return_, 1) := by decide +kernel
theorem dX0_prepare_8 : decode cX0_prepare 8 = .ok (.aload_n 0, 1) := by decide +kernel
theorem dX0_prepare_9 : decode cX0_prepare 9 = .ok (.iconst 1, 1) := by decide +kernel
theorem dX0_prepare_10 : decode cX0_prepare 10 = .ok (.putfield 71, 3) := by decide +kernel
theorem dX0_prepare_13 : decode cX0_prepare 13 = .ok (.aload_n 0, 1) := by decide +kernel
theorem dX0_prepare_14 : decode cX0_prepare 14 = .ok (.getfield 13, 3) := by decide +kernel
theorem dX0_prepare_17 : decode cX0_prepare 17 = .ok (.bipush 16, 2) := by decide +kernel
theorem dX0_prepare_19 : decode cX0_prepare 19 = .ok (.aload_n 0, 1) := by decide +kernel
theorem dX0_prepare_20 : decode cX0_prepare 20 = .ok (.getfield 75, 3) := by decide +kernel
theorem dX0_prepare_23 : decode cX0_prepare 23 = .ok (.iastore, 1) := by decide +kernel
theorem dX0_prepare_24 : decode cX0_prepare 24 = .ok (.aload_n 0, 1) := by decide +kernel
theorem dX0_prepare_25 : decode cX0_prepare 25 = .ok (.invokevirtual 90, 3) := by decide +kernel
theorem dX0_prepare_28 : decode cX0_prepare 28 = .ok (.aload_n 0, 1) := by decide +kernel
theorem dX0_prepare_29 : decode cX0_prepare 29 = .ok (.invokevirtual 93, 3) := by decide +kernel
theorem dX0_prepare_32 : decode cX0_prepare 32 = .ok (.aload_n 0, 1) := by decide +kernel
theorem dX0_prepare_33 : decode cX0_prepare 33 = .ok (.invokevirtual 96, 3) := by decide +kernel
theorem dX0_prepare_36 : decode cX0_prepare 36 = .ok (.return_, 1) := by decide +kernel
theorem dX0_numberVertices_0 : decode cX0_numberVertices 0 = .ok (.iconst 0, 1) := by decide +kernel
theorem dX0_numberVertices_1 : decode cX0_numberVertices 1 = .ok (.istore_n 1, 1) := by decide +kernel
theorem dX0_numberVertices_2 : decode cX0_numberVertices 2 = .ok (.iload_n 1, 1) := by decide +kernel
theorem dX0_numberVertices_3 : decode cX0_numberVertices 3 = .ok (.bipush 17, 2) := by decide +kernel
theorem dX0_numberVertices_5 : decode cX0_numberVertices 5 = .ok (.if_icmp .ge 23, 3) := by decide +kernel
theorem dX0_numberVertices_8 : decode cX0_numberVertices 8 = .ok (.aload_n 0, 1) := by decide +kernel
theorem dX0_numberVertices_9 : decode cX0_numberVertices 9 = .ok (.getfield 16, 3) := by decide +kernel
theorem dX0_numberVertices_12 : decode cX0_numberVertices 12 = .ok (.iload_n 1, 1) := by decide +kernel
theorem dX0_numberVertices_13 : decode cX0_numberVertices 13 = .ok (.iconst (-1), 1) := by decide +kernel
theorem dX0_numberVertices_14 : decode cX0_numberVertices 14 = .ok (.iastore, 1) := by decide +kernel
theorem dX0_numberVertices_15 : decode cX0_numberVertices 15 = .ok (.aload_n 0, 1) := by decide +kernel
theorem dX0_numberVertices_16 : decode cX0_numberVertices 16 = .ok (.getfield 22, 3) := by decide +kernel
theorem dX0_numberVertices_19 : decode cX0_numberVertices 19 = .ok (.iload_n 1, 1) := by decide +kernel
theorem dX0_numberVertices_20 : decode cX0_numberVertices 20 = .ok (.iconst (-1), 1) := by decide +kernel
theorem dX0_numberVertices_21 : decode cX0_numberVertices 21 = .ok (.iastore, 1) := by decide +kernel
theorem dX0_numberVertices_22 : decode cX0_numberVertices 22 = .ok (.iinc 1 1, 3) := by decide +kernel
theorem dX0_numberVertices_25 : decode cX0_numberVertices 25 = .ok (.goto (-23), 3) := by decide +kernel
theorem dX0_numberVertices_28 : decode cX0_numberVertices 28 = .ok (.aload_n 0, 1) := by decide +kernel
theorem dX0_numberVertices_29 : decode cX0_numberVertices 29 = .ok (.iconst 0, 1) := by decide +kernel
theorem dX0_numberVertices_30 : decode cX0_numberVertices 30 = .ok (.putfield 99, 3) := by decide +kernel
theorem dX0_numberVertices_33 : decode cX0_numberVertices 33 = .ok (.aload_n 0, 1) := by decide +kernel
theorem dX0_numberVertices_34 : decode cX0_numberVertices 34 = .ok (.bipush 16, 2) := by decide +kernel
theorem dX0_numberVertices_36 : decode cX0_numberVertices 36 = .ok (.invokevirtual 102, 3) := by decide +kernel
theorem dX0_numberVertices_39 : decode cX0_numberVertices 39 = .ok (.aload_n 0, 1) := by decide +kernel
theorem dX0_numberVertices_40 : decode cX0_numberVertices 40 = .ok (.getfield 25, 3) := by decide +kernel
theorem dX0_numberVertices_43 : decode cX0_numberVertices 43 = .ok (.iconst 0, 1) := by decide +kernel
theorem dX0_numberVertices_44 : decode cX0_numberVertices 44 = .ok (.bipush 16, 2) := by decide +kernel
theorem dX0_numberVertices_46 : decode cX0_numberVertices 46 = .ok (.iastore, 1) := by decide +kernel
theorem dX0_numberVertices_47 : decode cX0_numberVertices 47 = .ok (.aload_n 0, 1) := by decide +kernel
theorem dX0_numberVertices_48 : decode cX0_numberVertices 48 = .ok (.getfield 28, 3) := by decide +kernel
theorem dX0_numberVertices_51 : decode cX0_numberVertices 51 = .ok (.iconst 0, 1) := by decide +kernel
theorem dX0_numberVertices_52 : decode cX0_numberVertices 52 = .ok (.aload_n 0, 1) := by decide +kernel
theorem dX0_numberVertices_53 : decode cX0_numberVertices 53 = .ok (.getfield 13, 3) := by decide +kernel
theorem dX0_numberVertices_56 : decode cX0_numberVertices 56 = .ok (.bipush 16, 2) := by decide +kernel
theorem dX0_numberVertices_58 : decode cX0_numberVertices 58 = .ok (.iaload, 1) := by decide +kernel
theorem dX0_numberVertices_59 : decode cX0_numberVertices 59 = .ok (.iastore, 1) := by decide +kernel
theorem dX0_numberVertices_60 : decode cX0_numberVertices 60 = .ok (.iconst 1, 1) := by decide +kernel
theorem dX0_numberVertices_61 : decode cX0_numberVertices 61 = .ok (.istore_n 1, 1) := by decide +kernel
theorem dX0_numberVertices_62 : decode cX0_numberVertices 62 = .ok (.iconst 0, 1) := by decide +kernel
theorem dX0_numberVertices_63 : decode cX0_numberVertices 63 = .ok (.istore_n 2, 1) := by decide +kernel
theorem dX0_numberVertices_64 : decode cX0_numberVertices 64 = .ok (.iload_n 2, 1) := by decide +kernel
theorem dX0_numberVertices_65 : decode cX0_numberVertices 65 = .ok (.sipush 400, 3) := by decide +kernel
theorem dX0_numberVertices_68 : decode cX0_numberVertices 68 = .ok (.if_icmp .ge 118, 3) := by decide +kernel
theorem dX0_numberVertices_71 : decode cX0_numberVertices 71 = .ok (.iload_n 1, 1) := by decide +kernel
theorem dX0_numberVertices_72 : decode cX0_numberVertices 72 = .ok (.ifCond .le 114, 3) := by decide +kernel
theorem dX0_numberVertices_75 : decode cX0_numberVertices 75 = .ok (.aload_n 0, 1) := by decide +kernel
theorem dX0_numberVertices_76 : decode cX0_numberVertices 76 = .ok (.getfield 25, 3) := by decide +kernel
theorem dX0_numberVertices_79 : decode cX0_numberVertices 79 = .ok (.iload_n 1, 1) := by decide +kernel
theorem dX0_numberVertices_80 : decode cX0_numberVertices 80 = .ok (.iconst 1, 1) := by decide +kernel
theorem dX0_numberVertices_81 : decode cX0_numberVertices 81 = .ok (.isub, 1) := by decide +kernel
theorem dX0_numberVertices_82 : decode cX0_numberVertices 82 = .ok (.iaload, 1) := by decide +kernel
theorem dX0_numberVertices_83 : decode cX0_numberVertices 83 = .ok (.istore_n 3, 1) := by decide +kernel
theorem dX0_numberVertices_84 : decode cX0_numberVertices 84 = .ok (.aload_n 0, 1) := by decide +kernel
theorem dX0_numberVertices_85 : decode cX0_numberVertices 85 = .ok (.getfield 28, 3) := by decide +kernel
theorem dX0_numberVertices_88 : decode cX0_numberVertices 88 = .ok (.iload_n 1, 1) := by decide +kernel
theorem dX0_numberVertices_89 : decode cX0_numberVertices 89 = .ok (.iconst 1, 1) := by decide +kernel
theorem dX0_numberVertices_90 : decode cX0_numberVertices 90 = .ok (.isub, 1) := by decide +kernel
theorem dX0_numberVertices_91 : decode cX0_numberVertices 91 = .ok (.iaload, 1) := by decide +kernel
theorem dX0_numberVertices_92 : decode cX0_numberVertices 92 = .ok (.invokestatic 106, 3) := by decide +kernel
theorem dX0_numberVertices_95 : decode cX0_numberVertices 95 = .ok (.istore 4, 2) := by decide +kernel
theorem dX0_numberVertices_97 : decode cX0_numberVertices 97 = .ok (.iload 4, 2) := by decide +kernel
theorem dX0_numberVertices_99 : decode cX0_numberVertices 99 = .ok (.ifCond .ge 9, 3) := by decide +kernel
theorem dX0_numberVertices_102 : decode cX0_numberVertices 102 = .ok (.iinc 1 (-1), 3) := by decide +kernel
theorem dX0_numberVertices_105 : decode cX0_numberVertices 105 = .ok (.goto 75, 3) := by decide +kernel
theorem dX0_numberVertices_108 : decode cX0_numberVertices 108 = .ok (.aload_n 0, 1) := by decide +kernel
theorem dX0_numberVertices_109 : decode cX0_numberVertices 109 = .ok (.getfield 28, 3) := by decide +kernel
theorem dX0_numberVertices_112 : decode cX0_numberVertices 112 = .ok (.iload_n 1, 1) := by decide +kernel
theorem dX0_numberVertices_113 : decode cX0_numberVertices 113 = .ok (.iconst 1, 1) := by decide +kernel
theorem dX0_numberVertices_114 : decode cX0_numberVertices 114 = .ok (.isub, 1) := by decide +kernel
theorem dX0_numberVertices_115 : decode cX0_numberVertices 115 = .ok (.dup2, 1) := by decide +kernel
theorem dX0_numberVertices_116 : decode cX0_numberVertices 116 = .ok (.iaload, 1) := by decide +kernel
theorem dX0_numberVertices_117 : decode cX0_numberVertices 117 = .ok (.iconst 1, 1) := by decide +kernel
theorem dX0_numberVertices_118 : decode cX0_numberVertices 118 = .ok (.iload 4, 2) := by decide +kernel
theorem dX0_numberVertices_120 : decode cX0_numberVertices 120 = .ok (.ishl, 1) := by decide +kernel
theorem dX0_numberVertices_121 : decode cX0_numberVertices 121 = .ok (.iconst (-1), 1) := by decide +kernel
theorem dX0_numberVertices_122 : decode cX0_numberVertices 122 = .ok (.ixor, 1) := by decide +kernel
theorem dX0_numberVertices_123 : decode cX0_numberVertices 123 = .ok (.iand, 1) := by decide +kernel
theorem dX0_numberVertices_124 : decode cX0_numberVertices 124 = .ok (.iastore, 1) := by decide +kernel
theorem dX0_numberVertices_125 : decode cX0_numberVertices 125 = .ok (.aload_n 0, 1) := by decide +kernel
theorem dX0_numberVertices_126 : decode cX0_numberVertices 126 = .ok (.getfield 16, 3) := by decide +kernel
theorem dX0_numberVertices_129 : decode cX0_numberVertices 129 = .ok (.iload 4, 2) := by decide +kernel
theorem dX0_numberVertices_131 : decode cX0_numberVertices 131 = .ok (.iaload, 1) := by decide +kernel
theorem dX0_numberVertices_132 : decode cX0_numberVertices 132 = .ok (.ifCond .ge 48, 3) := by decide +kernel
theorem dX0_numberVertices_135 : decode cX0_numberVertices 135 = .ok (.aload_n 0, 1) := by decide +kernel
theorem dX0_numberVertices_136 : decode cX0_numberVertices 136 = .ok (.getfield 22, 3) := by decide +kernel
theorem dX0_numberVertices_139 : decode cX0_numberVertices 139 = .ok (.aload_n 0, 1) := by decide +kernel
theorem dX0_numberVertices_140 : decode cX0_numberVertices 140 = .ok (.getfield 99, 3) := by decide +kernel
theorem dX0_numberVertices_143 : decode cX0_numberVertices 143 = .ok (.aload_n 0, 1) := by decide +kernel
theorem dX0_numberVertices_144 : decode cX0_numberVertices 144 = .ok (.getfield 16, 3) := by decide +kernel
theorem dX0_numberVertices_147 : decode cX0_numberVertices 147 = .ok (.iload_n 3, 1) := by decide +kernel
theorem dX0_numberVertices_148 : decode cX0_numberVertices 148 = .ok (.iaload, 1) := by decide +kernel
theorem dX0_numberVertices_149 : decode cX0_numberVertices 149 = .ok (.iastore, 1) := by decide +kernel
theorem dX0_numberVertices_150 : decode cX0_numberVertices 150 = .ok (.aload_n 0, 1) := by decide +kernel
theorem dX0_numberVertices_151 : decode cX0_numberVertices 151 = .ok (.iload 4, 2) := by decide +kernel
theorem dX0_numberVertices_153 : decode cX0_numberVertices 153 = .ok (.invokevirtual 102, 3) := by decide +kernel
theorem dX0_numberVertices_156 : decode cX0_numberVertices 156 = .ok (.aload_n 0, 1) := by decide +kernel
theorem dX0_numberVertices_157 : decode cX0_numberVertices 157 = .ok (.getfield 25, 3) := by decide +kernel
theorem dX0_numberVertices_160 : decode cX0_numberVertices 160 = .ok (.iload_n 1, 1) := by decide +kernel
theorem dX0_numberVertices_161 : decode cX0_numberVertices 161 = .ok (.iload 4, 2) := by decide +kernel
theorem dX0_numberVertices_163 : decode cX0_numberVertices 163 = .ok (.iastore, 1) := by decide +kernel
theorem dX0_numberVertices_164 : decode cX0_numberVertices 164 = .ok (.aload_n 0, 1) := by decide +kernel
theorem dX0_numberVertices_165 : decode cX0_numberVertices 165 = .ok (.getfield 28, 3) := by decide +kernel
theorem dX0_numberVertices_168 : decode cX0_numberVertices 168 = .ok (.iload_n 1, 1) := by decide +kernel
theorem dX0_numberVertices_169 : decode cX0_numberVertices 169 = .ok (.aload_n 0, 1) := by decide +kernel
theorem dX0_numberVertices_170 : decode cX0_numberVertices 170 = .ok (.getfield 13, 3) := by decide +kernel
theorem dX0_numberVertices_173 : decode cX0_numberVertices 173 = .ok (.iload 4, 2) := by decide +kernel
theorem dX0_numberVertices_175 : decode cX0_numberVertices 175 = .ok (.iaload, 1) := by decide +kernel
theorem dX0_numberVertices_176 : decode cX0_numberVertices 176 = .ok (.iastore, 1) := by decide +kernel
theorem dX0_numberVertices_177 : decode cX0_numberVertices 177 = .ok (.iinc 1 1, 3) := by decide +kernel
theorem dX0_numberVertices_180 : decode cX0_numberVertices 180 = .ok (.iinc 2 1, 3) := by decide +kernel
theorem dX0_numberVertices_183 : decode cX0_numberVertices 183 = .ok (.goto (-119), 3) := by decide +kernel
theorem dX0_numberVertices_186 : decode cX0_numberVertices 186 = .ok (.return_, 1) := by decide +kernel
theorem dX0_visit_0 : decode cX0_visit 0 = .ok (.aload_n 0, 1) := by decide +kernel
theorem dX0_visit_1 : decode cX0_visit 1 = .ok (.getfield 16, 3) := by decide +kernel
theorem dX0_visit_4 : decode cX0_visit 4 = .ok (.iload_n 1, 1) := by decide +kernel
theorem dX0_visit_5 : decode cX0_visit 5 = .ok (.aload_n 0, 1) := by decide +kernel
theorem dX0_visit_6 : decode cX0_visit 6 = .ok (.getfield 99, 3) := by decide +kernel
theorem dX0_visit_9 : decode cX0_visit 9 = .ok (.iastore, 1) := by decide +kernel
theorem dX0_visit_10 : decode cX0_visit 10 = .ok (.aload_n 0, 1) := by decide +kernel
theorem dX0_visit_11 : decode cX0_visit 11 = .ok (.getfield 19, 3) := by decide +kernel
theorem dX0_visit_14 : decode cX0_visit 14 = .ok (.aload_n 0, 1) := by decide +kernel
theorem dX0_visit_15 : decode cX0_visit 15 = .ok (.getfield 99, 3) := by decide +kernel
theorem dX0_visit_18 : decode cX0_visit 18 = .ok (.iload_n 1, 1) := by decide +kernel
theorem dX0_visit_19 : decode cX0_visit 19 = .ok (.iastore, 1) := by decide +kernel
theorem dX0_visit_20 : decode cX0_visit 20 = .ok (.aload_n 0, 1) := by decide +kernel
theorem dX0_visit_21 : decode cX0_visit 21 = .ok (.dup, 1) := by decide +kernel
theorem dX0_visit_22 : decode cX0_visit 22 = .ok (.getfield 99, 3) := by decide +kernel
theorem dX0_visit_25 : decode cX0_visit 25 = .ok (.iconst 1, 1) := by decide +kernel
theorem dX0_visit_26 : decode cX0_visit 26 = .ok (.iadd, 1) := by decide +kernel
theorem dX0_visit_27 : decode cX0_visit 27 = .ok (.putfield 99, 3) := by decide +kernel
theorem dX0_visit_30 : decode cX0_visit 30 = .ok (.return_, 1) := by decide +kernel
theorem dX0_lowestOf_0 : decode cX0_lowestOf 0 = .ok (.iconst 0, 1) := by decide +kernel
theorem dX0_lowestOf_1 : decode cX0_lowestOf 1 = .ok (.istore_n 1, 1) := by decide +kernel
theorem dX0_lowestOf_2 : decode cX0_lowestOf 2 = .ok (.iload_n 1, 1) := by decide +kernel
theorem dX0_lowestOf_3 : decode cX0_lowestOf 3 = .ok (.bipush 16, 2) := by decide +kernel
theorem dX0_lowestOf_5 : decode cX0_lowestOf 5 = .ok (.if_icmp .ge 19, 3) := by decide +kernel
theorem dX0_lowestOf_8 : decode cX0_lowestOf 8 = .ok (.iload_n 0, 1) := by decide +kernel
theorem dX0_lowestOf_9 : decode cX0_lowestOf 9 = .ok (.iload_n 1, 1) := by decide +kernel
theorem dX0_lowestOf_10 : decode cX0_lowestOf 10 = .ok (.iushr, 1) := by decide +kernel
theorem dX0_lowestOf_11 : decode cX0_lowestOf 11 = .ok (.iconst 1, 1) := by decide +kernel
theorem dX0_lowestOf_12 : decode cX0_lowestOf 12 = .ok (.iand, 1) := by decide +kernel
theorem dX0_lowestOf_13 : decode cX0_lowestOf 13 = .ok (.ifCond .eq 5, 3) := by decide +kernel
theorem dX0_lowestOf_16 : decode cX0_lowestOf 16 = .ok (.iload_n 1, 1) := by decide +kernel
theorem dX0_lowestOf_17 : decode cX0_lowestOf 17 = .ok (.ireturn, 1) := by decide +kernel
theorem dX0_lowestOf_18 : decode cX0_lowestOf 18 = .ok (.iinc 1 1, 3) := by decide +kernel
theorem dX0_lowestOf_21 : decode cX0_lowestOf 21 = .ok (.goto (-19), 3) := by decide +kernel
theorem dX0_lowestOf_24 : decode cX0_lowestOf 24 = .ok (.iconst (-1), 1) := by decide +kernel
theorem dX0_lowestOf_25 : decode cX0_lowestOf 25 = .ok (.ireturn, 1) := by decide +kernel
theorem dX0_findDominators_0 : decode cX0_findDominators 0 = .ok (.iconst 0, 1) := by decide +kernel
theorem dX0_findDominators_1 : decode cX0_findDominators 1 = .ok (.istore_n 1, 1) := by decide +kernel
theorem dX0_findDominators_2 : decode cX0_findDominators 2 = .ok (.iload_n 1, 1) := by decide +kernel
theorem dX0_findDominators_3 : decode cX0_findDominators 3 = .ok (.aload_n 0, 1) := by decide +kernel
theorem dX0_findDominators_4 : decode cX0_findDominators 4 = .ok (.getfield 99, 3) := by decide +kernel
theorem dX0_findDominators_7 : decode cX0_findDominators 7 = .ok (.if_icmp .ge 44, 3) := by decide +kernel
theorem dX0_findDominators_10 : decode cX0_findDominators 10 = .ok (.aload_n 0, 1) := by decide +kernel
theorem dX0_findDominators_11 : decode cX0_findDominators 11 = .ok (.getfield 31, 3) := by decide +kernel
theorem dX0_findDominators_14 : decode cX0_findDominators 14 = .ok (.iload_n 1, 1) := by decide +kernel
theorem dX0_findDominators_15 : decode cX0_findDominators 15 = .ok (.iload_n 1, 1) := by decide +kernel
theorem dX0_findDominators_16 : decode cX0_findDominators 16 = .ok (.iastore, 1) := by decide +kernel
theorem dX0_findDominators_17 : decode cX0_findDominators 17 = .ok (.aload_n 0, 1) := by decide +kernel
theorem dX0_findDominators_18 : decode cX0_findDominators 18 = .ok (.getfield 40, 3) := by decide +kernel
theorem dX0_findDominators_21 : decode cX0_findDominators 21 = .ok (.iload_n 1, 1) := by decide +kernel
theorem dX0_findDominators_22 : decode cX0_findDominators 22 = .ok (.iload_n 1, 1) := by decide +kernel
theorem dX0_findDominators_23 : decode cX0_findDominators 23 = .ok (.iastore, 1) := by decide +kernel
theorem dX0_findDominators_24 : decode cX0_findDominators 24 = .ok (.aload_n 0, 1) := by decide +kernel
theorem dX0_findDominators_25 : decode cX0_findDominators 25 = .ok (.getfield 34, 3) := by decide +kernel
theorem dX0_findDominators_28 : decode cX0_findDominators 28 = .ok (.iload_n 1, 1) := by decide +kernel
theorem dX0_findDominators_29 : decode cX0_findDominators 29 = .ok (.iconst (-1), 1) := by decide +kernel
theorem dX0_findDominators_30 : decode cX0_findDominators 30 = .ok (.iastore, 1) := by decide +kernel
theorem dX0_findDominators_31 : decode cX0_findDominators 31 = .ok (.aload_n 0, 1) := by decide +kernel
theorem dX0_findDominators_32 : decode cX0_findDominators 32 = .ok (.getfield 37, 3) := by decide +kernel
theorem dX0_findDominators_35 : decode cX0_findDominators 35 = .ok (.iload_n 1, 1) := by decide +kernel
theorem dX0_findDominators_36 : decode cX0_findDominators 36 = .ok (.iconst (-1), 1) := by decide +kernel
theorem dX0_findDominators_37 : decode cX0_findDominators 37 = .ok (.iastore, 1) := by decide +kernel
theorem dX0_findDominators_38 : decode cX0_findDominators 38 = .ok (.aload_n 0, 1) := by decide +kernel
theorem dX0_findDominators_39 : decode cX0_findDominators 39 = .ok (.getfield 46, 3) := by decide +kernel
theorem dX0_findDominators_42 : decode cX0_findDominators 42 = .ok (.iload_n 1, 1) := by decide +kernel
theorem dX0_findDominators_43 : decode cX0_findDominators 43 = .ok (.iconst (-1), 1) := by decide +kernel
theorem dX0_findDominators_44 : decode cX0_findDominators 44 = .ok (.iastore, 1) := by decide +kernel
theorem dX0_findDominators_45 : decode cX0_findDominators 45 = .ok (.iinc 1 1, 3) := by decide +kernel
theorem dX0_findDominators_48 : decode cX0_findDominators 48 = .ok (.goto (-46), 3) := by decide +kernel
theorem dX0_findDominators_51 : decode cX0_findDominators 51 = .ok (.aload_n 0, 1) := by decide +kernel
theorem dX0_findDominators_52 : decode cX0_findDominators 52 = .ok (.getfield 99, 3) := by decide +kernel
theorem dX0_findDominators_55 : decode cX0_findDominators 55 = .ok (.iconst 1, 1) := by decide +kernel
theorem dX0_findDominators_56 : decode cX0_findDominators 56 = .ok (.isub, 1) := by decide +kernel
theorem dX0_findDominators_57 : decode cX0_findDominators 57 = .ok (.istore_n 1, 1) := by decide +kernel
theorem dX0_findDominators_58 : decode cX0_findDominators 58 = .ok (.iload_n 1, 1) := by decide +kernel
theorem dX0_findDominators_59 : decode cX0_findDominators 59 = .ok (.ifCond .le 65, 3) := by decide +kernel
theorem dX0_findDominators_62 : decode cX0_findDominators 62 = .ok (.aload_n 0, 1) := by decide +kernel
theorem dX0_findDominators_63 : decode cX0_findDominators 63 = .ok (.iload_n 1, 1) := by decide +kernel
theorem dX0_findDominators_64 : decode cX0_findDominators 64 = .ok (.invokevirtual 109, 3) := by decide +kernel
theorem dX0_findDominators_67 : decode cX0_findDominators 67 = .ok (.aload_n 0, 1) := by decide +kernel
theorem dX0_findDominators_68 : decode cX0_findDominators 68 = .ok (.getfield 49, 3) := by decide +kernel
theorem dX0_findDominators_71 : decode cX0_findDominators 71 = .ok (.iload_n 1, 1) := by decide +kernel
theorem dX0_findDominators_72 : decode cX0_findDominators 72 = .ok (.aload_n 0, 1) := by decide +kernel
theorem dX0_findDominators_73 : decode cX0_findDominators 73 = .ok (.getfield 46, 3) := by decide +kernel
theorem dX0_findDominators_76 : decode cX0_findDominators 76 = .ok (.aload_n 0, 1) := by decide +kernel
theorem dX0_findDominators_77 : decode cX0_findDominators 77 = .ok (.getfield 31, 3) := by decide +kernel
theorem dX0_findDominators_80 : decode cX0_findDominators 80 = .ok (.iload_n 1, 1) := by decide +kernel
theorem dX0_findDominators_81 : decode cX0_findDominators 81 = .ok (.iaload, 1) := by decide +kernel
theorem dX0_findDominators_82 : decode cX0_findDominators 82 = .ok (.iaload, 1) := by decide +kernel
theorem dX0_findDominators_83 : decode cX0_findDominators 83 = .ok (.iastore, 1) := by decide +kernel
theorem dX0_findDominators_84 : decode cX0_findDominators 84 = .ok (.aload_n 0, 1) := by decide +kernel
theorem dX0_findDominators_85 : decode cX0_findDominators 85 = .ok (.getfield 46, 3) := by decide +kernel
theorem dX0_findDominators_88 : decode cX0_findDominators 88 = .ok (.aload_n 0, 1) := by decide +kernel
theorem dX0_findDominators_89 : decode cX0_findDominators 89 = .ok (.getfield 31, 3) := by decide +kernel
theorem dX0_findDominators_92 : decode cX0_findDominators 92 = .ok (.iload_n 1, 1) := by decide +kernel
theorem dX0_findDominators_93 : decode cX0_findDominators 93 = .ok (.iaload, 1) := by decide +kernel
theorem dX0_findDominators_94 : decode cX0_findDominators 94 = .ok (.iload_n 1, 1) := by decide +kernel
theorem dX0_findDominators_95 : decode cX0_findDominators 95 = .ok (.iastore, 1) := by decide +kernel
theorem dX0_findDominators_96 : decode cX0_findDominators 96 = .ok (.aload_n 0, 1) := by decide +kernel
theorem dX0_findDominators_97 : decode cX0_findDominators 97 = .ok (.getfield 37, 3) := by decide +kernel
theorem dX0_findDominators_100 : decode cX0_findDominators 100 = .ok (.iload_n 1, 1) := by decide +kernel
theorem dX0_findDominators_101 : decode cX0_findDominators 101 = .ok (.aload_n 0, 1) := by decide +kernel
theorem dX0_findDominators_102 : decode cX0_findDominators 102 = .ok (.getfield 22, 3) := by decide +kernel
theorem dX0_findDominators_105 : decode cX0_findDominators 105 = .ok (.iload_n 1, 1) := by decide +kernel
theorem dX0_findDominators_106 : decode cX0_findDominators 106 = .ok (.iaload, 1) := by decide +kernel
theorem dX0_findDominators_107 : decode cX0_findDominators 107 = .ok (.iastore, 1) := by decide +kernel
theorem dX0_findDominators_108 : decode cX0_findDominators 108 = .ok (.aload_n 0, 1) := by decide +kernel
theorem dX0_findDominators_109 : decode cX0_findDominators 109 = .ok (.aload_n 0, 1) := by decide +kernel
theorem dX0_findDominators_110 : decode cX0_findDominators 110 = .ok (.getfield 22, 3) := by decide +kernel
theorem dX0_findDominators_113 : decode cX0_findDominators 113 = .ok (.iload_n 1, 1) := by decide +kernel
theorem dX0_findDominators_114 : decode cX0_findDominators 114 = .ok (.iaload, 1) := by decide +kernel
theorem dX0_findDominators_115 : decode cX0_findDominators 115 = .ok (.invokevirtual 112, 3) := by decide +kernel
theorem dX0_findDominators_118 : decode cX0_findDominators 118 = .ok (.iinc 1 (-1), 3) := by decide +kernel
theorem dX0_findDominators_121 : decode cX0_findDominators 121 = .ok (.goto (-63), 3) := by decide +kernel
theorem dX0_findDominators_124 : decode cX0_findDominators 124 = .ok (.iconst 1, 1) := by decide +kernel
theorem dX0_findDominators_125 : decode cX0_findDominators 125 = .ok (.istore_n 1, 1) := by decide +kernel
theorem dX0_findDominators_126 : decode cX0_findDominators 126 = .ok (.iload_n 1, 1) := by decide +kernel
theorem dX0_findDominators_127 : decode cX0_findDominators 127 = .ok (.aload_n 0, 1) := by decide +kernel
theorem dX0_findDominators_128 : decode cX0_findDominators 128 = .ok (.getfield 99, 3) := by decide +kernel
theorem dX0_findDominators_131 : decode cX0_findDominators 131 = .ok (.if_icmp .ge 41, 3) := by decide +kernel
theorem dX0_findDominators_134 : decode cX0_findDominators 134 = .ok (.aload_n 0, 1) := by decide +kernel
theorem dX0_findDominators_135 : decode cX0_findDominators 135 = .ok (.getfield 34, 3) := by decide +kernel
theorem dX0_findDominators_138 : decode cX0_findDominators 138 = .ok (.iload_n 1, 1) := by decide +kernel
theorem dX0_findDominators_139 : decode cX0_findDominators 139 = .ok (.iaload, 1) := by decide +kernel
theorem dX0_findDominators_140 : decode cX0_findDominators 140 = .ok (.aload_n 0, 1) := by decide +kernel
theorem dX0_findDominators_141 : decode cX0_findDominators 141 = .ok (.getfield 31, 3) := by decide +kernel
theorem dX0_findDominators_144 : decode cX0_findDominators 144 = .ok (.iload_n 1, 1) := by decide +kernel
theorem dX0_findDominators_145 : decode cX0_findDominators 145 = .ok (.iaload, 1) := by decide +kernel
theorem dX0_findDominators_146 : decode cX0_findDominators 146 = .ok (.if_icmp .eq 20, 3) := by decide +kernel
theorem dX0_findDominators_149 : decode cX0_findDominators 149 = .ok (.aload_n 0, 1) := by decide +kernel
theorem dX0_findDominators_150 : decode cX0_findDominators 150 = .ok (.getfield 34, 3) := by decide +kernel
theorem dX0_findDominators_153 : decode cX0_findDominators 153 = .ok (.iload_n 1, 1) := by decide +kernel
theorem dX0_findDominators_154 : decode cX0_findDominators 154 = .ok (.aload_n 0, 1) := by decide +kernel
theorem dX0_findDominators_155 : decode cX0_findDominators 155 = .ok (.getfield 34, 3) := by decide +kernel
theorem dX0_findDominators_158 : decode cX0_findDominators 158 = .ok (.aload_n 0, 1) := by decide +kernel
theorem dX0_findDominators_159 : decode cX0_findDominators 159 = .ok (.getfield 34, 3) := by decide +kernel
theorem dX0_findDominators_162 : decode cX0_findDominators 162 = .ok (.iload_n 1, 1) := by decide +kernel
theorem dX0_findDominators_163 : decode cX0_findDominators 163 = .ok (.iaload, 1) := by decide +kernel
theorem dX0_findDominators_164 : decode cX0_findDominators 164 = .ok (.iaload, 1) := by decide +kernel
theorem dX0_findDominators_165 : decode cX0_findDominators 165 = .ok (.iastore, 1) := by decide +kernel
theorem dX0_findDominators_166 : decode cX0_findDominators 166 = .ok (.iinc 1 1, 3) := by decide +kernel
theorem dX0_findDominators_169 : decode cX0_findDominators 169 = .ok (.goto (-43), 3) := by decide +kernel
theorem dX0_findDominators_172 : decode cX0_findDominators 172 = .ok (.return_, 1) := by decide +kernel
theorem dX0_findSemi_0 : decode cX0_findSemi 0 = .ok (.aload_n 0, 1) := by decide +kernel
theorem dX0_findSemi_1 : decode cX0_findSemi 1 = .ok (.getfield 19, 3) := by decide +kernel
theorem dX0_findSemi_4 : decode cX0_findSemi 4 = .ok (.iload_n 1, 1) := by decide +kernel
theorem dX0_findSemi_5 : decode cX0_findSemi 5 = .ok (.iaload, 1) := by decide +kernel
theorem dX0_findSemi_6 : decode cX0_findSemi 6 = .ok (.istore_n 2, 1) := by decide +kernel
theorem dX0_findSemi_7 : decode cX0_findSemi 7 = .ok (.iconst 0, 1) := by decide +kernel
theorem dX0_findSemi_8 : decode cX0_findSemi 8 = .ok (.istore_n 3, 1) := by decide +kernel
theorem dX0_findSemi_9 : decode cX0_findSemi 9 = .ok (.iload_n 3, 1) := by decide +kernel
theorem dX0_findSemi_10 : decode cX0_findSemi 10 = .ok (.aload_n 0, 1) := by decide +kernel
theorem dX0_findSemi_11 : decode cX0_findSemi 11 = .ok (.getfield 99, 3) := by decide +kernel
theorem dX0_findSemi_14 : decode cX0_findSemi 14 = .ok (.if_icmp .ge 63, 3) := by decide +kernel
theorem dX0_findSemi_17 : decode cX0_findSemi 17 = .ok (.aload_n 0, 1) := by decide +kernel
theorem dX0_findSemi_18 : decode cX0_findSemi 18 = .ok (.getfield 13, 3) := by decide +kernel
theorem dX0_findSemi_21 : decode cX0_findSemi 21 = .ok (.aload_n 0, 1) := by decide +kernel
theorem dX0_findSemi_22 : decode cX0_findSemi 22 = .ok (.getfield 19, 3) := by decide +kernel
theorem dX0_findSemi_25 : decode cX0_findSemi 25 = .ok (.iload_n 3, 1) := by decide +kernel
theorem dX0_findSemi_26 : decode cX0_findSemi 26 = .ok (.iaload, 1) := by decide +kernel
theorem dX0_findSemi_27 : decode cX0_findSemi 27 = .ok (.iaload, 1) := by decide +kernel
theorem dX0_findSemi_28 : decode cX0_findSemi 28 = .ok (.iload_n 2, 1) := by decide +kernel
theorem dX0_findSemi_29 : decode cX0_findSemi 29 = .ok (.iushr, 1) := by decide +kernel
theorem dX0_findSemi_30 : decode cX0_findSemi 30 = .ok (.iconst 1, 1) := by decide +kernel
theorem dX0_findSemi_31 : decode cX0_findSemi 31 = .ok (.iand, 1) := by decide +kernel
theorem dX0_findSemi_32 : decode cX0_findSemi 32 = .ok (.ifCond .eq 39, 3) := by decide +kernel
theorem dX0_findSemi_35 : decode cX0_findSemi 35 = .ok (.aload_n 0, 1) := by decide +kernel
theorem dX0_findSemi_36 : decode cX0_findSemi 36 = .ok (.iload_n 3, 1) := by decide +kernel
theorem dX0_findSemi_37 : decode cX0_findSemi 37 = .ok (.invokevirtual 115, 3) := by decide +kernel
theorem dX0_findSemi_40 : decode cX0_findSemi 40 = .ok (.istore 4, 2) := by decide +kernel
theorem dX0_findSemi_42 : decode cX0_findSemi 42 = .ok (.aload_n 0, 1) := by decide +kernel
theorem dX0_findSemi_43 : decode cX0_findSemi 43 = .ok (.getfield 31, 3) := by decide +kernel
theorem dX0_findSemi_46 : decode cX0_findSemi 46 = .ok (.iload 4, 2) := by decide +kernel
theorem dX0_findSemi_48 : decode cX0_findSemi 48 = .ok (.iaload, 1) := by decide +kernel
theorem dX0_findSemi_49 : decode cX0_findSemi 49 = .ok (.aload_n 0, 1) := by decide +kernel
theorem dX0_findSemi_50 : decode cX0_findSemi 50 = .ok (.getfield 31, 3) := by decide +kernel
theorem dX0_findSemi_53 : decode cX0_findSemi 53 = .ok (.iload_n 1, 1) := by decide +kernel
theorem dX0_findSemi_54 : decode cX0_findSemi 54 = .ok (.iaload, 1) := by decide +kernel
theorem dX0_findSemi_55 : decode cX0_findSemi 55 = .ok (.if_icmp .ge 16, 3) := by decide +kernel
theorem dX0_findSemi_58 : decode cX0_findSemi 58 = .ok (.aload_n 0, 1) := by decide +kernel
theorem dX0_findSemi_59 : decode cX0_findSemi 59 = .ok (.getfield 31, 3) := by decide +kernel
theorem dX0_findSemi_62 : decode cX0_findSemi 62 = .ok (.iload_n 1, 1) := by decide +kernel
theorem dX0_findSemi_63 : decode cX0_findSemi 63 = .ok (.aload_n 0, 1) := by decide +kernel
theorem dX0_findSemi_64 : decode cX0_findSemi 64 = .ok (.getfield 31, 3) := by decide +kernel
theorem dX0_findSemi_67 : decode cX0_findSemi 67 = .ok (.iload 4, 2) := by decide +kernel
theorem dX0_findSemi_69 : decode cX0_findSemi 69 = .ok (.iaload, 1) := by decide +kernel
theorem dX0_findSemi_70 : decode cX0_findSemi 70 = .ok (.iastore, 1) := by decide +kernel
theorem dX0_findSemi_71 : decode cX0_findSemi 71 = .ok (.iinc 3 1, 3) := by decide +kernel
theorem dX0_findSemi_74 : decode cX0_findSemi 74 = .ok (.goto (-65), 3) := by decide +kernel
theorem dX0_findSemi_77 : decode cX0_findSemi 77 = .ok (.return_, 1) := by decide +kernel
theorem dX0_evaluate_0 : decode cX0_evaluate 0 = .ok (.aload_n 0, 1) := by decide +kernel
theorem dX0_evaluate_1 : decode cX0_evaluate 1 = .ok (.getfield 37, 3) := by decide +kernel
theorem dX0_evaluate_4 : decode cX0_evaluate 4 = .ok (.iload_n 1, 1) := by decide +kernel
theorem dX0_evaluate_5 : decode cX0_evaluate 5 = .ok (.iaload, 1) := by decide +kernel
theorem dX0_evaluate_6 : decode cX0_evaluate 6 = .ok (.ifCond .ge 10, 3) := by decide +kernel
theorem dX0_evaluate_9 : decode cX0_evaluate 9 = .ok (.aload_n 0, 1) := by decide +kernel
theorem dX0_evaluate_10 : decode cX0_evaluate 10 = .ok (.getfield 40, 3) := by decide +kernel
theorem dX0_evaluate_13 : decode cX0_evaluate 13 = .ok (.iload_n 1, 1) := by decide +kernel
theorem dX0_evaluate_14 : decode cX0_evaluate 14 = .ok (.iaload, 1) := by decide +kernel
theorem dX0_evaluate_15 : decode cX0_evaluate 15 = .ok (.ireturn, 1) := by decide +kernel
theorem dX0_evaluate_16 : decode cX0_evaluate 16 = .ok (.iconst 0, 1) := by decide +kernel
theorem dX0_evaluate_17 : decode cX0_evaluate 17 = .ok (.istore_n 2, 1) := by decide +kernel
theorem dX0_evaluate_18 : decode cX0_evaluate 18 = .ok (.iload_n 1, 1) := by decide +kernel
theorem dX0_evaluate_19 : decode cX0_evaluate 19 = .ok (.istore_n 3, 1) := by decide +kernel
theorem dX0_evaluate_20 : decode cX0_evaluate 20 = .ok (.iconst 0, 1) := by decide +kernel
theorem dX0_evaluate_21 : decode cX0_evaluate 21 = .ok (.istore 4, 2) := by decide +kernel
theorem dX0_evaluate_23 : decode cX0_evaluate 23 = .ok (.iload 4, 2) := by decide +kernel
theorem dX0_evaluate_25 : decode cX0_evaluate 25 = .ok (.bipush 17, 2) := by decide +kernel
theorem dX0_evaluate_27 : decode cX0_evaluate 27 = .ok (.if_icmp .ge 40, 3) := by decide +kernel
theorem dX0_evaluate_30 : decode cX0_evaluate 30 = .ok (.aload_n 0, 1) := by decide +kernel
theorem dX0_evaluate_31 : decode cX0_evaluate 31 = .ok (.getfield 37, 3) := by decide +kernel
theorem dX0_evaluate_34 : decode cX0_evaluate 34 = .ok (.aload_n 0, 1) := by decide +kernel
theorem dX0_evaluate_35 : decode cX0_evaluate 35 = .ok (.getfield 37, 3) := by decide +kernel
theorem dX0_evaluate_38 : decode cX0_evaluate 38 = .ok (.iload_n 3, 1) := by decide +kernel
theorem dX0_evaluate_39 : decode cX0_evaluate 39 = .ok (.iaload, 1) := by decide +kernel
theorem dX0_evaluate_40 : decode cX0_evaluate 40 = .ok (.iaload, 1) := by decide +kernel
theorem dX0_evaluate_41 : decode cX0_evaluate 41 = .ok (.ifCond .lt 26, 3) := by decide +kernel
theorem dX0_evaluate_44 : decode cX0_evaluate 44 = .ok (.aload_n 0, 1) := by decide +kernel
theorem dX0_evaluate_45 : decode cX0_evaluate 45 = .ok (.getfield 43, 3) := by decide +kernel
theorem dX0_evaluate_48 : decode cX0_evaluate 48 = .ok (.iload_n 2, 1) := by decide +kernel
theorem dX0_evaluate_49 : decode cX0_evaluate 49 = .ok (.iload_n 3, 1) := by decide +kernel
theorem dX0_evaluate_50 : decode cX0_evaluate 50 = .ok (.iastore, 1) := by decide +kernel
theorem dX0_evaluate_51 : decode cX0_evaluate 51 = .ok (.iinc 2 1, 3) := by decide +kernel
theorem dX0_evaluate_54 : decode cX0_evaluate 54 = .ok (.aload_n 0, 1) := by decide +kernel
theorem dX0_evaluate_55 : decode cX0_evaluate 55 = .ok (.getfield 37, 3) := by decide +kernel
theorem dX0_evaluate_58 : decode cX0_evaluate 58 = .ok (.iload_n 3, 1) := by decide +kernel
theorem dX0_evaluate_59 : decode cX0_evaluate 59 = .ok (.iaload, 1) := by decide +kernel
theorem dX0_evaluate_60 : decode cX0_evaluate 60 = .ok (.istore_n 3, 1) := by decide +kernel
theorem dX0_evaluate_61 : decode cX0_evaluate 61 = .ok (.iinc 4 1, 3) := by decide +kernel
theorem dX0_evaluate_64 : decode cX0_evaluate 64 = .ok (.goto (-41), 3) := by decide +kernel
theorem dX0_evaluate_67 : decode cX0_evaluate 67 = .ok (.iload_n 2, 1) := by decide +kernel
theorem dX0_evaluate_68 : decode cX0_evaluate 68 = .ok (.iconst 1, 1) := by decide +kernel
theorem dX0_evaluate_69 : decode cX0_evaluate 69 = .ok (.isub, 1) := by decide +kernel
theorem dX0_evaluate_70 : decode cX0_evaluate 70 = .ok (.istore 4, 2) := by decide +kernel
theorem dX0_evaluate_72 : decode cX0_evaluate 72 = .ok (.iload 4, 2) := by decide +kernel
theorem dX0_evaluate_74 : decode cX0_evaluate 74 = .ok (.ifCond .lt 82, 3) := by decide +kernel
theorem dX0_evaluate_77 : decode cX0_evaluate 77 = .ok (.aload_n 0, 1) := by decide +kernel
theorem dX0_evaluate_78 : decode cX0_evaluate 78 = .ok (.getfield 43, 3) := by decide +kernel
theorem dX0_evaluate_81 : decode cX0_evaluate 81 = .ok (.iload 4, 2) := by decide +kernel
theorem dX0_evaluate_83 : decode cX0_evaluate 83 = .ok (.iaload, 1) := by decide +kernel
theorem dX0_evaluate_84 : decode cX0_evaluate 84 = .ok (.istore 5, 2) := by decide +kernel
theorem dX0_evaluate_86 : decode cX0_evaluate 86 = .ok (.aload_n 0, 1) := by decide +kernel
theorem dX0_evaluate_87 : decode cX0_evaluate 87 = .ok (.getfield 37, 3) := by decide +kernel
theorem dX0_evaluate_90 : decode cX0_evaluate 90 = .ok (.iload 5, 2) := by decide +kernel
theorem dX0_evaluate_92 : decode cX0_evaluate 92 = .ok (.iaload, 1) := by decide +kernel
theorem dX0_evaluate_93 : decode cX0_evaluate 93 = .ok (.istore 6, 2) := by decide +kernel
theorem dX0_evaluate_95 : decode cX0_evaluate 95 = .ok (.aload_n 0, 1) := by decide +kernel
theorem dX0_evaluate_96 : decode cX0_evaluate 96 = .ok (.getfield 31, 3) := by decide +kernel
theorem dX0_evaluate_99 : decode cX0_evaluate 99 = .ok (.aload_n 0, 1) := by decide +kernel
theorem dX0_evaluate_100 : decode cX0_evaluate 100 = .ok (.getfield 40, 3) := by decide +kernel
theorem dX0_evaluate_103 : decode cX0_evaluate 103 = .ok (.iload 6, 2) := by decide +kernel
theorem dX0_evaluate_105 : decode cX0_evaluate 105 = .ok (.iaload, 1) := by decide +kernel
theorem dX0_evaluate_106 : decode cX0_evaluate 106 = .ok (.iaload, 1) := by decide +kernel
theorem dX0_evaluate_107 : decode cX0_evaluate 107 = .ok (.aload_n 0, 1) := by decide +kernel
theorem dX0_evaluate_108 : decode cX0_evaluate 108 = .ok (.getfield 31, 3) := by decide +kernel
theorem dX0_evaluate_111 : decode cX0_evaluate 111 = .ok (.aload_n 0, 1) := by decide +kernel
theorem dX0_evaluate_112 : decode cX0_evaluate 112 = .ok (.getfield 40, 3) := by decide +kernel
theorem dX0_evaluate_115 : decode cX0_evaluate 115 = .ok (.iload 5, 2) := by decide +kernel
theorem dX0_evaluate_117 : decode cX0_evaluate 117 = .ok (.iaload, 1) := by decide +kernel
theorem dX0_evaluate_118 : decode cX0_evaluate 118 = .ok (.iaload, 1) := by decide +kernel
theorem dX0_evaluate_119 : decode cX0_evaluate 119 = .ok (.if_icmp .ge 17, 3) := by decide +kernel
theorem dX0_evaluate_122 : decode cX0_evaluate 122 = .ok (.aload_n 0, 1) := by decide +kernel
theorem dX0_evaluate_123 : decode cX0_evaluate 123 = .ok (.getfield 40, 3) := by decide +kernel
theorem dX0_evaluate_126 : decode cX0_evaluate 126 = .ok (.iload 5, 2) := by decide +kernel
theorem dX0_evaluate_128 : decode cX0_evaluate 128 = .ok (.aload_n 0, 1) := by decide +kernel
theorem dX0_evaluate_129 : decode cX0_evaluate 129 = .ok (.getfield 40, 3) := by decide +kernel
theorem dX0_evaluate_132 : decode cX0_evaluate 132 = .ok (.iload 6, 2) := by decide +kernel
theorem dX0_evaluate_134 : decode cX0_evaluate 134 = .ok (.iaload, 1) := by decide +kernel
theorem dX0_evaluate_135 : decode cX0_evaluate 135 = .ok (.iastore, 1) := by decide +kernel
theorem dX0_evaluate_136 : decode cX0_evaluate 136 = .ok (.aload_n 0, 1) := by decide +kernel
theorem dX0_evaluate_137 : decode cX0_evaluate 137 = .ok (.getfield 37, 3) := by decide +kernel
theorem dX0_evaluate_140 : decode cX0_evaluate 140 = .ok (.iload 5, 2) := by decide +kernel
theorem dX0_evaluate_142 : decode cX0_evaluate 142 = .ok (.aload_n 0, 1) := by decide +kernel
theorem dX0_evaluate_143 : decode cX0_evaluate 143 = .ok (.getfield 37, 3) := by decide +kernel
theorem dX0_evaluate_146 : decode cX0_evaluate 146 = .ok (.iload 6, 2) := by decide +kernel
theorem dX0_evaluate_148 : decode cX0_evaluate 148 = .ok (.iaload, 1) := by decide +kernel
theorem dX0_evaluate_149 : decode cX0_evaluate 149 = .ok (.iastore, 1) := by decide +kernel
theorem dX0_evaluate_150 : decode cX0_evaluate 150 = .ok (.iinc 4 (-1), 3) := by decide +kernel
theorem dX0_evaluate_153 : decode cX0_evaluate 153 = .ok (.goto (-81), 3) := by decide +kernel
theorem dX0_evaluate_156 : decode cX0_evaluate 156 = .ok (.aload_n 0, 1) := by decide +kernel
theorem dX0_evaluate_157 : decode cX0_evaluate 157 = .ok (.getfield 40, 3) := by decide +kernel
theorem dX0_evaluate_160 : decode cX0_evaluate 160 = .ok (.iload_n 1, 1) := by decide +kernel
theorem dX0_evaluate_161 : decode cX0_evaluate 161 = .ok (.iaload, 1) := by decide +kernel
theorem dX0_evaluate_162 : decode cX0_evaluate 162 = .ok (.ireturn, 1) := by decide +kernel
end
section
set_option maxRecDepth 100000
theorem dX0_emptyBucket_0 : decode cX0_emptyBucket 0 = .ok (.aload_n 0, 1) := by decide +kernel
theorem dX0_emptyBucket_1 : decode cX0_emptyBucket 1 = .ok (.getfield 46, 3) := by decide +kernel
theorem dX0_emptyBucket_4 : decode cX0_emptyBucket 4 = .ok (.iload_n 1, 1) := by decide +kernel
theorem dX0_emptyBucket_5 : decode cX0_emptyBucket 5 = .ok (.iaload, 1) := by decide +kernel
theorem dX0_emptyBucket_6 : decode cX0_emptyBucket 6 = .ok (.istore_n 2, 1) := by decide +kernel
theorem dX0_emptyBucket_7 : decode cX0_emptyBucket 7 = .ok (.iconst 0, 1) := by decide +kernel
theorem dX0_emptyBucket_8 : decode cX0_emptyBucket 8 = .ok (.istore_n 3, 1) := by decide +kernel
theorem dX0_emptyBucket_9 : decode cX0_emptyBucket 9 = .ok (.iload_n 3, 1) := by decide +kernel
theorem dX0_emptyBucket_10 : decode cX0_emptyBucket 10 = .ok (.bipush 17, 2) := by decide +kernel
theorem dX0_emptyBucket_12 : decode cX0_emptyBucket 12 = .ok (.if_icmp .ge 55, 3) := by decide +kernel
theorem dX0_emptyBucket_15 : decode cX0_emptyBucket 15 = .ok (.iload_n 2, 1) := by decide +kernel
theorem dX0_emptyBucket_16 : decode cX0_emptyBucket 16 = .ok (.ifCond .lt 51, 3) := by decide +kernel
theorem dX0_emptyBucket_19 : decode cX0_emptyBucket 19 = .ok (.aload_n 0, 1) := by decide +kernel
theorem dX0_emptyBucket_20 : decode cX0_emptyBucket 20 = .ok (.iload_n 2, 1) := by decide +kernel
theorem dX0_emptyBucket_21 : decode cX0_emptyBucket 21 = .ok (.invokevirtual 115, 3) := by decide +kernel
theorem dX0_emptyBucket_24 : decode cX0_emptyBucket 24 = .ok (.istore 4, 2) := by decide +kernel
theorem dX0_emptyBucket_26 : decode cX0_emptyBucket 26 = .ok (.aload_n 0, 1) := by decide +kernel
theorem dX0_emptyBucket_27 : decode cX0_emptyBucket 27 = .ok (.getfield 34, 3) := by decide +kernel
theorem dX0_emptyBucket_30 : decode cX0_emptyBucket 30 = .ok (.iload_n 2, 1) := by decide +kernel
theorem dX0_emptyBucket_31 : decode cX0_emptyBucket 31 = .ok (.aload_n 0, 1) := by decide +kernel
theorem dX0_emptyBucket_32 : decode cX0_emptyBucket 32 = .ok (.getfield 31, 3) := by decide +kernel
theorem dX0_emptyBucket_35 : decode cX0_emptyBucket 35 = .ok (.iload 4, 2) := by decide +kernel
theorem dX0_emptyBucket_37 : decode cX0_emptyBucket 37 = .ok (.iaload, 1) := by decide +kernel
theorem dX0_emptyBucket_38 : decode cX0_emptyBucket 38 = .ok (.aload_n 0, 1) := by decide +kernel
theorem dX0_emptyBucket_39 : decode cX0_emptyBucket 39 = .ok (.getfield 31, 3) := by decide +kernel
theorem dX0_emptyBucket_42 : decode cX0_emptyBucket 42 = .ok (.iload_n 2, 1) := by decide +kernel
theorem dX0_emptyBucket_43 : decode cX0_emptyBucket 43 = .ok (.iaload, 1) := by decide +kernel
theorem dX0_emptyBucket_44 : decode cX0_emptyBucket 44 = .ok (.if_icmp .ge 8, 3) := by decide +kernel
theorem dX0_emptyBucket_47 : decode cX0_emptyBucket 47 = .ok (.iload 4, 2) := by decide +kernel
theorem dX0_emptyBucket_49 : decode cX0_emptyBucket 49 = .ok (.goto 4, 3) := by decide +kernel
theorem dX0_emptyBucket_52 : decode cX0_emptyBucket 52 = .ok (.iload_n 1, 1) := by decide +kernel
theorem dX0_emptyBucket_53 : decode cX0_emptyBucket 53 = .ok (.iastore, 1) := by decide +kernel
theorem dX0_emptyBucket_54 : decode cX0_emptyBucket 54 = .ok (.aload_n 0, 1) := by decide +kernel
theorem dX0_emptyBucket_55 : decode cX0_emptyBucket 55 = .ok (.getfield 49, 3) := by decide +kernel
theorem dX0_emptyBucket_58 : decode cX0_emptyBucket 58 = .ok (.iload_n 2, 1) := by decide +kernel
theorem dX0_emptyBucket_59 : decode cX0_emptyBucket 59 = .ok (.iaload, 1) := by decide +kernel
theorem dX0_emptyBucket_60 : decode cX0_emptyBucket 60 = .ok (.istore_n 2, 1) := by decide +kernel
theorem dX0_emptyBucket_61 : decode cX0_emptyBucket 61 = .ok (.iinc 3 1, 3) := by decide +kernel
theorem dX0_emptyBucket_64 : decode cX0_emptyBucket 64 = .ok (.goto (-55), 3) := by decide +kernel
theorem dX0_emptyBucket_67 : decode cX0_emptyBucket 67 = .ok (.aload_n 0, 1) := by decide +kernel
theorem dX0_emptyBucket_68 : decode cX0_emptyBucket 68 = .ok (.getfield 46, 3) := by decide +kernel
theorem dX0_emptyBucket_71 : decode cX0_emptyBucket 71 = .ok (.iload_n 1, 1) := by decide +kernel
theorem dX0_emptyBucket_72 : decode cX0_emptyBucket 72 = .ok (.iconst (-1), 1) := by decide +kernel
theorem dX0_emptyBucket_73 : decode cX0_emptyBucket 73 = .ok (.iastore, 1) := by decide +kernel
theorem dX0_emptyBucket_74 : decode cX0_emptyBucket 74 = .ok (.return_, 1) := by decide +kernel
theorem dX0_layOutTree_0 : decode cX0_layOutTree 0 = .ok (.aload_n 0, 1) := by decide +kernel
theorem dX0_layOutTree_1 : decode cX0_layOutTree 1 = .ok (.getfield 52, 3) := by decide +kernel
theorem dX0_layOutTree_4 : decode cX0_layOutTree 4 = .ok (.bipush 16, 2) := by decide +kernel
theorem dX0_layOutTree_6 : decode cX0_layOutTree 6 = .ok (.bipush 16, 2) := by decide +kernel
theorem dX0_layOutTree_8 : decode cX0_layOutTree 8 = .ok (.iastore, 1) := by decide +kernel
theorem dX0_layOutTree_9 : decode cX0_layOutTree 9 = .ok (.aload_n 0, 1) := by decide +kernel
theorem dX0_layOutTree_10 : decode cX0_layOutTree 10 = .ok (.getfield 55, 3) := by decide +kernel
theorem dX0_layOutTree_13 : decode cX0_layOutTree 13 = .ok (.bipush 16, 2) := by decide +kernel
theorem dX0_layOutTree_15 : decode cX0_layOutTree 15 = .ok (.iconst 0, 1) := by decide +kernel
theorem dX0_layOutTree_16 : decode cX0_layOutTree 16 = .ok (.iastore, 1) := by decide +kernel
theorem dX0_layOutTree_17 : decode cX0_layOutTree 17 = .ok (.iconst 0, 1) := by decide +kernel
theorem dX0_layOutTree_18 : decode cX0_layOutTree 18 = .ok (.istore_n 1, 1) := by decide +kernel
theorem dX0_layOutTree_19 : decode cX0_layOutTree 19 = .ok (.iload_n 1, 1) := by decide +kernel
theorem dX0_layOutTree_20 : decode cX0_layOutTree 20 = .ok (.bipush 17, 2) := by decide +kernel
theorem dX0_layOutTree_22 : decode cX0_layOutTree 22 = .ok (.if_icmp .ge 41, 3) := by decide +kernel
theorem dX0_layOutTree_25 : decode cX0_layOutTree 25 = .ok (.aload_n 0, 1) := by decide +kernel
theorem dX0_layOutTree_26 : decode cX0_layOutTree 26 = .ok (.getfield 58, 3) := by decide +kernel
theorem dX0_layOutTree_29 : decode cX0_layOutTree 29 = .ok (.iload_n 1, 1) := by decide +kernel
theorem dX0_layOutTree_30 : decode cX0_layOutTree 30 = .ok (.aload_n 0, 1) := by decide +kernel
theorem dX0_layOutTree_31 : decode cX0_layOutTree 31 = .ok (.getfield 16, 3) := by decide +kernel
theorem dX0_layOutTree_34 : decode cX0_layOutTree 34 = .ok (.iload_n 1, 1) := by decide +kernel
theorem dX0_layOutTree_35 : decode cX0_layOutTree 35 = .ok (.iaload, 1) := by decide +kernel
theorem dX0_layOutTree_36 : decode cX0_layOutTree 36 = .ok (.ifCond .lt 12, 3) := by decide +kernel
theorem dX0_layOutTree_39 : decode cX0_layOutTree 39 = .ok (.aload_n 0, 1) := by decide +kernel
theorem dX0_layOutTree_40 : decode cX0_layOutTree 40 = .ok (.getfield 7, 3) := by decide +kernel
theorem dX0_layOutTree_43 : decode cX0_layOutTree 43 = .ok (.iload_n 1, 1) := by decide +kernel
theorem dX0_layOutTree_44 : decode cX0_layOutTree 44 = .ok (.iaload, 1) := by decide +kernel
theorem dX0_layOutTree_45 : decode cX0_layOutTree 45 = .ok (.goto 4, 3) := by decide +kernel
theorem dX0_layOutTree_48 : decode cX0_layOutTree 48 = .ok (.iconst 0, 1) := by decide +kernel
theorem dX0_layOutTree_49 : decode cX0_layOutTree 49 = .ok (.iastore, 1) := by decide +kernel
theorem dX0_layOutTree_50 : decode cX0_layOutTree 50 = .ok (.aload_n 0, 1) := by decide +kernel
theorem dX0_layOutTree_51 : decode cX0_layOutTree 51 = .ok (.getfield 46, 3) := by decide +kernel
theorem dX0_layOutTree_54 : decode cX0_layOutTree 54 = .ok (.iload_n 1, 1) := by decide +kernel
theorem dX0_layOutTree_55 : decode cX0_layOutTree 55 = .ok (.iconst (-1), 1) := by decide +kernel
theorem dX0_layOutTree_56 : decode cX0_layOutTree 56 = .ok (.iastore, 1) := by decide +kernel
theorem dX0_layOutTree_57 : decode cX0_layOutTree 57 = .ok (.iinc 1 1, 3) := by decide +kernel
theorem dX0_layOutTree_60 : decode cX0_layOutTree 60 = .ok (.goto (-41), 3) := by decide +kernel
theorem dX0_layOutTree_63 : decode cX0_layOutTree 63 = .ok (.iconst 1, 1) := by decide +kernel
theorem dX0_layOutTree_64 : decode cX0_layOutTree 64 = .ok (.istore_n 1, 1) := by decide +kernel
theorem dX0_layOutTree_65 : decode cX0_layOutTree 65 = .ok (.iload_n 1, 1) := by decide +kernel
theorem dX0_layOutTree_66 : decode cX0_layOutTree 66 = .ok (.aload_n 0, 1) := by decide +kernel
theorem dX0_layOutTree_67 : decode cX0_layOutTree 67 = .ok (.getfield 99, 3) := by decide +kernel
theorem dX0_layOutTree_70 : decode cX0_layOutTree 70 = .ok (.if_icmp .ge 49, 3) := by decide +kernel
theorem dX0_layOutTree_73 : decode cX0_layOutTree 73 = .ok (.aload_n 0, 1) := by decide +kernel
theorem dX0_layOutTree_74 : decode cX0_layOutTree 74 = .ok (.getfield 19, 3) := by decide +kernel
theorem dX0_layOutTree_77 : decode cX0_layOutTree 77 = .ok (.iload_n 1, 1) := by decide +kernel
theorem dX0_layOutTree_78 : decode cX0_layOutTree 78 = .ok (.iaload, 1) := by decide +kernel
theorem dX0_layOutTree_79 : decode cX0_layOutTree 79 = .ok (.istore_n 2, 1) := by decide +kernel
theorem dX0_layOutTree_80 : decode cX0_layOutTree 80 = .ok (.aload_n 0, 1) := by decide +kernel
theorem dX0_layOutTree_81 : decode cX0_layOutTree 81 = .ok (.getfield 19, 3) := by decide +kernel
theorem dX0_layOutTree_84 : decode cX0_layOutTree 84 = .ok (.aload_n 0, 1) := by decide +kernel
theorem dX0_layOutTree_85 : decode cX0_layOutTree 85 = .ok (.getfield 34, 3) := by decide +kernel
theorem dX0_layOutTree_88 : decode cX0_layOutTree 88 = .ok (.iload_n 1, 1) := by decide +kernel
theorem dX0_layOutTree_89 : decode cX0_layOutTree 89 = .ok (.iaload, 1) := by decide +kernel
theorem dX0_layOutTree_90 : decode cX0_layOutTree 90 = .ok (.iaload, 1) := by decide +kernel
theorem dX0_layOutTree_91 : decode cX0_layOutTree 91 = .ok (.istore_n 3, 1) := by decide +kernel
theorem dX0_layOutTree_92 : decode cX0_layOutTree 92 = .ok (.aload_n 0, 1) := by decide +kernel
theorem dX0_layOutTree_93 : decode cX0_layOutTree 93 = .ok (.getfield 52, 3) := by decide +kernel
theorem dX0_layOutTree_96 : decode cX0_layOutTree 96 = .ok (.iload_n 2, 1) := by decide +kernel
theorem dX0_layOutTree_97 : decode cX0_layOutTree 97 = .ok (.iload_n 3, 1) := by decide +kernel
theorem dX0_layOutTree_98 : decode cX0_layOutTree 98 = .ok (.iastore, 1) := by decide +kernel
theorem dX0_layOutTree_99 : decode cX0_layOutTree 99 = .ok (.aload_n 0, 1) := by decide +kernel
theorem dX0_layOutTree_100 : decode cX0_layOutTree 100 = .ok (.getfield 55, 3) := by decide +kernel
theorem dX0_layOutTree_103 : decode cX0_layOutTree 103 = .ok (.iload_n 2, 1) := by decide +kernel
theorem dX0_layOutTree_104 : decode cX0_layOutTree 104 = .ok (.aload_n 0, 1) := by decide +kernel
theorem dX0_layOutTree_105 : decode cX0_layOutTree 105 = .ok (.getfield 55, 3) := by decide +kernel
theorem dX0_layOutTree_108 : decode cX0_layOutTree 108 = .ok (.iload_n 3, 1) := by decide +kernel
theorem dX0_layOutTree_109 : decode cX0_layOutTree 109 = .ok (.iaload, 1) := by decide +kernel
theorem dX0_layOutTree_110 : decode cX0_layOutTree 110 = .ok (.iconst 1, 1) := by decide +kernel
theorem dX0_layOutTree_111 : decode cX0_layOutTree 111 = .ok (.iadd, 1) := by decide +kernel
theorem dX0_layOutTree_112 : decode cX0_layOutTree 112 = .ok (.iastore, 1) := by decide +kernel
theorem dX0_layOutTree_113 : decode cX0_layOutTree 113 = .ok (.iinc 1 1, 3) := by decide +kernel
theorem dX0_layOutTree_116 : decode cX0_layOutTree 116 = .ok (.goto (-51), 3) := by decide +kernel
theorem dX0_layOutTree_119 : decode cX0_layOutTree 119 = .ok (.aload_n 0, 1) := by decide +kernel
theorem dX0_layOutTree_120 : decode cX0_layOutTree 120 = .ok (.getfield 99, 3) := by decide +kernel
theorem dX0_layOutTree_123 : decode cX0_layOutTree 123 = .ok (.iconst 1, 1) := by decide +kernel
theorem dX0_layOutTree_124 : decode cX0_layOutTree 124 = .ok (.isub, 1) := by decide +kernel
theorem dX0_layOutTree_125 : decode cX0_layOutTree 125 = .ok (.istore_n 1, 1) := by decide +kernel
theorem dX0_layOutTree_126 : decode cX0_layOutTree 126 = .ok (.iload_n 1, 1) := by decide +kernel
theorem dX0_layOutTree_127 : decode cX0_layOutTree 127 = .ok (.ifCond .le 57, 3) := by decide +kernel
theorem dX0_layOutTree_130 : decode cX0_layOutTree 130 = .ok (.aload_n 0, 1) := by decide +kernel
theorem dX0_layOutTree_131 : decode cX0_layOutTree 131 = .ok (.getfield 19, 3) := by decide +kernel
theorem dX0_layOutTree_134 : decode cX0_layOutTree 134 = .ok (.iload_n 1, 1) := by decide +kernel
theorem dX0_layOutTree_135 : decode cX0_layOutTree 135 = .ok (.iaload, 1) := by decide +kernel
theorem dX0_layOutTree_136 : decode cX0_layOutTree 136 = .ok (.istore_n 2, 1) := by decide +kernel
theorem dX0_layOutTree_137 : decode cX0_layOutTree 137 = .ok (.aload_n 0, 1) := by decide +kernel
theorem dX0_layOutTree_138 : decode cX0_layOutTree 138 = .ok (.getfield 52, 3) := by decide +kernel
theorem dX0_layOutTree_141 : decode cX0_layOutTree 141 = .ok (.iload_n 2, 1) := by decide +kernel
theorem dX0_layOutTree_142 : decode cX0_layOutTree 142 = .ok (.iaload, 1) := by decide +kernel
theorem dX0_layOutTree_143 : decode cX0_layOutTree 143 = .ok (.istore_n 3, 1) := by decide +kernel
theorem dX0_layOutTree_144 : decode cX0_layOutTree 144 = .ok (.aload_n 0, 1) := by decide +kernel
theorem dX0_layOutTree_145 : decode cX0_layOutTree 145 = .ok (.getfield 58, 3) := by decide +kernel
theorem dX0_layOutTree_148 : decode cX0_layOutTree 148 = .ok (.iload_n 3, 1) := by decide +kernel
theorem dX0_layOutTree_149 : decode cX0_layOutTree 149 = .ok (.dup2, 1) := by decide +kernel
theorem dX0_layOutTree_150 : decode cX0_layOutTree 150 = .ok (.iaload, 1) := by decide +kernel
theorem dX0_layOutTree_151 : decode cX0_layOutTree 151 = .ok (.aload_n 0, 1) := by decide +kernel
theorem dX0_layOutTree_152 : decode cX0_layOutTree 152 = .ok (.getfield 58, 3) := by decide +kernel
theorem dX0_layOutTree_155 : decode cX0_layOutTree 155 = .ok (.iload_n 2, 1) := by decide +kernel
theorem dX0_layOutTree_156 : decode cX0_layOutTree 156 = .ok (.iaload, 1) := by decide +kernel
theorem dX0_layOutTree_157 : decode cX0_layOutTree 157 = .ok (.iadd, 1) := by decide +kernel
theorem dX0_layOutTree_158 : decode cX0_layOutTree 158 = .ok (.iastore, 1) := by decide +kernel
theorem dX0_layOutTree_159 : decode cX0_layOutTree 159 = .ok (.aload_n 0, 1) := by decide +kernel
theorem dX0_layOutTree_160 : decode cX0_layOutTree 160 = .ok (.getfield 49, 3) := by decide +kernel
theorem dX0_layOutTree_163 : decode cX0_layOutTree 163 = .ok (.iload_n 2, 1) := by decide +kernel
theorem dX0_layOutTree_164 : decode cX0_layOutTree 164 = .ok (.aload_n 0, 1) := by decide +kernel
theorem dX0_layOutTree_165 : decode cX0_layOutTree 165 = .ok (.getfield 46, 3) := by decide +kernel
theorem dX0_layOutTree_168 : decode cX0_layOutTree 168 = .ok (.iload_n 3, 1) := by decide +kernel
theorem dX0_layOutTree_169 : decode cX0_layOutTree 169 = .ok (.iaload, 1) := by decide +kernel
theorem dX0_layOutTree_170 : decode cX0_layOutTree 170 = .ok (.iastore, 1) := by decide +kernel
theorem dX0_layOutTree_171 : decode cX0_layOutTree 171 = .ok (.aload_n 0, 1) := by decide +kernel
theorem dX0_layOutTree_172 : decode cX0_layOutTree 172 = .ok (.getfield 46, 3) := by decide +kernel
theorem dX0_layOutTree_175 : decode cX0_layOutTree 175 = .ok (.iload_n 3, 1) := by decide +kernel
theorem dX0_layOutTree_176 : decode cX0_layOutTree 176 = .ok (.iload_n 2, 1) := by decide +kernel
theorem dX0_layOutTree_177 : decode cX0_layOutTree 177 = .ok (.iastore, 1) := by decide +kernel
theorem dX0_layOutTree_178 : decode cX0_layOutTree 178 = .ok (.iinc 1 (-1), 3) := by decide +kernel
theorem dX0_layOutTree_181 : decode cX0_layOutTree 181 = .ok (.goto (-55), 3) := by decide +kernel
theorem dX0_layOutTree_184 : decode cX0_layOutTree 184 = .ok (.aload_n 0, 1) := by decide +kernel
theorem dX0_layOutTree_185 : decode cX0_layOutTree 185 = .ok (.invokevirtual 118, 3) := by decide +kernel
theorem dX0_layOutTree_188 : decode cX0_layOutTree 188 = .ok (.return_, 1) := by decide +kernel
theorem dX0_walkTree_0 : decode cX0_walkTree 0 = .ok (.iconst 0, 1) := by decide +kernel
theorem dX0_walkTree_1 : decode cX0_walkTree 1 = .ok (.istore_n 1, 1) := by decide +kernel
theorem dX0_walkTree_2 : decode cX0_walkTree 2 = .ok (.iconst 1, 1) := by decide +kernel
theorem dX0_walkTree_3 : decode cX0_walkTree 3 = .ok (.istore_n 2, 1) := by decide +kernel
theorem dX0_walkTree_4 : decode cX0_walkTree 4 = .ok (.aload_n 0, 1) := by decide +kernel
theorem dX0_walkTree_5 : decode cX0_walkTree 5 = .ok (.getfield 25, 3) := by decide +kernel
theorem dX0_walkTree_8 : decode cX0_walkTree 8 = .ok (.iconst 0, 1) := by decide +kernel
theorem dX0_walkTree_9 : decode cX0_walkTree 9 = .ok (.bipush 16, 2) := by decide +kernel
theorem dX0_walkTree_11 : decode cX0_walkTree 11 = .ok (.iastore, 1) := by decide +kernel
theorem dX0_walkTree_12 : decode cX0_walkTree 12 = .ok (.aload_n 0, 1) := by decide +kernel
theorem dX0_walkTree_13 : decode cX0_walkTree 13 = .ok (.getfield 61, 3) := by decide +kernel
theorem dX0_walkTree_16 : decode cX0_walkTree 16 = .ok (.bipush 16, 2) := by decide +kernel
theorem dX0_walkTree_18 : decode cX0_walkTree 18 = .ok (.iconst 0, 1) := by decide +kernel
theorem dX0_walkTree_19 : decode cX0_walkTree 19 = .ok (.iastore, 1) := by decide +kernel
theorem dX0_walkTree_20 : decode cX0_walkTree 20 = .ok (.iconst 0, 1) := by decide +kernel
theorem dX0_walkTree_21 : decode cX0_walkTree 21 = .ok (.istore_n 3, 1) := by decide +kernel
theorem dX0_walkTree_22 : decode cX0_walkTree 22 = .ok (.iload_n 3, 1) := by decide +kernel
theorem dX0_walkTree_23 : decode cX0_walkTree 23 = .ok (.bipush 40, 2) := by decide +kernel
theorem dX0_walkTree_25 : decode cX0_walkTree 25 = .ok (.if_icmp .ge 87, 3) := by decide +kernel
theorem dX0_walkTree_28 : decode cX0_walkTree 28 = .ok (.iload_n 2, 1) := by decide +kernel
theorem dX0_walkTree_29 : decode cX0_walkTree 29 = .ok (.ifCond .le 83, 3) := by decide +kernel
theorem dX0_walkTree_32 : decode cX0_walkTree 32 = .ok (.aload_n 0, 1) := by decide +kernel
theorem dX0_walkTree_33 : decode cX0_walkTree 33 = .ok (.getfield 25, 3) := by decide +kernel
theorem dX0_walkTree_36 : decode cX0_walkTree 36 = .ok (.iload_n 2, 1) := by decide +kernel
theorem dX0_walkTree_37 : decode cX0_walkTree 37 = .ok (.iconst 1, 1) := by decide +kernel
theorem dX0_walkTree_38 : decode cX0_walkTree 38 = .ok (.isub, 1) := by decide +kernel
theorem dX0_walkTree_39 : decode cX0_walkTree 39 = .ok (.iaload, 1) := by decide +kernel
theorem dX0_walkTree_40 : decode cX0_walkTree 40 = .ok (.istore 4, 2) := by decide +kernel
theorem dX0_walkTree_42 : decode cX0_walkTree 42 = .ok (.aload_n 0, 1) := by decide +kernel
theorem dX0_walkTree_43 : decode cX0_walkTree 43 = .ok (.getfield 46, 3) := by decide +kernel
theorem dX0_walkTree_46 : decode cX0_walkTree 46 = .ok (.iload 4, 2) := by decide +kernel
theorem dX0_walkTree_48 : decode cX0_walkTree 48 = .ok (.iaload, 1) := by decide +kernel
theorem dX0_walkTree_49 : decode cX0_walkTree 49 = .ok (.istore 5, 2) := by decide +kernel
theorem dX0_walkTree_51 : decode cX0_walkTree 51 = .ok (.iload 5, 2) := by decide +kernel
theorem dX0_walkTree_53 : decode cX0_walkTree 53 = .ok (.ifCond .ge 17, 3) := by decide +kernel
theorem dX0_walkTree_56 : decode cX0_walkTree 56 = .ok (.aload_n 0, 1) := by decide +kernel
theorem dX0_walkTree_57 : decode cX0_walkTree 57 = .ok (.getfield 64, 3) := by decide +kernel
theorem dX0_walkTree_60 : decode cX0_walkTree 60 = .ok (.iload 4, 2) := by decide +kernel
theorem dX0_walkTree_62 : decode cX0_walkTree 62 = .ok (.iload_n 1, 1) := by decide +kernel
theorem dX0_walkTree_63 : decode cX0_walkTree 63 = .ok (.iastore, 1) := by decide +kernel
theorem dX0_walkTree_64 : decode cX0_walkTree 64 = .ok (.iinc 2 (-1), 3) := by decide +kernel
theorem dX0_walkTree_67 : decode cX0_walkTree 67 = .ok (.goto 39, 3) := by decide +kernel
theorem dX0_walkTree_70 : decode cX0_walkTree 70 = .ok (.aload_n 0, 1) := by decide +kernel
theorem dX0_walkTree_71 : decode cX0_walkTree 71 = .ok (.getfield 46, 3) := by decide +kernel
theorem dX0_walkTree_74 : decode cX0_walkTree 74 = .ok (.iload 4, 2) := by decide +kernel
theorem dX0_walkTree_76 : decode cX0_walkTree 76 = .ok (.aload_n 0, 1) := by decide +kernel
theorem dX0_walkTree_77 : decode cX0_walkTree 77 = .ok (.getfield 49, 3) := by decide +kernel
theorem dX0_walkTree_80 : decode cX0_walkTree 80 = .ok (.iload 5, 2) := by decide +kernel
theorem dX0_walkTree_82 : decode cX0_walkTree 82 = .ok (.iaload, 1) := by decide +kernel
theorem dX0_walkTree_83 : decode cX0_walkTree 83 = .ok (.iastore, 1) := by decide +kernel
theorem dX0_walkTree_84 : decode cX0_walkTree 84 = .ok (.iinc 1 1, 3) := by decide +kernel
theorem dX0_walkTree_87 : decode cX0_walkTree 87 = .ok (.aload_n 0, 1) := by decide +kernel
theorem dX0_walkTree_88 : decode cX0_walkTree 88 = .ok (.getfield 61, 3) := by decide +kernel
theorem dX0_walkTree_91 : decode cX0_walkTree 91 = .ok (.iload 5, 2) := by decide +kernel
theorem dX0_walkTree_93 : decode cX0_walkTree 93 = .ok (.iload_n 1, 1) := by decide +kernel
theorem dX0_walkTree_94 : decode cX0_walkTree 94 = .ok (.iastore, 1) := by decide +kernel
theorem dX0_walkTree_95 : decode cX0_walkTree 95 = .ok (.aload_n 0, 1) := by decide +kernel
theorem dX0_walkTree_96 : decode cX0_walkTree 96 = .ok (.getfield 25, 3) := by decide +kernel
theorem dX0_walkTree_99 : decode cX0_walkTree 99 = .ok (.iload_n 2, 1) := by decide +kernel
theorem dX0_walkTree_100 : decode cX0_walkTree 100 = .ok (.iload 5, 2) := by decide +kernel
theorem dX0_walkTree_102 : decode cX0_walkTree 102 = .ok (.iastore, 1) := by decide +kernel
theorem dX0_walkTree_103 : decode cX0_walkTree 103 = .ok (.iinc 2 1, 3) := by decide +kernel
theorem dX0_walkTree_106 : decode cX0_walkTree 106 = .ok (.iinc 3 1, 3) := by decide +kernel
theorem dX0_walkTree_109 : decode cX0_walkTree 109 = .ok (.goto (-87), 3) := by decide +kernel
theorem dX0_walkTree_112 : decode cX0_walkTree 112 = .ok (.return_, 1) := by decide +kernel
theorem dX0_keeper_0 : decode cX0_keeper 0 = .ok (.iload_n 1, 1) := by decide +kernel
theorem dX0_keeper_1 : decode cX0_keeper 1 = .ok (.invokestatic 67, 3) := by decide +kernel
theorem dX0_keeper_4 : decode cX0_keeper 4 = .ok (.ifCond .ne 6, 3) := by decide +kernel
theorem dX0_keeper_7 : decode cX0_keeper 7 = .ok (.bipush (-2), 2) := by decide +kernel
theorem dX0_keeper_9 : decode cX0_keeper 9 = .ok (.ireturn, 1) := by decide +kernel
theorem dX0_keeper_10 : decode cX0_keeper 10 = .ok (.aload_n 0, 1) := by decide +kernel
theorem dX0_keeper_11 : decode cX0_keeper 11 = .ok (.invokevirtual 79, 3) := by decide +kernel
theorem dX0_keeper_14 : decode cX0_keeper 14 = .ok (.aload_n 0, 1) := by decide +kernel
theorem dX0_keeper_15 : decode cX0_keeper 15 = .ok (.getfield 16, 3) := by decide +kernel
theorem dX0_keeper_18 : decode cX0_keeper 18 = .ok (.iload_n 1, 1) := by decide +kernel
theorem dX0_keeper_19 : decode cX0_keeper 19 = .ok (.iaload, 1) := by decide +kernel
theorem dX0_keeper_20 : decode cX0_keeper 20 = .ok (.ifCond .lt 15, 3) := by decide +kernel
theorem dX0_keeper_23 : decode cX0_keeper 23 = .ok (.aload_n 0, 1) := by decide +kernel
theorem dX0_keeper_24 : decode cX0_keeper 24 = .ok (.getfield 52, 3) := by decide +kernel
theorem dX0_keeper_27 : decode cX0_keeper 27 = .ok (.iload_n 1, 1) := by decide +kernel
theorem dX0_keeper_28 : decode cX0_keeper 28 = .ok (.iaload, 1) := by decide +kernel
theorem dX0_keeper_29 : decode cX0_keeper 29 = .ok (.invokestatic 82, 3) := by decide +kernel
theorem dX0_keeper_32 : decode cX0_keeper 32 = .ok (.goto 4, 3) := by decide +kernel
theorem dX0_keeper_35 : decode cX0_keeper 35 = .ok (.iconst (-1), 1) := by decide +kernel
theorem dX0_keeper_36 : decode cX0_keeper 36 = .ok (.ireturn, 1) := by decide +kernel
theorem dX0_visible_0 : decode cX0_visible 0 = .ok (.iload_n 0, 1) := by decide +kernel
theorem dX0_visible_1 : decode cX0_visible 1 = .ok (.bipush 16, 2) := by decide +kernel
theorem dX0_visible_3 : decode cX0_visible 3 = .ok (.if_icmp .ne 7, 3) := by decide +kernel
theorem dX0_visible_6 : decode cX0_visible 6 = .ok (.iconst (-1), 1) := by decide +kernel
theorem dX0_visible_7 : decode cX0_visible 7 = .ok (.goto 4, 3) := by decide +kernel
theorem dX0_visible_10 : decode cX0_visible 10 = .ok (.iload_n 0, 1) := by decide +kernel
theorem dX0_visible_11 : decode cX0_visible 11 = .ok (.ireturn, 1) := by decide +kernel
theorem dX0_held_0 : decode cX0_held 0 = .ok (.iload_n 1, 1) := by decide +kernel
theorem dX0_held_1 : decode cX0_held 1 = .ok (.invokestatic 67, 3) := by decide +kernel
theorem dX0_held_4 : decode cX0_held 4 = .ok (.ifCond .ne 6, 3) := by decide +kernel
theorem dX0_held_7 : decode cX0_held 7 = .ok (.bipush (-2), 2) := by decide +kernel
theorem dX0_held_9 : decode cX0_held 9 = .ok (.ireturn, 1) := by decide +kernel
theorem dX0_held_10 : decode cX0_held 10 = .ok (.aload_n 0, 1) := by decide +kernel
theorem dX0_held_11 : decode cX0_held 11 = .ok (.invokevirtual 79, 3) := by decide +kernel
theorem dX0_held_14 : decode cX0_held 14 = .ok (.aload_n 0, 1) := by decide +kernel
theorem dX0_held_15 : decode cX0_held 15 = .ok (.getfield 16, 3) := by decide +kernel
theorem dX0_held_18 : decode cX0_held 18 = .ok (.iload_n 1, 1) := by decide +kernel
theorem dX0_held_19 : decode cX0_held 19 = .ok (.iaload, 1) := by decide +kernel
theorem dX0_held_20 : decode cX0_held 20 = .ok (.ifCond .lt 12, 3) := by decide +kernel
theorem dX0_held_23 : decode cX0_held 23 = .ok (.aload_n 0, 1) := by decide +kernel
theorem dX0_held_24 : decode cX0_held 24 = .ok (.getfield 58, 3) := by decide +kernel
theorem dX0_held_27 : decode cX0_held 27 = .ok (.iload_n 1, 1) := by decide +kernel
theorem dX0_held_28 : decode cX0_held 28 = .ok (.iaload, 1) := by decide +kernel
theorem dX0_held_29 : decode cX0_held 29 = .ok (.goto 4, 3) := by decide +kernel
theorem dX0_held_32 : decode cX0_held 32 = .ok (.iconst 0, 1) := by decide +kernel
theorem dX0_held_33 : decode cX0_held 33 = .ok (.ireturn, 1) := by decide +kernel
theorem dX0_guards_0 : decode cX0_guards 0 = .ok (.iload_n 1, 1) := by decide +kernel
theorem dX0_guards_1 : decode cX0_guards 1 = .ok (.invokestatic 67, 3) := by decide +kernel
theorem dX0_guards_4 : decode cX0_guards 4 = .ok (.ifCond .eq 10, 3) := by decide +kernel
theorem dX0_guards_7 : decode cX0_guards 7 = .ok (.iload_n 2, 1) := by decide +kernel
theorem dX0_guards_8 : decode cX0_guards 8 = .ok (.invokestatic 67, 3) := by decide +kernel
theorem dX0_guards_11 : decode cX0_guards 11 = .ok (.ifCond .ne 6, 3) := by decide +kernel
theorem dX0_guards_14 : decode cX0_guards 14 = .ok (.bipush (-2), 2) := by decide +kernel
theorem dX0_guards_16 : decode cX0_guards 16 = .ok (.ireturn, 1) := by decide +kernel
theorem dX0_guards_17 : decode cX0_guards 17 = .ok (.aload_n 0, 1) := by decide +kernel
theorem dX0_guards_18 : decode cX0_guards 18 = .ok (.invokevirtual 79, 3) := by decide +kernel
theorem dX0_guards_21 : decode cX0_guards 21 = .ok (.aload_n 0, 1) := by decide +kernel
theorem dX0_guards_22 : decode cX0_guards 22 = .ok (.iload_n 1, 1) := by decide +kernel
theorem dX0_guards_23 : decode cX0_guards 23 = .ok (.iload_n 2, 1) := by decide +kernel
theorem dX0_guards_24 : decode cX0_guards 24 = .ok (.invokevirtual 86, 3) := by decide +kernel
theorem dX0_guards_27 : decode cX0_guards 27 = .ok (.ifCond .eq 7, 3) := by decide +kernel
theorem dX0_guards_30 : decode cX0_guards 30 = .ok (.iconst 1, 1) := by decide +kernel
theorem dX0_guards_31 : decode cX0_guards 31 = .ok (.goto 4, 3) := by decide +kernel
theorem dX0_guards_34 : decode cX0_guards 34 = .ok (.iconst 0, 1) := by decide +kernel
theorem dX0_guards_35 : decode cX0_guards 35 = .ok (.ireturn, 1) := by decide +kernel
theorem dX0_holds_0 : decode cX0_holds 0 = .ok (.aload_n 0, 1) := by decide +kernel
theorem dX0_holds_1 : decode cX0_holds 1 = .ok (.getfield 16, 3) := by decide +kernel
theorem dX0_holds_4 : decode cX0_holds 4 = .ok (.iload_n 1, 1) := by decide +kernel
theorem dX0_holds_5 : decode cX0_holds 5 = .ok (.iaload, 1) := by decide +kernel
theorem dX0_holds_6 : decode cX0_holds 6 = .ok (.ifCond .lt 12, 3) := by decide +kernel
theorem dX0_holds_9 : decode cX0_holds 9 = .ok (.aload_n 0, 1) := by decide +kernel
theorem dX0_holds_10 : decode cX0_holds 10 = .ok (.getfield 16, 3) := by decide +kernel
theorem dX0_holds_13 : decode cX0_holds 13 = .ok (.iload_n 2, 1) := by decide +kernel
theorem dX0_holds_14 : decode cX0_holds 14 = .ok (.iaload, 1) := by decide +kernel
theorem dX0_holds_15 : decode cX0_holds 15 = .ok (.ifCond .ge 5, 3) := by decide +kernel
theorem dX0_holds_18 : decode cX0_holds 18 = .ok (.iconst 0, 1) := by decide +kernel
theorem dX0_holds_19 : decode cX0_holds 19 = .ok (.ireturn, 1) := by decide +kernel
theorem dX0_holds_20 : decode cX0_holds 20 = .ok (.aload_n 0, 1) := by decide +kernel
theorem dX0_holds_21 : decode cX0_holds 21 = .ok (.getfield 61, 3) := by decide +kernel
theorem dX0_holds_24 : decode cX0_holds 24 = .ok (.iload_n 1, 1) := by decide +kernel
theorem dX0_holds_25 : decode cX0_holds 25 = .ok (.iaload, 1) := by decide +kernel
theorem dX0_holds_26 : decode cX0_holds 26 = .ok (.aload_n 0, 1) := by decide +kernel
theorem dX0_holds_27 : decode cX0_holds 27 = .ok (.getfield 61, 3) := by decide +kernel
theorem dX0_holds_30 : decode cX0_holds 30 = .ok (.iload_n 2, 1) := by decide +kernel
theorem dX0_holds_31 : decode cX0_holds 31 = .ok (.iaload, 1) := by decide +kernel
theorem dX0_holds_32 : decode cX0_holds 32 = .ok (.if_icmp .gt 22, 3) := by decide +kernel
theorem dX0_holds_35 : decode cX0_holds 35 = .ok (.aload_n 0, 1) := by decide +kernel
theorem dX0_holds_36 : decode cX0_holds 36 = .ok (.getfield 61, 3) := by decide +kernel
theorem dX0_holds_39 : decode cX0_holds 39 = .ok (.iload_n 2, 1) := by decide +kernel
theorem dX0_holds_40 : decode cX0_holds 40 = .ok (.iaload, 1) := by decide +kernel
theorem dX0_holds_41 : decode cX0_holds 41 = .ok (.aload_n 0, 1) := by decide +kernel
theorem dX0_holds_42 : decode cX0_holds 42 = .ok (.getfield 64, 3) := by decide +kernel
theorem dX0_holds_45 : decode cX0_holds 45 = .ok (.iload_n 1, 1) := by decide +kernel
theorem dX0_holds_46 : decode cX0_holds 46 = .ok (.iaload, 1) := by decide +kernel
theorem dX0_holds_47 : decode cX0_holds 47 = .ok (.if_icmp .gt 7, 3) := by decide +kernel
theorem dX0_holds_50 : decode cX0_holds 50 = .ok (.iconst 1, 1) := by decide +kernel
theorem dX0_holds_51 : decode cX0_holds 51 = .ok (.goto 4, 3) := by decide +kernel
theorem dX0_holds_54 : decode cX0_holds 54 = .ok (.iconst 0, 1) := by decide +kernel
theorem dX0_holds_55 : decode cX0_holds 55 = .ok (.ireturn, 1) := by decide +kernel
theorem dX0_depth_0 : decode cX0_depth 0 = .ok (.iload_n 1, 1) := by decide +kernel
theorem dX0_depth_1 : decode cX0_depth 1 = .ok (.invokestatic 67, 3) := by decide +kernel
theorem dX0_depth_4 : decode cX0_depth 4 = .ok (.ifCond .ne 6, 3) := by decide +kernel
theorem dX0_depth_7 : decode cX0_depth 7 = .ok (.bipush (-2), 2) := by decide +kernel
theorem dX0_depth_9 : decode cX0_depth 9 = .ok (.ireturn, 1) := by decide +kernel
theorem dX0_depth_10 : decode cX0_depth 10 = .ok (.aload_n 0, 1) := by decide +kernel
theorem dX0_depth_11 : decode cX0_depth 11 = .ok (.invokevirtual 79, 3) := by decide +kernel
theorem dX0_depth_14 : decode cX0_depth 14 = .ok (.aload_n 0, 1) := by decide +kernel
theorem dX0_depth_15 : decode cX0_depth 15 = .ok (.getfield 16, 3) := by decide +kernel
theorem dX0_depth_18 : decode cX0_depth 18 = .ok (.iload_n 1, 1) := by decide +kernel
theorem dX0_depth_19 : decode cX0_depth 19 = .ok (.iaload, 1) := by decide +kernel
theorem dX0_depth_20 : decode cX0_depth 20 = .ok (.ifCond .lt 12, 3) := by decide +kernel
theorem dX0_depth_23 : decode cX0_depth 23 = .ok (.aload_n 0, 1) := by decide +kernel
theorem dX0_depth_24 : decode cX0_depth 24 = .ok (.getfield 55, 3) := by decide +kernel
theorem dX0_depth_27 : decode cX0_depth 27 = .ok (.iload_n 1, 1) := by decide +kernel
theorem dX0_depth_28 : decode cX0_depth 28 = .ok (.iaload, 1) := by decide +kernel
theorem dX0_depth_29 : decode cX0_depth 29 = .ok (.goto 4, 3) := by decide +kernel
theorem dX0_depth_32 : decode cX0_depth 32 = .ok (.iconst 0, 1) := by decide +kernel
theorem dX0_depth_33 : decode cX0_depth 33 = .ok (.ireturn, 1) := by decide +kernel
theorem dX0_common_0 : decode cX0_common 0 = .ok (.iload_n 1, 1) := by decide +kernel
theorem dX0_common_1 : decode cX0_common 1 = .ok (.invokestatic 67, 3) := by decide +kernel
theorem dX0_common_4 : decode cX0_common 4 = .ok (.ifCond .eq 10, 3) := by decide +kernel
theorem dX0_common_7 : decode cX0_common 7 = .ok (.iload_n 2, 1) := by decide +kernel
theorem dX0_common_8 : decode cX0_common 8 = .ok (.invokestatic 67, 3) := by decide +kernel
theorem dX0_common_11 : decode cX0_common 11 = .ok (.ifCond .ne 6, 3) := by decide +kernel
theorem dX0_common_14 : decode cX0_common 14 = .ok (.bipush (-2), 2) := by decide +kernel
theorem dX0_common_16 : decode cX0_common 16 = .ok (.ireturn, 1) := by decide +kernel
theorem dX0_common_17 : decode cX0_common 17 = .ok (.aload_n 0, 1) := by decide +kernel
theorem dX0_common_18 : decode cX0_common 18 = .ok (.invokevirtual 79, 3) := by decide +kernel
theorem dX0_common_21 : decode cX0_common 21 = .ok (.aload_n 0, 1) := by decide +kernel
theorem dX0_common_22 : decode cX0_common 22 = .ok (.getfield 16, 3) := by decide +kernel
theorem dX0_common_25 : decode cX0_common 25 = .ok (.iload_n 1, 1) := by decide +kernel
theorem dX0_common_26 : decode cX0_common 26 = .ok (.iaload, 1) := by decide +kernel
theorem dX0_common_27 : decode cX0_common 27 = .ok (.ifCond .lt 12, 3) := by decide +kernel
theorem dX0_common_30 : decode cX0_common 30 = .ok (.aload_n 0, 1) := by decide +kernel
theorem dX0_common_31 : decode cX0_common 31 = .ok (.getfield 16, 3) := by decide +kernel
theorem dX0_common_34 : decode cX0_common 34 = .ok (.iload_n 2, 1) := by decide +kernel
theorem dX0_common_35 : decode cX0_common 35 = .ok (.iaload, 1) := by decide +kernel
theorem dX0_common_36 : decode cX0_common 36 = .ok (.ifCond .ge 5, 3) := by decide +kernel
theorem dX0_common_39 : decode cX0_common 39 = .ok (.iconst (-1), 1) := by decide +kernel
theorem dX0_common_40 : decode cX0_common 40 = .ok (.ireturn, 1) := by decide +kernel
theorem dX0_common_41 : decode cX0_common 41 = .ok (.iload_n 1, 1) := by decide +kernel
theorem dX0_common_42 : decode cX0_common 42 = .ok (.istore_n 3, 1) := by decide +kernel
theorem dX0_common_43 : decode cX0_common 43 = .ok (.iload_n 2, 1) := by decide +kernel
theorem dX0_common_44 : decode cX0_common 44 = .ok (.istore 4, 2) := by decide +kernel
theorem dX0_common_46 : decode cX0_common 46 = .ok (.iconst 0, 1) := by decide +kernel
theorem dX0_common_47 : decode cX0_common 47 = .ok (.istore 5, 2) := by decide +kernel
theorem dX0_common_49 : decode cX0_common 49 = .ok (.iload 5, 2) := by decide +kernel
theorem dX0_common_51 : decode cX0_common 51 = .ok (.bipush 34, 2) := by decide +kernel
theorem dX0_common_53 : decode cX0_common 53 = .ok (.if_icmp .ge 50, 3) := by decide +kernel
theorem dX0_common_56 : decode cX0_common 56 = .ok (.iload_n 3, 1) := by decide +kernel
theorem dX0_common_57 : decode cX0_common 57 = .ok (.iload 4, 2) := by decide +kernel
theorem dX0_common_59 : decode cX0_common 59 = .ok (.if_icmp .eq 44, 3) := by decide +kernel
theorem dX0_common_62 : decode cX0_common 62 = .ok (.aload_n 0, 1) := by decide +kernel
theorem dX0_common_63 : decode cX0_common 63 = .ok (.getfield 55, 3) := by decide +kernel
theorem dX0_common_66 : decode cX0_common 66 = .ok (.iload_n 3, 1) := by decide +kernel
theorem dX0_common_67 : decode cX0_common 67 = .ok (.iaload, 1) := by decide +kernel
theorem dX0_common_68 : decode cX0_common 68 = .ok (.aload_n 0, 1) := by decide +kernel
theorem dX0_common_69 : decode cX0_common 69 = .ok (.getfield 55, 3) := by decide +kernel
theorem dX0_common_72 : decode cX0_common 72 = .ok (.iload 4, 2) := by decide +kernel
theorem dX0_common_74 : decode cX0_common 74 = .ok (.iaload, 1) := by decide +kernel
theorem dX0_common_75 : decode cX0_common 75 = .ok (.if_icmp .lt 13, 3) := by decide +kernel
theorem dX0_common_78 : decode cX0_common 78 = .ok (.aload_n 0, 1) := by decide +kernel
theorem dX0_common_79 : decode cX0_common 79 = .ok (.getfield 52, 3) := by decide +kernel
theorem dX0_common_82 : decode cX0_common 82 = .ok (.iload_n 3, 1) := by decide +kernel
theorem dX0_common_83 : decode cX0_common 83 = .ok (.iaload, 1) := by decide +kernel
theorem dX0_common_84 : decode cX0_common 84 = .ok (.istore_n 3, 1) := by decide +kernel
theorem dX0_common_85 : decode cX0_common 85 = .ok (.goto 12, 3) := by decide +kernel
theorem dX0_common_88 : decode cX0_common 88 = .ok (.aload_n 0, 1) := by decide +kernel
theorem dX0_common_89 : decode cX0_common 89 = .ok (.getfield 52, 3) := by decide +kernel
theorem dX0_common_92 : decode cX0_common 92 = .ok (.iload 4, 2) := by decide +kernel
theorem dX0_common_94 : decode cX0_common 94 = .ok (.iaload, 1) := by decide +kernel
theorem dX0_common_95 : decode cX0_common 95 = .ok (.istore 4, 2) := by decide +kernel
theorem dX0_common_97 : decode cX0_common 97 = .ok (.iinc 5 1, 3) := by decide +kernel
theorem dX0_common_100 : decode cX0_common 100 = .ok (.goto (-51), 3) := by decide +kernel
theorem dX0_common_103 : decode cX0_common 103 = .ok (.iload_n 3, 1) := by decide +kernel
theorem dX0_common_104 : decode cX0_common 104 = .ok (.invokestatic 82, 3) := by decide +kernel
theorem dX0_common_107 : decode cX0_common 107 = .ok (.ireturn, 1) := by decide +kernel
theorem dX0_heaviest_0 : decode cX0_heaviest 0 = .ok (.aload_n 0, 1) := by decide +kernel
theorem dX0_heaviest_1 : decode cX0_heaviest 1 = .ok (.invokevirtual 79, 3) := by decide +kernel
theorem dX0_heaviest_4 : decode cX0_heaviest 4 = .ok (.iconst (-1), 1) := by decide +kernel
theorem dX0_heaviest_5 : decode cX0_heaviest 5 = .ok (.istore_n 1, 1) := by decide +kernel
theorem dX0_heaviest_6 : decode cX0_heaviest 6 = .ok (.iconst 0, 1) := by decide +kernel
theorem dX0_heaviest_7 : decode cX0_heaviest 7 = .ok (.istore_n 2, 1) := by decide +kernel
theorem dX0_heaviest_8 : decode cX0_heaviest 8 = .ok (.iload_n 2, 1) := by decide +kernel
theorem dX0_heaviest_9 : decode cX0_heaviest 9 = .ok (.bipush 16, 2) := by decide +kernel
theorem dX0_heaviest_11 : decode cX0_heaviest 11 = .ok (.if_icmp .ge 50, 3) := by decide +kernel
theorem dX0_heaviest_14 : decode cX0_heaviest 14 = .ok (.aload_n 0, 1) := by decide +kernel
theorem dX0_heaviest_15 : decode cX0_heaviest 15 = .ok (.getfield 16, 3) := by decide +kernel
theorem dX0_heaviest_18 : decode cX0_heaviest 18 = .ok (.iload_n 2, 1) := by decide +kernel
theorem dX0_heaviest_19 : decode cX0_heaviest 19 = .ok (.iaload, 1) := by decide +kernel
theorem dX0_heaviest_20 : decode cX0_heaviest 20 = .ok (.ifCond .lt 35, 3) := by decide +kernel
theorem dX0_heaviest_23 : decode cX0_heaviest 23 = .ok (.aload_n 0, 1) := by decide +kernel
theorem dX0_heaviest_24 : decode cX0_heaviest 24 = .ok (.getfield 52, 3) := by decide +kernel
theorem dX0_heaviest_27 : decode cX0_heaviest 27 = .ok (.iload_n 2, 1) := by decide +kernel
theorem dX0_heaviest_28 : decode cX0_heaviest 28 = .ok (.iaload, 1) := by decide +kernel
theorem dX0_heaviest_29 : decode cX0_heaviest 29 = .ok (.bipush 16, 2) := by decide +kernel
theorem dX0_heaviest_31 : decode cX0_heaviest 31 = .ok (.if_icmp .ne 24, 3) := by decide +kernel
theorem dX0_heaviest_34 : decode cX0_heaviest 34 = .ok (.iload_n 1, 1) := by decide +kernel
theorem dX0_heaviest_35 : decode cX0_heaviest 35 = .ok (.ifCond .lt 18, 3) := by decide +kernel
theorem dX0_heaviest_38 : decode cX0_heaviest 38 = .ok (.aload_n 0, 1) := by decide +kernel
theorem dX0_heaviest_39 : decode cX0_heaviest 39 = .ok (.getfield 58, 3) := by decide +kernel
theorem dX0_heaviest_42 : decode cX0_heaviest 42 = .ok (.iload_n 2, 1) := by decide +kernel
theorem dX0_heaviest_43 : decode cX0_heaviest 43 = .ok (.iaload, 1) := by decide +kernel
theorem dX0_heaviest_44 : decode cX0_heaviest 44 = .ok (.aload_n 0, 1) := by decide +kernel
theorem dX0_heaviest_45 : decode cX0_heaviest 45 = .ok (.getfield 58, 3) := by decide +kernel
theorem dX0_heaviest_48 : decode cX0_heaviest 48 = .ok (.iload_n 1, 1) := by decide +kernel
theorem dX0_heaviest_49 : decode cX0_heaviest 49 = .ok (.iaload, 1) := by decide +kernel
theorem dX0_heaviest_50 : decode cX0_heaviest 50 = .ok (.if_icmp .le 5, 3) := by decide +kernel
theorem dX0_heaviest_53 : decode cX0_heaviest 53 = .ok (.iload_n 2, 1) := by decide +kernel
theorem dX0_heaviest_54 : decode cX0_heaviest 54 = .ok (.istore_n 1, 1) := by decide +kernel
theorem dX0_heaviest_55 : decode cX0_heaviest 55 = .ok (.iinc 2 1, 3) := by decide +kernel
theorem dX0_heaviest_58 : decode cX0_heaviest 58 = .ok (.goto (-50), 3) := by decide +kernel
theorem dX0_heaviest_61 : decode cX0_heaviest 61 = .ok (.iload_n 1, 1) := by decide +kernel
theorem dX0_heaviest_62 : decode cX0_heaviest 62 = .ok (.ireturn, 1) := by decide +kernel
theorem dX0_total_0 : decode cX0_total 0 = .ok (.aload_n 0, 1) := by decide +kernel
theorem dX0_total_1 : decode cX0_total 1 = .ok (.invokevirtual 79, 3) := by decide +kernel
theorem dX0_total_4 : decode cX0_total 4 = .ok (.aload_n 0, 1) := by decide +kernel
theorem dX0_total_5 : decode cX0_total 5 = .ok (.getfield 58, 3) := by decide +kernel
theorem dX0_total_8 : decode cX0_total 8 = .ok (.bipush 16, 2) := by decide +kernel
theorem dX0_total_10 : decode cX0_total 10 = .ok (.iaload, 1) := by decide +kernel
theorem dX0_total_11 : decode cX0_total 11 = .ok (.ireturn, 1) := by decide +kernel
end
section
set_option maxRecDepth 100000
theorem dL_law_0 : decode cL_law 0 = .ok (.new 7, 3) := by decide +kernel
theorem dL_law_3 : decode cL_law 3 = .ok (.dup, 1) := by decide +kernel
theorem dL_law_4 : decode cL_law 4 = .ok (.invokespecial 9, 3) := by decide +kernel
theorem dL_law_7 : decode cL_law 7 = .ok (.astore_n 1, 1) := by decide +kernel
theorem dL_law_8 : decode cL_law 8 = .ok (.new 10, 3) := by decide +kernel
theorem dL_law_11 : decode cL_law 11 = .ok (.dup, 1) := by decide +kernel
theorem dL_law_12 : decode cL_law 12 = .ok (.invokespecial 12, 3) := by decide +kernel
theorem dL_law_15 : decode cL_law 15 = .ok (.astore_n 2, 1) := by decide +kernel
theorem dL_law_16 : decode cL_law 16 = .ok (.iconst 0, 1) := by decide +kernel
theorem dL_law_17 : decode cL_law 17 = .ok (.istore_n 3, 1) := by decide +kernel
theorem dL_law_18 : decode cL_law 18 = .ok (.iload_n 3, 1) := by decide +kernel
theorem dL_law_19 : decode cL_law 19 = .ok (.aload_n 0, 1) := by decide +kernel
theorem dL_law_20 : decode cL_law 20 = .ok (.arraylength, 1) := by decide +kernel
theorem dL_law_21 : decode cL_law 21 = .ok (.iconst 3, 1) := by decide +kernel
theorem dL_law_22 : decode cL_law 22 = .ok (.isub, 1) := by decide +kernel
theorem dL_law_23 : decode cL_law 23 = .ok (.if_icmp .gt 374, 3) := by decide +kernel
theorem dL_law_26 : decode cL_law 26 = .ok (.aload_n 0, 1) := by decide +kernel
theorem dL_law_27 : decode cL_law 27 = .ok (.iload_n 3, 1) := by decide +kernel
theorem dL_law_28 : decode cL_law 28 = .ok (.iaload, 1) := by decide +kernel
theorem dL_law_29 : decode cL_law 29 = .ok (.bipush 15, 2) := by decide +kernel
theorem dL_law_31 : decode cL_law 31 = .ok (.iand, 1) := by decide +kernel
theorem dL_law_32 : decode cL_law 32 = .ok (.tableswitch 359 0 10 #[60, 93, 126, 175, 198, 221, 244, 277, 300, 333, 346], 60) := by decide +kernel
theorem dL_law_92 : decode cL_law 92 = .ok (.aload_n 1, 1) := by decide +kernel
theorem dL_law_93 : decode cL_law 93 = .ok (.aload_n 0, 1) := by decide +kernel
theorem dL_law_94 : decode cL_law 94 = .ok (.iload_n 3, 1) := by decide +kernel
theorem dL_law_95 : decode cL_law 95 = .ok (.iconst 1, 1) := by decide +kernel
theorem dL_law_96 : decode cL_law 96 = .ok (.iadd, 1) := by decide +kernel
theorem dL_law_97 : decode cL_law 97 = .ok (.iaload, 1) := by decide +kernel
theorem dL_law_98 : decode cL_law 98 = .ok (.aload_n 0, 1) := by decide +kernel
theorem dL_law_99 : decode cL_law 99 = .ok (.iload_n 3, 1) := by decide +kernel
theorem dL_law_100 : decode cL_law 100 = .ok (.iconst 2, 1) := by decide +kernel
theorem dL_law_101 : decode cL_law 101 = .ok (.iadd, 1) := by decide +kernel
theorem dL_law_102 : decode cL_law 102 = .ok (.iaload, 1) := by decide +kernel
theorem dL_law_103 : decode cL_law 103 = .ok (.invokevirtual 13, 3) := by decide +kernel
theorem dL_law_106 : decode cL_law 106 = .ok (.aload_n 2, 1) := by decide +kernel
theorem dL_law_107 : decode cL_law 107 = .ok (.aload_n 0, 1) := by decide +kernel
theorem dL_law_108 : decode cL_law 108 = .ok (.iload_n 3, 1) := by decide +kernel
theorem dL_law_109 : decode cL_law 109 = .ok (.iconst 1, 1) := by decide +kernel
theorem dL_law_110 : decode cL_law 110 = .ok (.iadd, 1) := by decide +kernel
theorem dL_law_111 : decode cL_law 111 = .ok (.iaload, 1) := by decide +kernel
theorem dL_law_112 : decode cL_law 112 = .ok (.aload_n 0, 1) := by decide +kernel
theorem dL_law_113 : decode cL_law 113 = .ok (.iload_n 3, 1) := by decide +kernel
theorem dL_law_114 : decode cL_law 114 = .ok (.iconst 2, 1) := by decide +kernel
theorem dL_law_115 : decode cL_law 115 = .ok (.iadd, 1) := by decide +kernel
theorem dL_law_116 : decode cL_law 116 = .ok (.iaload, 1) := by decide +kernel
theorem dL_law_117 : decode cL_law 117 = .ok (.invokevirtual 17, 3) := by decide +kernel
theorem dL_law_120 : decode cL_law 120 = .ok (.if_icmp .eq 271, 3) := by decide +kernel
theorem dL_law_123 : decode cL_law 123 = .ok (.iconst 0, 1) := by decide +kernel
theorem dL_law_124 : decode cL_law 124 = .ok (.ireturn, 1) := by decide +kernel
theorem dL_law_125 : decode cL_law 125 = .ok (.aload_n 1, 1) := by decide +kernel
theorem dL_law_126 : decode cL_law 126 = .ok (.aload_n 0, 1) := by decide +kernel
theorem dL_law_127 : decode cL_law 127 = .ok (.iload_n 3, 1) := by decide +kernel
theorem dL_law_128 : decode cL_law 128 = .ok (.iconst 1, 1) := by decide +kernel
theorem dL_law_129 : decode cL_law 129 = .ok (.iadd, 1) := by decide +kernel
theorem dL_law_130 : decode cL_law 130 = .ok (.iaload, 1) := by decide +kernel
theorem dL_law_131 : decode cL_law 131 = .ok (.aload_n 0, 1) := by decide +kernel
theorem dL_law_132 : decode cL_law 132 = .ok (.iload_n 3, 1) := by decide +kernel
theorem dL_law_133 : decode cL_law 133 = .ok (.iconst 2, 1) := by decide +kernel
theorem dL_law_134 : decode cL_law 134 = .ok (.iadd, 1) := by decide +kernel
theorem dL_law_135 : decode cL_law 135 = .ok (.iaload, 1) := by decide +kernel
theorem dL_law_136 : decode cL_law 136 = .ok (.invokevirtual 18, 3) := by decide +kernel
theorem dL_law_139 : decode cL_law 139 = .ok (.aload_n 2, 1) := by decide +kernel
theorem dL_law_140 : decode cL_law 140 = .ok (.aload_n 0, 1) := by decide +kernel
theorem dL_law_141 : decode cL_law 141 = .ok (.iload_n 3, 1) := by decide +kernel
theorem dL_law_142 : decode cL_law 142 = .ok (.iconst 1, 1) := by decide +kernel
theorem dL_law_143 : decode cL_law 143 = .ok (.iadd, 1) := by decide +kernel
theorem dL_law_144 : decode cL_law 144 = .ok (.iaload, 1) := by decide +kernel
theorem dL_law_145 : decode cL_law 145 = .ok (.aload_n 0, 1) := by decide +kernel
theorem dL_law_146 : decode cL_law 146 = .ok (.iload_n 3, 1) := by decide +kernel
theorem dL_law_147 : decode cL_law 147 = .ok (.iconst 2, 1) := by decide +kernel
theorem dL_law_148 : decode cL_law 148 = .ok (.iadd, 1) := by decide +kernel
theorem dL_law_149 : decode cL_law 149 = .ok (.iaload, 1) := by decide +kernel
theorem dL_law_150 : decode cL_law 150 = .ok (.invokevirtual 21, 3) := by decide +kernel
theorem dL_law_153 : decode cL_law 153 = .ok (.if_icmp .eq 238, 3) := by decide +kernel
theorem dL_law_156 : decode cL_law 156 = .ok (.iconst 0, 1) := by decide +kernel
theorem dL_law_157 : decode cL_law 157 = .ok (.ireturn, 1) := by decide +kernel
theorem dL_law_158 : decode cL_law 158 = .ok (.aload_n 1, 1) := by decide +kernel
theorem dL_law_159 : decode cL_law 159 = .ok (.aload_n 0, 1) := by decide +kernel
theorem dL_law_160 : decode cL_law 160 = .ok (.iload_n 3, 1) := by decide +kernel
theorem dL_law_161 : decode cL_law 161 = .ok (.iconst 1, 1) := by decide +kernel
theorem dL_law_162 : decode cL_law 162 = .ok (.iadd, 1) := by decide +kernel
theorem dL_law_163 : decode cL_law 163 = .ok (.iaload, 1) := by decide +kernel
theorem dL_law_164 : decode cL_law 164 = .ok (.aload_n 0, 1) := by decide +kernel
theorem dL_law_165 : decode cL_law 165 = .ok (.iload_n 3, 1) := by decide +kernel
theorem dL_law_166 : decode cL_law 166 = .ok (.iconst 2, 1) := by decide +kernel
theorem dL_law_167 : decode cL_law 167 = .ok (.iadd, 1) := by decide +kernel
theorem dL_law_168 : decode cL_law 168 = .ok (.iaload, 1) := by decide +kernel
theorem dL_law_169 : decode cL_law 169 = .ok (.ifCond .eq 7, 3) := by decide +kernel
theorem dL_law_172 : decode cL_law 172 = .ok (.iconst 1, 1) := by decide +kernel
theorem dL_law_173 : decode cL_law 173 = .ok (.goto 4, 3) := by decide +kernel
theorem dL_law_176 : decode cL_law 176 = .ok (.iconst 0, 1) := by decide +kernel
theorem dL_law_177 : decode cL_law 177 = .ok (.invokevirtual 22, 3) := by decide +kernel
theorem dL_law_180 : decode cL_law 180 = .ok (.aload_n 2, 1) := by decide +kernel
theorem dL_law_181 : decode cL_law 181 = .ok (.aload_n 0, 1) := by decide +kernel
theorem dL_law_182 : decode cL_law 182 = .ok (.iload_n 3, 1) := by decide +kernel
theorem dL_law_183 : decode cL_law 183 = .ok (.iconst 1, 1) := by decide +kernel
theorem dL_law_184 : decode cL_law 184 = .ok (.iadd, 1) := by decide +kernel
theorem dL_law_185 : decode cL_law 185 = .ok (.iaload, 1) := by decide +kernel
theorem dL_law_186 : decode cL_law 186 = .ok (.aload_n 0, 1) := by decide +kernel
theorem dL_law_187 : decode cL_law 187 = .ok (.iload_n 3, 1) := by decide +kernel
theorem dL_law_188 : decode cL_law 188 = .ok (.iconst 2, 1) := by decide +kernel
theorem dL_law_189 : decode cL_law 189 = .ok (.iadd, 1) := by decide +kernel
theorem dL_law_190 : decode cL_law 190 = .ok (.iaload, 1) := by decide +kernel
theorem dL_law_191 : decode cL_law 191 = .ok (.ifCond .eq 7, 3) := by decide +kernel
theorem dL_law_194 : decode cL_law 194 = .ok (.iconst 1, 1) := by decide +kernel
theorem dL_law_195 : decode cL_law 195 = .ok (.goto 4, 3) := by decide +kernel
theorem dL_law_198 : decode cL_law 198 = .ok (.iconst 0, 1) := by decide +kernel
theorem dL_law_199 : decode cL_law 199 = .ok (.invokevirtual 26, 3) := by decide +kernel
theorem dL_law_202 : decode cL_law 202 = .ok (.if_icmp .eq 189, 3) := by decide +kernel
theorem dL_law_205 : decode cL_law 205 = .ok (.iconst 0, 1) := by decide +kernel
theorem dL_law_206 : decode cL_law 206 = .ok (.ireturn, 1) := by decide +kernel
theorem dL_law_207 : decode cL_law 207 = .ok (.aload_n 1, 1) := by decide +kernel
theorem dL_law_208 : decode cL_law 208 = .ok (.aload_n 0, 1) := by decide +kernel
theorem dL_law_209 : decode cL_law 209 = .ok (.iload_n 3, 1) := by decide +kernel
theorem dL_law_210 : decode cL_law 210 = .ok (.iconst 1, 1) := by decide +kernel
theorem dL_law_211 : decode cL_law 211 = .ok (.iadd, 1) := by decide +kernel
theorem dL_law_212 : decode cL_law 212 = .ok (.iaload, 1) := by decide +kernel
theorem dL_law_213 : decode cL_law 213 = .ok (.invokevirtual 27, 3) := by decide +kernel
theorem dL_law_216 : decode cL_law 216 = .ok (.aload_n 2, 1) := by decide +kernel
theorem dL_law_217 : decode cL_law 217 = .ok (.aload_n 0, 1) := by decide +kernel
theorem dL_law_218 : decode cL_law 218 = .ok (.iload_n 3, 1) := by decide +kernel
theorem dL_law_219 : decode cL_law 219 = .ok (.iconst 1, 1) := by decide +kernel
theorem dL_law_220 : decode cL_law 220 = .ok (.iadd, 1) := by decide +kernel
theorem dL_law_221 : decode cL_law 221 = .ok (.iaload, 1) := by decide +kernel
theorem dL_law_222 : decode cL_law 222 = .ok (.invokevirtual 31, 3) := by decide +kernel
theorem dL_law_225 : decode cL_law 225 = .ok (.if_icmp .eq 166, 3) := by decide +kernel
theorem dL_law_228 : decode cL_law 228 = .ok (.iconst 0, 1) := by decide +kernel
theorem dL_law_229 : decode cL_law 229 = .ok (.ireturn, 1) := by decide +kernel
theorem dL_law_230 : decode cL_law 230 = .ok (.aload_n 1, 1) := by decide +kernel
theorem dL_law_231 : decode cL_law 231 = .ok (.aload_n 0, 1) := by decide +kernel
theorem dL_law_232 : decode cL_law 232 = .ok (.iload_n 3, 1) := by decide +kernel
theorem dL_law_233 : decode cL_law 233 = .ok (.iconst 1, 1) := by decide +kernel
theorem dL_law_234 : decode cL_law 234 = .ok (.iadd, 1) := by decide +kernel
theorem dL_law_235 : decode cL_law 235 = .ok (.iaload, 1) := by decide +kernel
theorem dL_law_236 : decode cL_law 236 = .ok (.invokevirtual 32, 3) := by decide +kernel
theorem dL_law_239 : decode cL_law 239 = .ok (.aload_n 2, 1) := by decide +kernel
theorem dL_law_240 : decode cL_law 240 = .ok (.aload_n 0, 1) := by decide +kernel
theorem dL_law_241 : decode cL_law 241 = .ok (.iload_n 3, 1) := by decide +kernel
theorem dL_law_242 : decode cL_law 242 = .ok (.iconst 1, 1) := by decide +kernel
theorem dL_law_243 : decode cL_law 243 = .ok (.iadd, 1) := by decide +kernel
theorem dL_law_244 : decode cL_law 244 = .ok (.iaload, 1) := by decide +kernel
theorem dL_law_245 : decode cL_law 245 = .ok (.invokevirtual 35, 3) := by decide +kernel
theorem dL_law_248 : decode cL_law 248 = .ok (.if_icmp .eq 143, 3) := by decide +kernel
theorem dL_law_251 : decode cL_law 251 = .ok (.iconst 0, 1) := by decide +kernel
theorem dL_law_252 : decode cL_law 252 = .ok (.ireturn, 1) := by decide +kernel
theorem dL_law_253 : decode cL_law 253 = .ok (.aload_n 1, 1) := by decide +kernel
theorem dL_law_254 : decode cL_law 254 = .ok (.aload_n 0, 1) := by decide +kernel
theorem dL_law_255 : decode cL_law 255 = .ok (.iload_n 3, 1) := by decide +kernel
theorem dL_law_256 : decode cL_law 256 = .ok (.iconst 1, 1) := by decide +kernel
theorem dL_law_257 : decode cL_law 257 = .ok (.iadd, 1) := by decide +kernel
theorem dL_law_258 : decode cL_law 258 = .ok (.iaload, 1) := by decide +kernel
theorem dL_law_259 : decode cL_law 259 = .ok (.invokevirtual 36, 3) := by decide +kernel
theorem dL_law_262 : decode cL_law 262 = .ok (.aload_n 2, 1) := by decide +kernel
theorem dL_law_263 : decode cL_law 263 = .ok (.aload_n 0, 1) := by decide +kernel
theorem dL_law_264 : decode cL_law 264 = .ok (.iload_n 3, 1) := by decide +kernel
theorem dL_law_265 : decode cL_law 265 = .ok (.iconst 1, 1) := by decide +kernel
theorem dL_law_266 : decode cL_law 266 = .ok (.iadd, 1) := by decide +kernel
theorem dL_law_267 : decode cL_law 267 = .ok (.iaload, 1) := by decide +kernel
theorem dL_law_268 : decode cL_law 268 = .ok (.invokevirtual 39, 3) := by decide +kernel
theorem dL_law_271 : decode cL_law 271 = .ok (.if_icmp .eq 120, 3) := by decide +kernel
theorem dL_law_274 : decode cL_law 274 = .ok (.iconst 0, 1) := by decide +kernel
theorem dL_law_275 : decode cL_law 275 = .ok (.ireturn, 1) := by decide +kernel
theorem dL_law_276 : decode cL_law 276 = .ok (.aload_n 1, 1) := by decide +kernel
theorem dL_law_277 : decode cL_law 277 = .ok (.aload_n 0, 1) := by decide +kernel
theorem dL_law_278 : decode cL_law 278 = .ok (.iload_n 3, 1) := by decide +kernel
theorem dL_law_279 : decode cL_law 279 = .ok (.iconst 1, 1) := by decide +kernel
theorem dL_law_280 : decode cL_law 280 = .ok (.iadd, 1) := by decide +kernel
theorem dL_law_281 : decode cL_law 281 = .ok (.iaload, 1) := by decide +kernel
theorem dL_law_282 : decode cL_law 282 = .ok (.aload_n 0, 1) := by decide +kernel
theorem dL_law_283 : decode cL_law 283 = .ok (.iload_n 3, 1) := by decide +kernel
theorem dL_law_284 : decode cL_law 284 = .ok (.iconst 2, 1) := by decide +kernel
theorem dL_law_285 : decode cL_law 285 = .ok (.iadd, 1) := by decide +kernel
theorem dL_law_286 : decode cL_law 286 = .ok (.iaload, 1) := by decide +kernel
theorem dL_law_287 : decode cL_law 287 = .ok (.invokevirtual 40, 3) := by decide +kernel
theorem dL_law_290 : decode cL_law 290 = .ok (.aload_n 2, 1) := by decide +kernel
theorem dL_law_291 : decode cL_law 291 = .ok (.aload_n 0, 1) := by decide +kernel
theorem dL_law_292 : decode cL_law 292 = .ok (.iload_n 3, 1) := by decide +kernel
theorem dL_law_293 : decode cL_law 293 = .ok (.iconst 1, 1) := by decide +kernel
theorem dL_law_294 : decode cL_law 294 = .ok (.iadd, 1) := by decide +kernel
theorem dL_law_295 : decode cL_law 295 = .ok (.iaload, 1) := by decide +kernel
theorem dL_law_296 : decode cL_law 296 = .ok (.aload_n 0, 1) := by decide +kernel
theorem dL_law_297 : decode cL_law 297 = .ok (.iload_n 3, 1) := by decide +kernel
theorem dL_law_298 : decode cL_law 298 = .ok (.iconst 2, 1) := by decide +kernel
theorem dL_law_299 : decode cL_law 299 = .ok (.iadd, 1) := by decide +kernel
theorem dL_law_300 : decode cL_law 300 = .ok (.iaload, 1) := by decide +kernel
theorem dL_law_301 : decode cL_law 301 = .ok (.invokevirtual 43, 3) := by decide +kernel
theorem dL_law_304 : decode cL_law 304 = .ok (.if_icmp .eq 87, 3) := by decide +kernel
theorem dL_law_307 : decode cL_law 307 = .ok (.iconst 0, 1) := by decide +kernel
theorem dL_law_308 : decode cL_law 308 = .ok (.ireturn, 1) := by decide +kernel
theorem dL_law_309 : decode cL_law 309 = .ok (.aload_n 1, 1) := by decide +kernel
theorem dL_law_310 : decode cL_law 310 = .ok (.aload_n 0, 1) := by decide +kernel
theorem dL_law_311 : decode cL_law 311 = .ok (.iload_n 3, 1) := by decide +kernel
theorem dL_law_312 : decode cL_law 312 = .ok (.iconst 1, 1) := by decide +kernel
theorem dL_law_313 : decode cL_law 313 = .ok (.iadd, 1) := by decide +kernel
theorem dL_law_314 : decode cL_law 314 = .ok (.iaload, 1) := by decide +kernel
theorem dL_law_315 : decode cL_law 315 = .ok (.invokevirtual 44, 3) := by decide +kernel
theorem dL_law_318 : decode cL_law 318 = .ok (.aload_n 2, 1) := by decide +kernel
theorem dL_law_319 : decode cL_law 319 = .ok (.aload_n 0, 1) := by decide +kernel
theorem dL_law_320 : decode cL_law 320 = .ok (.iload_n 3, 1) := by decide +kernel
theorem dL_law_321 : decode cL_law 321 = .ok (.iconst 1, 1) := by decide +kernel
theorem dL_law_322 : decode cL_law 322 = .ok (.iadd, 1) := by decide +kernel
theorem dL_law_323 : decode cL_law 323 = .ok (.iaload, 1) := by decide +kernel
theorem dL_law_324 : decode cL_law 324 = .ok (.invokevirtual 47, 3) := by decide +kernel
theorem dL_law_327 : decode cL_law 327 = .ok (.if_icmp .eq 64, 3) := by decide +kernel
theorem dL_law_330 : decode cL_law 330 = .ok (.iconst 0, 1) := by decide +kernel
theorem dL_law_331 : decode cL_law 331 = .ok (.ireturn, 1) := by decide +kernel
theorem dL_law_332 : decode cL_law 332 = .ok (.aload_n 1, 1) := by decide +kernel
theorem dL_law_333 : decode cL_law 333 = .ok (.aload_n 0, 1) := by decide +kernel
theorem dL_law_334 : decode cL_law 334 = .ok (.iload_n 3, 1) := by decide +kernel
theorem dL_law_335 : decode cL_law 335 = .ok (.iconst 1, 1) := by decide +kernel
theorem dL_law_336 : decode cL_law 336 = .ok (.iadd, 1) := by decide +kernel
theorem dL_law_337 : decode cL_law 337 = .ok (.iaload, 1) := by decide +kernel
theorem dL_law_338 : decode cL_law 338 = .ok (.aload_n 0, 1) := by decide +kernel
theorem dL_law_339 : decode cL_law 339 = .ok (.iload_n 3, 1) := by decide +kernel
theorem dL_law_340 : decode cL_law 340 = .ok (.iconst 2, 1) := by decide +kernel
theorem dL_law_341 : decode cL_law 341 = .ok (.iadd, 1) := by decide +kernel
theorem dL_law_342 : decode cL_law 342 = .ok (.iaload, 1) := by decide +kernel
theorem dL_law_343 : decode cL_law 343 = .ok (.invokevirtual 48, 3) := by decide +kernel
theorem dL_law_346 : decode cL_law 346 = .ok (.aload_n 2, 1) := by decide +kernel
theorem dL_law_347 : decode cL_law 347 = .ok (.aload_n 0, 1) := by decide +kernel
theorem dL_law_348 : decode cL_law 348 = .ok (.iload_n 3, 1) := by decide +kernel
theorem dL_law_349 : decode cL_law 349 = .ok (.iconst 1, 1) := by decide +kernel
theorem dL_law_350 : decode cL_law 350 = .ok (.iadd, 1) := by decide +kernel
theorem dL_law_351 : decode cL_law 351 = .ok (.iaload, 1) := by decide +kernel
theorem dL_law_352 : decode cL_law 352 = .ok (.aload_n 0, 1) := by decide +kernel
theorem dL_law_353 : decode cL_law 353 = .ok (.iload_n 3, 1) := by decide +kernel
theorem dL_law_354 : decode cL_law 354 = .ok (.iconst 2, 1) := by decide +kernel
theorem dL_law_355 : decode cL_law 355 = .ok (.iadd, 1) := by decide +kernel
theorem dL_law_356 : decode cL_law 356 = .ok (.iaload, 1) := by decide +kernel
theorem dL_law_357 : decode cL_law 357 = .ok (.invokevirtual 51, 3) := by decide +kernel
theorem dL_law_360 : decode cL_law 360 = .ok (.if_icmp .eq 31, 3) := by decide +kernel
theorem dL_law_363 : decode cL_law 363 = .ok (.iconst 0, 1) := by decide +kernel
theorem dL_law_364 : decode cL_law 364 = .ok (.ireturn, 1) := by decide +kernel
theorem dL_law_365 : decode cL_law 365 = .ok (.aload_n 1, 1) := by decide +kernel
theorem dL_law_366 : decode cL_law 366 = .ok (.invokevirtual 52, 3) := by decide +kernel
theorem dL_law_369 : decode cL_law 369 = .ok (.aload_n 2, 1) := by decide +kernel
theorem dL_law_370 : decode cL_law 370 = .ok (.invokevirtual 56, 3) := by decide +kernel
theorem dL_law_373 : decode cL_law 373 = .ok (.if_icmp .eq 18, 3) := by decide +kernel
theorem dL_law_376 : decode cL_law 376 = .ok (.iconst 0, 1) := by decide +kernel
theorem dL_law_377 : decode cL_law 377 = .ok (.ireturn, 1) := by decide +kernel
theorem dL_law_378 : decode cL_law 378 = .ok (.aload_n 1, 1) := by decide +kernel
theorem dL_law_379 : decode cL_law 379 = .ok (.invokevirtual 57, 3) := by decide +kernel
theorem dL_law_382 : decode cL_law 382 = .ok (.aload_n 2, 1) := by decide +kernel
theorem dL_law_383 : decode cL_law 383 = .ok (.invokevirtual 60, 3) := by decide +kernel
theorem dL_law_386 : decode cL_law 386 = .ok (.if_icmp .eq 5, 3) := by decide +kernel
theorem dL_law_389 : decode cL_law 389 = .ok (.iconst 0, 1) := by decide +kernel
theorem dL_law_390 : decode cL_law 390 = .ok (.ireturn, 1) := by decide +kernel
theorem dL_law_391 : decode cL_law 391 = .ok (.iinc 3 3, 3) := by decide +kernel
theorem dL_law_394 : decode cL_law 394 = .ok (.goto (-376), 3) := by decide +kernel
theorem dL_law_397 : decode cL_law 397 = .ok (.iconst 1, 1) := by decide +kernel
theorem dL_law_398 : decode cL_law 398 = .ok (.ireturn, 1) := by decide +kernel
end
section
/-! BASE: the worlds of the two kinds of object, their contracts' shapes, entry, call and return rows -/
set_option maxRecDepth 100000
abbrev vwCl : List vw_C := [(RX0, TX0, 22), (RX1, TX1, 5)]
abbrev kt_T (d1 d2 : ClassId) : List (ClassId × FieldType) := [(d1, .int), (d2, .boolean)]
def kt_F (ad : Nat → Nat) (σ : KSt) : List Value := [.ref (ad 0), .ref (ad 1), .int (σ 2 0), .int (σ 3 0), .int (σ 4 0), .ref (ad 5), .ref (ad 6), .ref (ad 7), .ref (ad 8), .ref (ad 9), .ref (ad 10), .ref (ad 11), .ref (ad 12), .ref (ad 13), .ref (ad 14), .ref (ad 15), .ref (ad 16), .ref (ad 17), .ref (ad 18), .ref (ad 19), .ref (ad 20), .ref (ad 21)]
def kt_W (h0 : Nat) (ad : Nat → Nat) (d1 : ClassId) (σ : KSt) : va_W := [(h0, .inr (0, kt_F ad σ)), (ad 0, .inl (d1, 17, .inl (σ 0))), (ad 1, .inl (d1, 17, .inl (σ 1))), (ad 5, .inl (d1, 17, .inl (σ 5))), (ad 6, .inl (d1, 17, .inl (σ 6))), (ad 7, .inl (d1, 17, .inl (σ 7))), (ad 8, .inl (d1, 18, .inl (σ 8))), (ad 9, .inl (d1, 18, .inl (σ 9))), (ad 10, .inl (d1, 17, .inl (σ 10))), (ad 11, .inl (d1, 17, .inl (σ 11))), (ad 12, .inl (d1, 17, .inl (σ 12))), (ad 13, .inl (d1, 17, .inl (σ 13))), (ad 14, .inl (d1, 18, .inl (σ 14))), (ad 15, .inl (d1, 17, .inl (σ 15))), (ad 16, .inl (d1, 17, .inl (σ 16))), (ad 17, .inl (d1, 17, .inl (σ 17))), (ad 18, .inl (d1, 17, .inl (σ 18))), (ad 19, .inl (d1, 17, .inl (σ 19))), (ad 20, .inl (d1, 17, .inl (σ 20))), (ad 21, .inl (d1, 17, .inl (σ 21)))]
def kt_MF (ad : Nat → Nat) : List Value := [.ref (ad 0), .ref (ad 1), .ref (ad 2), .ref (ad 3), .ref (ad 4)]
def kt_M (h0 : Nat) (ad : Nat → Nat) (d1 d2 : ClassId) (σ : KSt) : va_W := [(h0, .inr (1, kt_MF ad)), (ad 0, .inl (d1, 16, .inl (σ 0))), (ad 1, .inl (d2, 16, .inl (σ 1))), (ad 2, .inl (d2, 256, .inl (σ 2))), (ad 3, .inl (d2, 16, .inl (σ 3))), (ad 4, .inl (d2, 256, .inl (σ 4)))]
abbrev kt_X (dC : Nat → ClassId) (dI : Nat → Nat → Nat) (ws : va_W) (A : Nat → Prop) (s : State) (H : Heap) (locs : List Loc) : Prop := va_P (dC, dI) vwCl ws H ∧ va_D A ws ∧ va_S A s.heap H locs
def kt_P (dC : Nat → ClassId) (dI : Nat → Nat → Nat) (tys : List (ClassId × FieldType)) (ws : va_W) (sz : Nat) : State → Prop := fun U => U.heap.size = sz ∧ va_P (dC, dI) vwCl ws U.heap ∧ va_K (dC, dI) vwCl tys U ∧ va_D (fun _ => True) ws
def kt_B (dC : Nat → ClassId) (dI : Nat → Nat → Nat) (tys : List (ClassId × FieldType)) (WS : KSt → va_W) (A : Nat → Prop) (u : KSt) (t : State) : Prop := va_P (dC, dI) vwCl (WS u) t.heap ∧ va_K (dC, dI) vwCl tys t ∧ va_D A (WS u)
def kt_Qi (a : Int32 × KSt) (dC : Nat → ClassId) (dI : Nat → Nat → Nat) (tys : List (ClassId × FieldType)) (WS : KSt → va_W) (A : Nat → Prop) : Array Value → State → Outcome → State → Prop := va_Qi (fun r u => r = a.1 ∧ u = a.2) (kt_B dC dI tys WS A) A
def kt_Qv (a : KSt) (dC : Nat → ClassId) (dI : Nat → Nat → Nat) (tys : List (ClassId × FieldType)) (WS : KSt → va_W) (A : Nat → Prop) : Array Value → State → Outcome → State → Prop := va_Qv (fun u => u = a) (kt_B dC dI tys WS A) A
def kt_Qs (a : Int32) : Array Value → State → Outcome → State → Prop := va_Qi (fun r (_ : Unit) => r = a) (fun _ _ => True) (fun _ => False)
/-- a method of an object that answers an int: any heap that holds WS σ; it returns a.1, the heap holds WS a.2 -/
def kt_Ci (l : Launch) (y : MethodName) (ws : List Cond) (rm : Room) (b : Nat) (As : List Value) (dC : Nat → ClassId) (dI : Nat → Nat → Nat) (tys : List (ClassId × FieldType)) (WS : KSt → va_W) (σ : KSt) (a : Int32 × KSt) : Prop := ∀ sz : Nat, Met l y ws rm (va_Pc (.ref b :: As) (kt_P dC dI tys (WS σ) sz)) (kt_Qi a dC dI tys WS (va_A (WS σ) sz)) 0 0 (va_A (WS σ) sz)
/-- the same for a void method -/
def kt_Cv (l : Launch) (y : MethodName) (ws : List Cond) (rm : Room) (b : Nat) (As : List Value) (dC : Nat → ClassId) (dI : Nat → Nat → Nat) (tys : List (ClassId × FieldType)) (WS : KSt → va_W) (σ : KSt) (a : KSt) : Prop := ∀ sz : Nat, Met l y ws rm (va_Pc (.ref b :: As) (kt_P dC dI tys (WS σ) sz)) (kt_Qv a dC dI tys WS (va_A (WS σ) sz)) 0 0 (va_A (WS σ) sz)
/-- a static method of ints that touches no cell -/
def kt_Cs (l : Launch) (y : MethodName) (ws : List Cond) (rm : Room) (As : List Value) (a : Int32) : Prop := Met l y ws rm (va_Pc As (fun _ => True)) (kt_Qs a) 0 0 (fun _ => False)
/-- what stays fixed through a body -/
def kt_E (own : String) (p : Program) (s : State) (m : MethodId) (meth : Method) (c : Code) (cc : ByteArray) (nL : Nat) (ret : Option FieldType) (args : Array Value) : Prop := p.tables.exec = Jvm.exec ∧ c.code = cc ∧ c.maxLocals = nL ∧ s.vm.findClass own = some m.cls ∧ (∀ w ∈ lw_all, w.before args s = true) ∧ meth.sig.returnType = ret ∧ meth.locks = false
theorem kt_st_ne {σ : KSt} {k i k' : Nat} {x : Int32} (h : Nat.beq k' k = false) : kt_st σ k i x k' = σ k' := by
  unfold kt_st
  rw [h]
  rfl
theorem kt_st_eq {σ : KSt} {k i : Nat} {x : Int32} : kt_st σ k i x k = upd (σ k) i x := by
  unfold kt_st
  rw [Nat.beq_refl]
  rfl
theorem kt_st_cg {σ τ : KSt} {k i : Nat} {x : Int32} (e : σ k = τ k) : kt_st σ k i x k = kt_st τ k i x k := by
  rw [kt_st_eq, kt_st_eq, e]
theorem kt_st_sc {σ : KSt} {k : Nat} {x : Int32} : kt_st σ k 0 x k 0 = x := by
  rw [kt_st_eq]
  rfl
section
variable {h0 : Nat} {ad : Nat → Nat} {d1 d2 : ClassId} {σ : KSt} {f : Nat → Int32} {v x : Int32} {i : Nat} {dC : Nat → ClassId} {dI : Nat → Nat → Nat} {A : Nat → Prop} {s : State} {H : Heap} {locs : List Loc}
theorem kt_W0 : (kt_W h0 ad d1 σ)[0]? = some (h0, .inr (0, kt_F ad σ)) := rfl
theorem kt_M0 : (kt_M h0 ad d1 d2 σ)[0]? = some (h0, .inr (1, kt_MF ad)) := rfl
theorem kt_F0 : (kt_F ad σ)[0]? = some (.ref (ad 0)) := rfl
theorem kt_F1 : (kt_F ad σ)[1]? = some (.ref (ad 1)) := rfl
theorem kt_F2 (e : σ 2 0 = v) : (kt_F ad σ)[2]? = some (.int v) := e ▸ rfl
theorem kt_FL2 : 2 < (kt_F ad σ).length := Nat.le_of_ble_eq_true rfl
theorem kt_XF2 (hP : va_P (dC, dI) vwCl ((kt_W h0 ad d1 σ).set 0 (h0, .inr (0, (kt_F ad σ).set 2 (.int v)))) H) (hD : va_D A ((kt_W h0 ad d1 σ).set 0 (h0, .inr (0, (kt_F ad σ).set 2 (.int v))))) (hS : va_S A s.heap H locs) : kt_X dC dI (kt_W h0 ad d1 (kt_st σ 2 0 v)) A s H locs := ⟨hP, hD, hS⟩
theorem kt_F3 (e : σ 3 0 = v) : (kt_F ad σ)[3]? = some (.int v) := e ▸ rfl
theorem kt_FL3 : 3 < (kt_F ad σ).length := Nat.le_of_ble_eq_true rfl
theorem kt_XF3 (hP : va_P (dC, dI) vwCl ((kt_W h0 ad d1 σ).set 0 (h0, .inr (0, (kt_F ad σ).set 3 (.int v)))) H) (hD : va_D A ((kt_W h0 ad d1 σ).set 0 (h0, .inr (0, (kt_F ad σ).set 3 (.int v))))) (hS : va_S A s.heap H locs) : kt_X dC dI (kt_W h0 ad d1 (kt_st σ 3 0 v)) A s H locs := ⟨hP, hD, hS⟩
theorem kt_F4 (e : σ 4 0 = v) : (kt_F ad σ)[4]? = some (.int v) := e ▸ rfl
theorem kt_FL4 : 4 < (kt_F ad σ).length := Nat.le_of_ble_eq_true rfl
theorem kt_XF4 (hP : va_P (dC, dI) vwCl ((kt_W h0 ad d1 σ).set 0 (h0, .inr (0, (kt_F ad σ).set 4 (.int v)))) H) (hD : va_D A ((kt_W h0 ad d1 σ).set 0 (h0, .inr (0, (kt_F ad σ).set 4 (.int v))))) (hS : va_S A s.heap H locs) : kt_X dC dI (kt_W h0 ad d1 (kt_st σ 4 0 v)) A s H locs := ⟨hP, hD, hS⟩
theorem kt_F5 : (kt_F ad σ)[5]? = some (.ref (ad 5)) := rfl
theorem kt_F6 : (kt_F ad σ)[6]? = some (.ref (ad 6)) := rfl
theorem kt_F7 : (kt_F ad σ)[7]? = some (.ref (ad 7)) := rfl
theorem kt_F8 : (kt_F ad σ)[8]? = some (.ref (ad 8)) := rfl
theorem kt_F9 : (kt_F ad σ)[9]? = some (.ref (ad 9)) := rfl
theorem kt_F10 : (kt_F ad σ)[10]? = some (.ref (ad 10)) := rfl
theorem kt_F11 : (kt_F ad σ)[11]? = some (.ref (ad 11)) := rfl
theorem kt_F12 : (kt_F ad σ)[12]? = some (.ref (ad 12)) := rfl
theorem kt_F13 : (kt_F ad σ)[13]? = some (.ref (ad 13)) := rfl
theorem kt_F14 : (kt_F ad σ)[14]? = some (.ref (ad 14)) := rfl
theorem kt_F15 : (kt_F ad σ)[15]? = some (.ref (ad 15)) := rfl
theorem kt_F16 : (kt_F ad σ)[16]? = some (.ref (ad 16)) := rfl
theorem kt_F17 : (kt_F ad σ)[17]? = some (.ref (ad 17)) := rfl
theorem kt_F18 : (kt_F ad σ)[18]? = some (.ref (ad 18)) := rfl
theorem kt_F19 : (kt_F ad σ)[19]? = some (.ref (ad 19)) := rfl
theorem kt_F20 : (kt_F ad σ)[20]? = some (.ref (ad 20)) := rfl
theorem kt_F21 : (kt_F ad σ)[21]? = some (.ref (ad 21)) := rfl
theorem kt_A0 (e : σ 0 = f) : (kt_W h0 ad d1 σ)[1]? = some (ad 0, .inl (d1, 17, .inl f)) := e ▸ rfl
theorem kt_XA0 (hP : va_P (dC, dI) vwCl ((kt_W h0 ad d1 σ).set 1 (ad 0, .inl (d1, 17, .inl (upd (σ 0) i x)))) H) (hD : va_D A ((kt_W h0 ad d1 σ).set 1 (ad 0, .inl (d1, 17, .inl (upd (σ 0) i x))))) (hS : va_S A s.heap H locs) : kt_X dC dI (kt_W h0 ad d1 (kt_st σ 0 i x)) A s H locs := ⟨hP, hD, hS⟩
theorem kt_A1 (e : σ 1 = f) : (kt_W h0 ad d1 σ)[2]? = some (ad 1, .inl (d1, 17, .inl f)) := e ▸ rfl
theorem kt_XA1 (hP : va_P (dC, dI) vwCl ((kt_W h0 ad d1 σ).set 2 (ad 1, .inl (d1, 17, .inl (upd (σ 1) i x)))) H) (hD : va_D A ((kt_W h0 ad d1 σ).set 2 (ad 1, .inl (d1, 17, .inl (upd (σ 1) i x))))) (hS : va_S A s.heap H locs) : kt_X dC dI (kt_W h0 ad d1 (kt_st σ 1 i x)) A s H locs := ⟨hP, hD, hS⟩
theorem kt_A5 (e : σ 5 = f) : (kt_W h0 ad d1 σ)[3]? = some (ad 5, .inl (d1, 17, .inl f)) := e ▸ rfl
theorem kt_XA5 (hP : va_P (dC, dI) vwCl ((kt_W h0 ad d1 σ).set 3 (ad 5, .inl (d1, 17, .inl (upd (σ 5) i x)))) H) (hD : va_D A ((kt_W h0 ad d1 σ).set 3 (ad 5, .inl (d1, 17, .inl (upd (σ 5) i x))))) (hS : va_S A s.heap H locs) : kt_X dC dI (kt_W h0 ad d1 (kt_st σ 5 i x)) A s H locs := ⟨hP, hD, hS⟩
theorem kt_A6 (e : σ 6 = f) : (kt_W h0 ad d1 σ)[4]? = some (ad 6, .inl (d1, 17, .inl f)) := e ▸ rfl
theorem kt_XA6 (hP : va_P (dC, dI) vwCl ((kt_W h0 ad d1 σ).set 4 (ad 6, .inl (d1, 17, .inl (upd (σ 6) i x)))) H) (hD : va_D A ((kt_W h0 ad d1 σ).set 4 (ad 6, .inl (d1, 17, .inl (upd (σ 6) i x))))) (hS : va_S A s.heap H locs) : kt_X dC dI (kt_W h0 ad d1 (kt_st σ 6 i x)) A s H locs := ⟨hP, hD, hS⟩
theorem kt_A7 (e : σ 7 = f) : (kt_W h0 ad d1 σ)[5]? = some (ad 7, .inl (d1, 17, .inl f)) := e ▸ rfl
theorem kt_XA7 (hP : va_P (dC, dI) vwCl ((kt_W h0 ad d1 σ).set 5 (ad 7, .inl (d1, 17, .inl (upd (σ 7) i x)))) H) (hD : va_D A ((kt_W h0 ad d1 σ).set 5 (ad 7, .inl (d1, 17, .inl (upd (σ 7) i x))))) (hS : va_S A s.heap H locs) : kt_X dC dI (kt_W h0 ad d1 (kt_st σ 7 i x)) A s H locs := ⟨hP, hD, hS⟩
theorem kt_A8 (e : σ 8 = f) : (kt_W h0 ad d1 σ)[6]? = some (ad 8, .inl (d1, 18, .inl f)) := e ▸ rfl
theorem kt_XA8 (hP : va_P (dC, dI) vwCl ((kt_W h0 ad d1 σ).set 6 (ad 8, .inl (d1, 18, .inl (upd (σ 8) i x)))) H) (hD : va_D A ((kt_W h0 ad d1 σ).set 6 (ad 8, .inl (d1, 18, .inl (upd (σ 8) i x))))) (hS : va_S A s.heap H locs) : kt_X dC dI (kt_W h0 ad d1 (kt_st σ 8 i x)) A s H locs := ⟨hP, hD, hS⟩
theorem kt_A9 (e : σ 9 = f) : (kt_W h0 ad d1 σ)[7]? = some (ad 9, .inl (d1, 18, .inl f)) := e ▸ rfl
theorem kt_XA9 (hP : va_P (dC, dI) vwCl ((kt_W h0 ad d1 σ).set 7 (ad 9, .inl (d1, 18, .inl (upd (σ 9) i x)))) H) (hD : va_D A ((kt_W h0 ad d1 σ).set 7 (ad 9, .inl (d1, 18, .inl (upd (σ 9) i x))))) (hS : va_S A s.heap H locs) : kt_X dC dI (kt_W h0 ad d1 (kt_st σ 9 i x)) A s H locs := ⟨hP, hD, hS⟩
theorem kt_A10 (e : σ 10 = f) : (kt_W h0 ad d1 σ)[8]? = some (ad 10, .inl (d1, 17, .inl f)) := e ▸ rfl
theorem kt_XA10 (hP : va_P (dC, dI) vwCl ((kt_W h0 ad d1 σ).set 8 (ad 10, .inl (d1, 17, .inl (upd (σ 10) i x)))) H) (hD : va_D A ((kt_W h0 ad d1 σ).set 8 (ad 10, .inl (d1, 17, .inl (upd (σ 10) i x))))) (hS : va_S A s.heap H locs) : kt_X dC dI (kt_W h0 ad d1 (kt_st σ 10 i x)) A s H locs := ⟨hP, hD, hS⟩
theorem kt_A11 (e : σ 11 = f) : (kt_W h0 ad d1 σ)[9]? = some (ad 11, .inl (d1, 17, .inl f)) := e ▸ rfl
theorem kt_XA11 (hP : va_P (dC, dI) vwCl ((kt_W h0 ad d1 σ).set 9 (ad 11, .inl (d1, 17, .inl (upd (σ 11) i x)))) H) (hD : va_D A ((kt_W h0 ad d1 σ).set 9 (ad 11, .inl (d1, 17, .inl (upd (σ 11) i x))))) (hS : va_S A s.heap H locs) : kt_X dC dI (kt_W h0 ad d1 (kt_st σ 11 i x)) A s H locs := ⟨hP, hD, hS⟩
theorem kt_A12 (e : σ 12 = f) : (kt_W h0 ad d1 σ)[10]? = some (ad 12, .inl (d1, 17, .inl f)) := e ▸ rfl
theorem kt_XA12 (hP : va_P (dC, dI) vwCl ((kt_W h0 ad d1 σ).set 10 (ad 12, .inl (d1, 17, .inl (upd (σ 12) i x)))) H) (hD : va_D A ((kt_W h0 ad d1 σ).set 10 (ad 12, .inl (d1, 17, .inl (upd (σ 12) i x))))) (hS : va_S A s.heap H locs) : kt_X dC dI (kt_W h0 ad d1 (kt_st σ 12 i x)) A s H locs := ⟨hP, hD, hS⟩
theorem kt_A13 (e : σ 13 = f) : (kt_W h0 ad d1 σ)[11]? = some (ad 13, .inl (d1, 17, .inl f)) := e ▸ rfl
theorem kt_XA13 (hP : va_P (dC, dI) vwCl ((kt_W h0 ad d1 σ).set 11 (ad 13, .inl (d1, 17, .inl (upd (σ 13) i x)))) H) (hD : va_D A ((kt_W h0 ad d1 σ).set 11 (ad 13, .inl (d1, 17, .inl (upd (σ 13) i x))))) (hS : va_S A s.heap H locs) : kt_X dC dI (kt_W h0 ad d1 (kt_st σ 13 i x)) A s H locs := ⟨hP, hD, hS⟩
theorem kt_A14 (e : σ 14 = f) : (kt_W h0 ad d1 σ)[12]? = some (ad 14, .inl (d1, 18, .inl f)) := e ▸ rfl
theorem kt_XA14 (hP : va_P (dC, dI) vwCl ((kt_W h0 ad d1 σ).set 12 (ad 14, .inl (d1, 18, .inl (upd (σ 14) i x)))) H) (hD : va_D A ((kt_W h0 ad d1 σ).set 12 (ad 14, .inl (d1, 18, .inl (upd (σ 14) i x))))) (hS : va_S A s.heap H locs) : kt_X dC dI (kt_W h0 ad d1 (kt_st σ 14 i x)) A s H locs := ⟨hP, hD, hS⟩
theorem kt_A15 (e : σ 15 = f) : (kt_W h0 ad d1 σ)[13]? = some (ad 15, .inl (d1, 17, .inl f)) := e ▸ rfl
theorem kt_XA15 (hP : va_P (dC, dI) vwCl ((kt_W h0 ad d1 σ).set 13 (ad 15, .inl (d1, 17, .inl (upd (σ 15) i x)))) H) (hD : va_D A ((kt_W h0 ad d1 σ).set 13 (ad 15, .inl (d1, 17, .inl (upd (σ 15) i x))))) (hS : va_S A s.heap H locs) : kt_X dC dI (kt_W h0 ad d1 (kt_st σ 15 i x)) A s H locs := ⟨hP, hD, hS⟩
theorem kt_A16 (e : σ 16 = f) : (kt_W h0 ad d1 σ)[14]? = some (ad 16, .inl (d1, 17, .inl f)) := e ▸ rfl
theorem kt_XA16 (hP : va_P (dC, dI) vwCl ((kt_W h0 ad d1 σ).set 14 (ad 16, .inl (d1, 17, .inl (upd (σ 16) i x)))) H) (hD : va_D A ((kt_W h0 ad d1 σ).set 14 (ad 16, .inl (d1, 17, .inl (upd (σ 16) i x))))) (hS : va_S A s.heap H locs) : kt_X dC dI (kt_W h0 ad d1 (kt_st σ 16 i x)) A s H locs := ⟨hP, hD, hS⟩
theorem kt_A17 (e : σ 17 = f) : (kt_W h0 ad d1 σ)[15]? = some (ad 17, .inl (d1, 17, .inl f)) := e ▸ rfl
theorem kt_XA17 (hP : va_P (dC, dI) vwCl ((kt_W h0 ad d1 σ).set 15 (ad 17, .inl (d1, 17, .inl (upd (σ 17) i x)))) H) (hD : va_D A ((kt_W h0 ad d1 σ).set 15 (ad 17, .inl (d1, 17, .inl (upd (σ 17) i x))))) (hS : va_S A s.heap H locs) : kt_X dC dI (kt_W h0 ad d1 (kt_st σ 17 i x)) A s H locs := ⟨hP, hD, hS⟩
theorem kt_A18 (e : σ 18 = f) : (kt_W h0 ad d1 σ)[16]? = some (ad 18, .inl (d1, 17, .inl f)) := e ▸ rfl
theorem kt_XA18 (hP : va_P (dC, dI) vwCl ((kt_W h0 ad d1 σ).set 16 (ad 18, .inl (d1, 17, .inl (upd (σ 18) i x)))) H) (hD : va_D A ((kt_W h0 ad d1 σ).set 16 (ad 18, .inl (d1, 17, .inl (upd (σ 18) i x))))) (hS : va_S A s.heap H locs) : kt_X dC dI (kt_W h0 ad d1 (kt_st σ 18 i x)) A s H locs := ⟨hP, hD, hS⟩
theorem kt_A19 (e : σ 19 = f) : (kt_W h0 ad d1 σ)[17]? = some (ad 19, .inl (d1, 17, .inl f)) := e ▸ rfl
theorem kt_XA19 (hP : va_P (dC, dI) vwCl ((kt_W h0 ad d1 σ).set 17 (ad 19, .inl (d1, 17, .inl (upd (σ 19) i x)))) H) (hD : va_D A ((kt_W h0 ad d1 σ).set 17 (ad 19, .inl (d1, 17, .inl (upd (σ 19) i x))))) (hS : va_S A s.heap H locs) : kt_X dC dI (kt_W h0 ad d1 (kt_st σ 19 i x)) A s H locs := ⟨hP, hD, hS⟩
theorem kt_A20 (e : σ 20 = f) : (kt_W h0 ad d1 σ)[18]? = some (ad 20, .inl (d1, 17, .inl f)) := e ▸ rfl
theorem kt_XA20 (hP : va_P (dC, dI) vwCl ((kt_W h0 ad d1 σ).set 18 (ad 20, .inl (d1, 17, .inl (upd (σ 20) i x)))) H) (hD : va_D A ((kt_W h0 ad d1 σ).set 18 (ad 20, .inl (d1, 17, .inl (upd (σ 20) i x))))) (hS : va_S A s.heap H locs) : kt_X dC dI (kt_W h0 ad d1 (kt_st σ 20 i x)) A s H locs := ⟨hP, hD, hS⟩
theorem kt_A21 (e : σ 21 = f) : (kt_W h0 ad d1 σ)[19]? = some (ad 21, .inl (d1, 17, .inl f)) := e ▸ rfl
theorem kt_XA21 (hP : va_P (dC, dI) vwCl ((kt_W h0 ad d1 σ).set 19 (ad 21, .inl (d1, 17, .inl (upd (σ 21) i x)))) H) (hD : va_D A ((kt_W h0 ad d1 σ).set 19 (ad 21, .inl (d1, 17, .inl (upd (σ 21) i x))))) (hS : va_S A s.heap H locs) : kt_X dC dI (kt_W h0 ad d1 (kt_st σ 21 i x)) A s H locs := ⟨hP, hD, hS⟩
theorem kt_MF0 : (kt_MF ad)[0]? = some (.ref (ad 0)) := rfl
theorem kt_MA0 (e : σ 0 = f) : (kt_M h0 ad d1 d2 σ)[1]? = some (ad 0, .inl (d1, 16, .inl f)) := e ▸ rfl
theorem kt_MXA0 (hP : va_P (dC, dI) vwCl ((kt_M h0 ad d1 d2 σ).set 1 (ad 0, .inl (d1, 16, .inl (upd (σ 0) i x)))) H) (hD : va_D A ((kt_M h0 ad d1 d2 σ).set 1 (ad 0, .inl (d1, 16, .inl (upd (σ 0) i x))))) (hS : va_S A s.heap H locs) : kt_X dC dI (kt_M h0 ad d1 d2 (kt_st σ 0 i x)) A s H locs := ⟨hP, hD, hS⟩
theorem kt_MF1 : (kt_MF ad)[1]? = some (.ref (ad 1)) := rfl
theorem kt_MA1 (e : σ 1 = f) : (kt_M h0 ad d1 d2 σ)[2]? = some (ad 1, .inl (d2, 16, .inl f)) := e ▸ rfl
theorem kt_MXA1 (hP : va_P (dC, dI) vwCl ((kt_M h0 ad d1 d2 σ).set 2 (ad 1, .inl (d2, 16, .inl (upd (σ 1) i x)))) H) (hD : va_D A ((kt_M h0 ad d1 d2 σ).set 2 (ad 1, .inl (d2, 16, .inl (upd (σ 1) i x))))) (hS : va_S A s.heap H locs) : kt_X dC dI (kt_M h0 ad d1 d2 (kt_st σ 1 i x)) A s H locs := ⟨hP, hD, hS⟩
theorem kt_MF2 : (kt_MF ad)[2]? = some (.ref (ad 2)) := rfl
theorem kt_MA2 (e : σ 2 = f) : (kt_M h0 ad d1 d2 σ)[3]? = some (ad 2, .inl (d2, 256, .inl f)) := e ▸ rfl
theorem kt_MXA2 (hP : va_P (dC, dI) vwCl ((kt_M h0 ad d1 d2 σ).set 3 (ad 2, .inl (d2, 256, .inl (upd (σ 2) i x)))) H) (hD : va_D A ((kt_M h0 ad d1 d2 σ).set 3 (ad 2, .inl (d2, 256, .inl (upd (σ 2) i x))))) (hS : va_S A s.heap H locs) : kt_X dC dI (kt_M h0 ad d1 d2 (kt_st σ 2 i x)) A s H locs := ⟨hP, hD, hS⟩
theorem kt_MF3 : (kt_MF ad)[3]? = some (.ref (ad 3)) := rfl
theorem kt_MA3 (e : σ 3 = f) : (kt_M h0 ad d1 d2 σ)[4]? = some (ad 3, .inl (d2, 16, .inl f)) := e ▸ rfl
theorem kt_MXA3 (hP : va_P (dC, dI) vwCl ((kt_M h0 ad d1 d2 σ).set 4 (ad 3, .inl (d2, 16, .inl (upd (σ 3) i x)))) H) (hD : va_D A ((kt_M h0 ad d1 d2 σ).set 4 (ad 3, .inl (d2, 16, .inl (upd (σ 3) i x))))) (hS : va_S A s.heap H locs) : kt_X dC dI (kt_M h0 ad d1 d2 (kt_st σ 3 i x)) A s H locs := ⟨hP, hD, hS⟩
theorem kt_MF4 : (kt_MF ad)[4]? = some (.ref (ad 4)) := rfl
theorem kt_MA4 (e : σ 4 = f) : (kt_M h0 ad d1 d2 σ)[5]? = some (ad 4, .inl (d2, 256, .inl f)) := e ▸ rfl
theorem kt_MXA4 (hP : va_P (dC, dI) vwCl ((kt_M h0 ad d1 d2 σ).set 5 (ad 4, .inl (d2, 256, .inl (upd (σ 4) i x)))) H) (hD : va_D A ((kt_M h0 ad d1 d2 σ).set 5 (ad 4, .inl (d2, 256, .inl (upd (σ 4) i x))))) (hS : va_S A s.heap H locs) : kt_X dC dI (kt_M h0 ad d1 d2 (kt_st σ 4 i x)) A s H locs := ⟨hP, hD, hS⟩
end
theorem kt_blind {dC : Nat → ClassId} {dI : Nat → Nat → Nat} {tys : List (ClassId × FieldType)} {ws : va_W} {sz : Nat} {As : List Value} : FrameBlind (va_Pc As (kt_P dC dI tys ws sz)) := by
  intro a U g mk q
  obtain ⟨q0, q1, qP, qK, qD⟩ := q
  exact ⟨q0, q1, qP, va_K.moved (u := U) (U := U.calling g mk a) (Vm.Alike.refl U.vm) qK, qD⟩
section
variable {p : Program} {l : Launch} {e : Env} {R : Room} {s : State} {m : MethodId} {args : Array Value} {below : List Frame} {meth : Method} {c : Code} {H : Heap} {locs : List Loc} {Q : State → Prop} {cc : ByteArray} {pc : Nat} {ls : Array Slot} {rest : List Value}
variable {dC : Nat → ClassId} {dI : Nat → Nat → Nat} {tys : List (ClassId × FieldType)} {WS : KSt → va_W} {A : Nat → Prop} {σ : KSt}
theorem kt_iret {a : Int32 × KSt} {v : Int32} {own : String} {nL : Nat} (K : kt_E own p s m meth c cc nL (some .int) args) (hK : va_K (dC, dI) vwCl tys s) (X : kt_X dC dI (WS σ) A s H locs) (h : some (v, σ) = some a) (hdg : decode cc pc = .ok (.ireturn, 1)) : W p l e R s m args below meth c H locs 0 0 (MQ below (kt_Qi a dC dI tys WS A) args s 0 0 A) (F0 m pc ls [.int v]) := by
  obtain ⟨hx, hb, hml, hown, hts, hr, hlocks⟩ := K
  obtain ⟨hP, hD, hS⟩ := X
  cases h
  exact W.iret (v := v) hx hb hr (fun t ht hW => ⟨⟨v, σ, rfl, ⟨rfl, rfl⟩, by rw [ht]; exact hP, va_K.moved hW.alike hK, hD⟩, hS.F ht⟩) hS.2.2 hdg hlocks
theorem kt_zret {a : Int32 × KSt} {v : Int32} {own : String} {nL : Nat} (K : kt_E own p s m meth c cc nL (some .boolean) args) (hv : v = 0 ∨ v = 1) (hK : va_K (dC, dI) vwCl tys s) (X : kt_X dC dI (WS σ) A s H locs) (h : some (v, σ) = some a) (hdg : decode cc pc = .ok (.ireturn, 1)) : W p l e R s m args below meth c H locs 0 0 (MQ below (kt_Qi a dC dI tys WS A) args s 0 0 A) (F0 m pc ls [.int v]) := by
  obtain ⟨hx, hb, hml, hown, hts, hr, hlocks⟩ := K
  obtain ⟨hP, hD, hS⟩ := X
  cases h
  exact W.zret (v := v) hx hb hr (by rcases hv with rfl | rfl <;> rfl) (fun t ht hW => ⟨⟨v, σ, rfl, ⟨rfl, rfl⟩, by rw [ht]; exact hP, va_K.moved hW.alike hK, hD⟩, hS.F ht⟩) hS.2.2 hdg hlocks
theorem kt_vret {a : KSt} {own : String} {nL : Nat} (K : kt_E own p s m meth c cc nL none args) (hK : va_K (dC, dI) vwCl tys s) (X : kt_X dC dI (WS σ) A s H locs) (h : some σ = some a) (hdg : decode cc pc = .ok (.return_, 1)) : W p l e R s m args below meth c H locs 0 0 (MQ below (kt_Qv a dC dI tys WS A) args s 0 0 A) (F0 m pc ls []) := by
  obtain ⟨hx, hb, hml, hown, hts, hr, hlocks⟩ := K
  obtain ⟨hP, hD, hS⟩ := X
  cases h
  exact W.vret hx hb hr (fun t ht hW => ⟨⟨σ, rfl, rfl, by rw [ht]; exact hP, va_K.moved hW.alike hK, hD⟩, hS.F ht⟩) hS.2.2 hdg hlocks
theorem kt_siret {a v : Int32} {own : String} {nL : Nat} (K : kt_E own p s m meth c cc nL (some .int) args) (h : some v = some a) (hdg : decode cc pc = .ok (.ireturn, 1)) : W p l e R s m args below meth c s.heap [] 0 0 (MQ below (kt_Qs a) args s 0 0 (fun _ => False)) (F0 m pc ls [.int v]) := by
  obtain ⟨hx, hb, hml, hown, hts, hr, hlocks⟩ := K
  have e0 : v = a := Option.some.inj h
  subst e0
  exact W.iret (v := v) hx hb hr (fun t ht hW => ⟨⟨v, (), rfl, rfl, trivial⟩, ⟨by rw [ht]; exact Nat.le_refl _, fun q _ _ => by rw [ht]⟩⟩) (fun _ h => by cases h) hdg hlocks
theorem kt_szret {a v : Int32} {own : String} {nL : Nat} (K : kt_E own p s m meth c cc nL (some .boolean) args) (hv : v = 0 ∨ v = 1) (h : some v = some a) (hdg : decode cc pc = .ok (.ireturn, 1)) : W p l e R s m args below meth c s.heap [] 0 0 (MQ below (kt_Qs a) args s 0 0 (fun _ => False)) (F0 m pc ls [.int v]) := by
  obtain ⟨hx, hb, hml, hown, hts, hr, hlocks⟩ := K
  have e0 : v = a := Option.some.inj h
  subst e0
  exact W.zret (v := v) hx hb hr (by rcases hv with rfl | rfl <;> rfl) (fun t ht hW => ⟨⟨v, (), rfl, rfl, trivial⟩, ⟨by rw [ht]; exact Nat.le_refl _, fun q _ _ => by rw [ht]⟩⟩) (fun _ h => by cases h) hdg hlocks
variable {own C : String} {nL n index maxL : Nat} {y : MethodName} {bytes : ByteArray} {ret : Option FieldType} {ws : List Cond} {rm : Room} {b : Nat} {As st0 : List Value} {D : ClassId}
/-- a call of a method of an object over the whole world WS, an int comes back -/
theorem kt_calli {a : Int32 × KSt} {rt : Option FieldType} (K : kt_E own p s m meth c cc nL rt args) (hK : va_K (dC, dI) vwCl tys s) (hA : ∀ q : Nat, s.heap.size ≤ q → A q) (hM : kt_Ci l y ws rm b As dC dI tys WS σ a) (cw : CallW R s args own C index y bytes maxL ret ws rm 0 0 n) (hrc : ∃ cell : Cell, H[b]? = some cell ∧ cell.vm.isStatics = false ∧ s.vm.findClass C = some cell.cls) (hn : As.length = n) (hsz : ls.size = nL) (hst : st0 = As.reverse ++ .ref b :: rest) (hW : (rest.map fun v => v.category).sum ≤ 8) (hdg : decode cc pc = .ok (.invokevirtual index, 3)) (X : kt_X dC dI (WS σ) A s H locs)
    (kk : ∀ (H1 : Heap) (locs1 : List Loc), kt_X dC dI (WS a.2) A s H1 locs1 → W p l e R s m args below meth c H1 locs1 0 0 Q (F0 m (pc + 3) ls (.int a.1 :: rest))) : W p l e R s m args below meth c H locs 0 0 Q (F0 m pc ls st0) := by
  obtain ⟨hx, hb, hml, hown, hts, hr, hlocks⟩ := K
  obtain ⟨hP, hD, hS⟩ := X
  have hFc : ∀ q : Nat, va_A (WS σ) H.size q → A q := by
    intro q h
    rcases h with ⟨k, e, h⟩ | h
    · exact hD.2 k _ h
    · exact hA q (Nat.le_trans hS.1 h)
  refine va_calli (va_runV (As := As) (rest := rest) ⟨hx, hb, hml, hown, hts⟩ (hM H.size) cw ⟨kt_blind, hrc, fun U hU hW => ⟨rfl, by rw [hU], by rw [hU]; exact hP, va_K.moved hW.alike hK, hD.weaken (fun _ _ _ _ => trivial)⟩⟩ rfl hn hsz hst (lv_room hW) hdg ⟨Nat.zero_le _, Nat.zero_le _⟩) hS (fun q _ h => hFc q h) hFc (fun r u t H1 locs1 ht hvm hw hB hz hk hS1 => ?_)
  obtain ⟨rfl, rfl⟩ := hw
  obtain ⟨hP1, hK1, hD1⟩ := hB
  rw [ht] at hP1
  exact kk H1 locs1 ⟨hP1, hD1.weaken (fun _ _ _ h => hFc _ h), hS1⟩
theorem kt_callv {a : KSt} {rt : Option FieldType} (K : kt_E own p s m meth c cc nL rt args) (hK : va_K (dC, dI) vwCl tys s) (hA : ∀ q : Nat, s.heap.size ≤ q → A q) (hM : kt_Cv l y ws rm b As dC dI tys WS σ a) (cw : CallW R s args own C index y bytes maxL ret ws rm 0 0 n) (hrc : ∃ cell : Cell, H[b]? = some cell ∧ cell.vm.isStatics = false ∧ s.vm.findClass C = some cell.cls) (hn : As.length = n) (hsz : ls.size = nL) (hst : st0 = As.reverse ++ .ref b :: rest) (hW : (rest.map fun v => v.category).sum ≤ 8) (hdg : decode cc pc = .ok (.invokevirtual index, 3)) (X : kt_X dC dI (WS σ) A s H locs)
    (kk : ∀ (H1 : Heap) (locs1 : List Loc), kt_X dC dI (WS a) A s H1 locs1 → W p l e R s m args below meth c H1 locs1 0 0 Q (F0 m (pc + 3) ls rest)) : W p l e R s m args below meth c H locs 0 0 Q (F0 m pc ls st0) := by
  obtain ⟨hx, hb, hml, hown, hts, hr, hlocks⟩ := K
  obtain ⟨hP, hD, hS⟩ := X
  have hFc : ∀ q : Nat, va_A (WS σ) H.size q → A q := by
    intro q h
    rcases h with ⟨k, e, h⟩ | h
    · exact hD.2 k _ h
    · exact hA q (Nat.le_trans hS.1 h)
  refine va_callv (va_runV (As := As) (rest := rest) ⟨hx, hb, hml, hown, hts⟩ (hM H.size) cw ⟨kt_blind, hrc, fun U hU hW => ⟨rfl, by rw [hU], by rw [hU]; exact hP, va_K.moved hW.alike hK, hD.weaken (fun _ _ _ _ => trivial)⟩⟩ rfl hn hsz hst (lv_room hW) hdg ⟨Nat.zero_le _, Nat.zero_le _⟩) hS (fun q _ h => hFc q h) hFc (fun u t H1 locs1 ht hvm hw hB hz hk hS1 => ?_)
  cases hw
  obtain ⟨hP1, hK1, hD1⟩ := hB
  rw [ht] at hP1
  exact kk H1 locs1 ⟨hP1, hD1.weaken (fun _ _ _ h => hFc _ h), hS1⟩
/-- a static call that touches no cell, out of a body that holds WS σ -/
theorem kt_calls {a : Int32} {wd : va_W} {rt : Option FieldType} (K : kt_E own p s m meth c cc nL rt args) (hM : kt_Cs l y ws rm As a) (cw : CallB R s args own index y bytes maxL ret ws rm 0 0 n ∧ (Cond.static y).before args s = true) (hn : As.length = n) (hsz : ls.size = nL) (hst : st0 = As.reverse ++ rest) (hW : (rest.map fun v => v.category).sum ≤ 8) (hdg : decode cc pc = .ok (.invokestatic index, 3)) (X : kt_X dC dI wd A s H locs)
    (kk : ∀ (H1 : Heap) (locs1 : List Loc), kt_X dC dI wd A s H1 locs1 → W p l e R s m args below meth c H1 locs1 0 0 Q (F0 m (pc + 3) ls (.int a :: rest))) : W p l e R s m args below meth c H locs 0 0 Q (F0 m pc ls st0) := by
  obtain ⟨hx, hb, hml, hown, hts, hr, hlocks⟩ := K
  obtain ⟨hP, hD, hS⟩ := X
  refine va_calli (va_runS (As := As) (rest := rest) ⟨hx, hb, hml, hown, hts⟩ hM cw ⟨fun a U g mk q => ⟨q.1, trivial⟩, fun U hU hW => ⟨rfl, trivial⟩⟩ rfl hn hsz hst (lv_room hW) hdg ⟨Nat.zero_le _, Nat.zero_le _⟩) hS (fun q _ h => h.elim) (fun q h => h.elim) (fun r u t H1 locs1 ht hvm hw hB hz hk hS1 => ?_)
  cases hw
  exact kk H1 locs1 ⟨hP.kept (fun k q hq => hk q.1 ((hP k q hq).lt) (fun h => h)), hD, hS1⟩
end
/-- the entry of a method of an object with an int for answer -/
theorem kt_enter {l : Launch} {y : MethodName} {cc : ByteArray} {maxL : Nat} {ret : Option FieldType} {rm : Room} {b : Nat} {As : List Value} {dC : Nat → ClassId} {dI : Nat → Nat → Nat} {tys : List (ClassId × FieldType)} {WS : KSt → va_W} {σ : KSt} {Qc : (Nat → Prop) → Array Value → State → Outcome → State → Prop} (hy : plainName y.cls = true) (hle : (lg_sl (.ref b :: As)).length ≤ maxL)
    (body : ∀ (p : Program) (e : Env) (s : State) (m : MethodId) (below : List Frame) (meth : Method) (c : Code) (A : Nat → Prop) (ls : Array Slot), kt_E y.cls p s m meth c cc maxL ret ((.ref b :: As : List Value).toArray) → va_K (dC, dI) vwCl tys s → (∀ q : Nat, s.heap.size ≤ q → A q) → kt_X dC dI (WS σ) A s s.heap [] → lv_has ls maxL (lv_args 0 (.ref b :: As)) → W p l e rm s m ((.ref b :: As : List Value).toArray) below meth c s.heap [] 0 0 (MQ below (Qc A) ((.ref b :: As : List Value).toArray) s 0 0 A) (F0 m 0 ls [])) :
    ∀ sz : Nat, Met l y (ws_ y cc maxL ret) rm (va_Pc (.ref b :: As) (kt_P dC dI tys (WS σ) sz)) (Qc (va_A (WS σ) sz)) 0 0 (va_A (WS σ) sz) := by
  intro sz
  refine Met.ofW (cc := cc) (maxL := maxL) (ret := ret) hy rfl ?_
  intro p e s m args below meth c s₁ B hml hv
  obtain ⟨rfl, hsz, hP, hK, hD0⟩ := hv
  have hts := atoms_spec (ws := ws_ y cc maxL ret) B.pre
  have hts : ∀ w ∈ lw_all, w.before _ s = true := fun w h => hts w (List.mem_cons_of_mem _ h)
  have hown : s.vm.findClass y.cls = some m.cls := findClass_of_methodNamed B.named
  subst hsz
  have hD := hD0.self (sz := s.heap.size)
  have hl := lv_entry (.ref b :: As) (n := maxL) hle
  rw [lg_entry_eq]
  exact body p e s m below meth c _ _ ⟨B.exec, B.bytes, hml, hown, hts, B.returns, B.notSynchronized⟩ hK (fun q h => Or.inr h) ⟨hP, hD, va_S.rf⟩ hl
/-- the entry of a static method of ints -/
theorem kt_enters {l : Launch} {y : MethodName} {cc : ByteArray} {maxL : Nat} {ret : Option FieldType} {rm : Room} {As : List Value} {a : Int32} (hy : plainName y.cls = true) (hle : (lg_sl As).length ≤ maxL)
    (body : ∀ (p : Program) (e : Env) (s : State) (m : MethodId) (below : List Frame) (meth : Method) (c : Code) (ls : Array Slot), kt_E y.cls p s m meth c cc maxL ret (As.toArray) → lv_has ls maxL (lv_args 0 As) → W p l e rm s m (As.toArray) below meth c s.heap [] 0 0 (MQ below (kt_Qs a) (As.toArray) s 0 0 (fun _ => False)) (F0 m 0 ls [])) :
    kt_Cs l y (ws_ y cc maxL ret) rm As a := by
  refine Met.ofW (cc := cc) (maxL := maxL) (ret := ret) hy rfl ?_
  intro p e s m args below meth c s₁ B hml hv
  obtain ⟨rfl, -⟩ := hv
  have hts := atoms_spec (ws := ws_ y cc maxL ret) B.pre
  have hts : ∀ w ∈ lw_all, w.before _ s = true := fun w h => hts w (List.mem_cons_of_mem _ h)
  have hown : s.vm.findClass y.cls = some m.cls := findClass_of_methodNamed B.named
  have hl := lv_entry As (n := maxL) hle
  rw [lg_entry_eq]
  exact body p e s m below meth c _ ⟨B.exec, B.bytes, hml, hown, hts, B.returns, B.notSynchronized⟩ hl
end
section
set_option maxHeartbeats 4000000 in
set_option maxRecDepth 100000 in
/-- KeepTree.isObject(I)Z -/
theorem met_k_isObject (l : Launch) (x0 : Int32) (a : Int32) (h : k_isObject x0 = some a) : kt_Cs l yX0_isObject (ws_ yX0_isObject cX0_isObject 1 (some .boolean)) ({ frames := 0, cells := 0, slots := 0, locals := 0 } : Room) [.int x0] a := by
  refine kt_enters (by decide) (Nat.le_of_ble_eq_true rfl) ?_
  intro p e s m below meth c ls K hl
  obtain ⟨hx, hb, hml, hown, hts, hr, hlocks⟩ := id K
  have hl : lv_has ls 1 [(0, .int x0)] := hl
  rw [k_isObject] at h
  refine lv_iload_n hx hb dX0_isObject_0 rfl (lv_at hl 0 rfl) ?_
  refine lv_if_lt (tgt := 14) hx hb dX0_isObject_1 (by decide) (fun c1 => ?_) (fun c1 => ?_)
  · have h := kt_ift c1 h
    refine lv_iconst (v := 0) hx hb dX0_isObject_14 (by decide) ?_
    exact kt_szret (v := 0) K (by decide) h dX0_isObject_15
  · have h := kt_iff c1 h
    refine lv_iload_n hx hb dX0_isObject_4 rfl (lv_at hl 0 rfl) ?_
    refine lv_bipush (v := 15) hx hb dX0_isObject_5 (by decide) ?_
    refine lv_icmp_gt (tgt := 14) hx hb dX0_isObject_7 (by decide) (fun c2 => ?_) (fun c2 => ?_)
    · have h := kt_ift c2 h
      refine lv_iconst (v := 0) hx hb dX0_isObject_14 (by decide) ?_
      exact kt_szret (v := 0) K (by decide) h dX0_isObject_15
    · have h := kt_iff c2 h
      refine lv_iconst (v := 1) hx hb dX0_isObject_10 (by decide) ?_
      refine lv_goto (tgt := 15) hx hb dX0_isObject_11 (by decide) ?_
      exact kt_szret (v := 1) K (by decide) h dX0_isObject_15
set_option maxHeartbeats 4000000 in
set_option maxRecDepth 100000 in
/-- KeepTree.setSize(II)I -/
theorem met_k_setSize (l : Launch) (dC : Nat → ClassId) (dI : Nat → Nat → Nat) (h0 : Nat) (ad : Nat → Nat) (d1 d2 : ClassId) (σ : KSt) (x1 x2 : Int32) (a : Int32 × KSt) (h : k_setSize σ x1 x2 = some a) : kt_Ci l yX0_setSize (ws_ yX0_setSize cX0_setSize 4 (some .int)) ({ frames := 1, cells := 0, slots := 0, locals := 20 } : Room) h0 [.int x1, .int x2] dC dI (kt_T d1 d2) (kt_W h0 ad d1) σ a := by
  refine kt_enter (Qc := fun A => kt_Qi a dC dI (kt_T d1 d2) (kt_W h0 ad d1) A) (by decide) (Nat.le_of_ble_eq_true rfl) ?_
  intro p e s m below meth c A ls K hK hA X hl
  have K : kt_E RX0 p s m meth c cX0_setSize 4 (some .int) _ := K
  obtain ⟨hx, hb, hml, hown, hts, hr, hlocks⟩ := id K
  generalize hs0 : s.heap = H at X ⊢
  generalize hl0 : ([] : List Loc) = locs at X ⊢
  have hRf : 1 ≤ (({ frames := 1, cells := 0, slots := 0, locals := 20 } : Room)).frames := Nat.le_refl _
  have hRl : 20 ≤ (({ frames := 1, cells := 0, slots := 0, locals := 20 } : Room)).locals := Nat.le_refl _
  have hl : lv_has ls 4 [(0, .ref h0), (1, .int x1), (2, .int x2)] := hl
  rw [k_setSize] at h
  refine lv_iload_n hx hb dX0_setSize_0 rfl (lv_at hl 1 rfl) ?_
  obtain ⟨a1, e2, h⟩ := kt_bnd h
  refine kt_calls (As := [.int x1]) (rest := []) K (met_k_isObject l x1 a1 e2) (va_cwS 1 hts (lw_S q100 q101 q18 q102) rfl rfl rfl (by decide +kernel) ⟨Nat.le_trans (Nat.le_of_ble_eq_true rfl) hRf, Nat.le_trans (Nat.le_of_ble_eq_true rfl) hRl⟩) rfl hl.1 rfl (Nat.le_of_ble_eq_true rfl) dX0_setSize_1 X (fun H locs X => ?_)
  refine lv_if_ne (tgt := 10) hx hb dX0_setSize_4 (by decide) (fun c3 => ?_) (fun c3 => ?_)
  · have h := kt_iff c3 h
    refine lv_aload_n hx hb dX0_setSize_10 rfl (lv_at hl 0 rfl) ?_
    refine va_get (D := (dC, dI)) (ci := 0) (v := .ref (ad 0)) (C := RX0) (T := TX0) (N := 22) hx hb hts in_X0 hown hK X.1 0 kt_W0 rfl 0 (by decide) (hts _ q28) (fun _ h9 => h9) kt_F0 dX0_setSize_11 ?_
    refine lv_iload_n hx hb dX0_setSize_14 rfl (lv_at hl 1 rfl) ?_
    obtain ⟨b4, h⟩ := kt_chk_some h
    refine va_iald (f := σ 0) hx hb hK X.1 1 0 (kt_A0 (rfl)) rfl b4 dX0_setSize_15 ?_
    refine lv_topi (fun y5 e6 => ?_)
    have h := kt_nm_at e6 h
    refine lv_istore_n (lv' := [(3, .int y5), (0, .ref h0), (1, .int x1), (2, .int x2)]) hx hb dX0_setSize_16 rfl hl (by decide) rfl (fun ls hl => ?_)
    refine lv_aload_n hx hb dX0_setSize_17 rfl (lv_at hl 1 rfl) ?_
    refine va_get (D := (dC, dI)) (ci := 0) (v := .ref (ad 0)) (C := RX0) (T := TX0) (N := 22) hx hb hts in_X0 hown hK X.1 0 kt_W0 rfl 0 (by decide) (hts _ q28) (fun _ h9 => h9) kt_F0 dX0_setSize_18 ?_
    refine lv_iload_n hx hb dX0_setSize_21 rfl (lv_at hl 2 rfl) ?_
    refine lv_iload_n hx hb dX0_setSize_22 rfl (lv_at hl 3 rfl) ?_
    refine lv_if_ge (tgt := 30) hx hb dX0_setSize_23 (by decide) (fun c7 => ?_) (fun c7 => ?_)
    · have h := kt_ift c7 h
      refine lv_iload_n hx hb dX0_setSize_30 rfl (lv_at hl 3 rfl) ?_
      refine lv_sipush (v := 1000) hx hb dX0_setSize_31 (by decide) ?_
      refine lv_icmp_le (tgt := 43) hx hb dX0_setSize_34 (by decide) (fun c8 => ?_) (fun c8 => ?_)
      · have h := kt_ift c8 h
        refine lv_iload_n hx hb dX0_setSize_43 rfl (lv_at hl 3 rfl) ?_
        obtain ⟨b9, h⟩ := kt_chk_some h
        refine va_iast (f := σ 0) hx hb hK X.1 X.2.1 X.2.2 1 0 (kt_A0 rfl) rfl b9 dX0_setSize_44 (fun H locs hP hD hS => ?_)
        have X : kt_X dC dI (kt_W h0 ad d1 (kt_st σ 0 ((kt_ix x1)) x2)) A s H locs := kt_XA0 hP hD hS
        refine lv_aload_n hx hb dX0_setSize_45 rfl (lv_at hl 1 rfl) ?_
        refine lv_iconst (v := 0) hx hb dX0_setSize_46 (by decide) ?_
        refine va_put (D := (dC, dI)) (ci := 0) (v := .int 0) (ty := .boolean) (C := RX0) (T := TX0) (N := 22) hx hb hts in_X0 tyX0 tyX0_ok nmX0 hown hK X.1 X.2.1 X.2.2 0 kt_W0 rfl 3 (by decide) (hts _ q31) (fun _ h9 => h9) rfl (by decide +kernel) rfl rfl kt_FL3 dX0_setSize_47 (fun H locs hP hD hS => ?_)
        have X : kt_X dC dI (kt_W h0 ad d1 (kt_st (kt_st σ 0 ((kt_ix x1)) x2) 3 0 0)) A s H locs := kt_XF3 hP hD hS
        refine lv_iload_n hx hb dX0_setSize_50 rfl (lv_at hl 0 rfl) ?_
        exact kt_iret (v := y5) (WS := kt_W h0 ad d1) (σ := kt_st (kt_st σ 0 ((kt_ix x1)) x2) 3 0 0) K hK X h dX0_setSize_51
      · have h := kt_iff c8 h
        refine lv_sipush (v := 1000) hx hb dX0_setSize_37 (by decide) ?_
        refine lv_goto (tgt := 44) hx hb dX0_setSize_40 (by decide) ?_
        obtain ⟨b10, h⟩ := kt_chk_some h
        refine va_iast (f := σ 0) hx hb hK X.1 X.2.1 X.2.2 1 0 (kt_A0 rfl) rfl b10 dX0_setSize_44 (fun H locs hP hD hS => ?_)
        have X : kt_X dC dI (kt_W h0 ad d1 (kt_st σ 0 ((kt_ix x1)) 1000)) A s H locs := kt_XA0 hP hD hS
        refine lv_aload_n hx hb dX0_setSize_45 rfl (lv_at hl 1 rfl) ?_
        refine lv_iconst (v := 0) hx hb dX0_setSize_46 (by decide) ?_
        refine va_put (D := (dC, dI)) (ci := 0) (v := .int 0) (ty := .boolean) (C := RX0) (T := TX0) (N := 22) hx hb hts in_X0 tyX0 tyX0_ok nmX0 hown hK X.1 X.2.1 X.2.2 0 kt_W0 rfl 3 (by decide) (hts _ q31) (fun _ h9 => h9) rfl (by decide +kernel) rfl rfl kt_FL3 dX0_setSize_47 (fun H locs hP hD hS => ?_)
        have X : kt_X dC dI (kt_W h0 ad d1 (kt_st (kt_st σ 0 ((kt_ix x1)) 1000) 3 0 0)) A s H locs := kt_XF3 hP hD hS
        refine lv_iload_n hx hb dX0_setSize_50 rfl (lv_at hl 0 rfl) ?_
        exact kt_iret (v := y5) (WS := kt_W h0 ad d1) (σ := kt_st (kt_st σ 0 ((kt_ix x1)) 1000) 3 0 0) K hK X h dX0_setSize_51
    · have h := kt_iff c7 h
      refine lv_iconst (v := 0) hx hb dX0_setSize_26 (by decide) ?_
      refine lv_goto (tgt := 44) hx hb dX0_setSize_27 (by decide) ?_
      obtain ⟨b11, h⟩ := kt_chk_some h
      refine va_iast (f := σ 0) hx hb hK X.1 X.2.1 X.2.2 1 0 (kt_A0 rfl) rfl b11 dX0_setSize_44 (fun H locs hP hD hS => ?_)
      have X : kt_X dC dI (kt_W h0 ad d1 (kt_st σ 0 ((kt_ix x1)) 0)) A s H locs := kt_XA0 hP hD hS
      refine lv_aload_n hx hb dX0_setSize_45 rfl (lv_at hl 1 rfl) ?_
      refine lv_iconst (v := 0) hx hb dX0_setSize_46 (by decide) ?_
      refine va_put (D := (dC, dI)) (ci := 0) (v := .int 0) (ty := .boolean) (C := RX0) (T := TX0) (N := 22) hx hb hts in_X0 tyX0 tyX0_ok nmX0 hown hK X.1 X.2.1 X.2.2 0 kt_W0 rfl 3 (by decide) (hts _ q31) (fun _ h9 => h9) rfl (by decide +kernel) rfl rfl kt_FL3 dX0_setSize_47 (fun H locs hP hD hS => ?_)
      have X : kt_X dC dI (kt_W h0 ad d1 (kt_st (kt_st σ 0 ((kt_ix x1)) 0) 3 0 0)) A s H locs := kt_XF3 hP hD hS
      refine lv_iload_n hx hb dX0_setSize_50 rfl (lv_at hl 0 rfl) ?_
      exact kt_iret (v := y5) (WS := kt_W h0 ad d1) (σ := kt_st (kt_st σ 0 ((kt_ix x1)) 0) 3 0 0) K hK X h dX0_setSize_51
  · have h := kt_ift c3 h
    refine lv_bipush (v := (-2)) hx hb dX0_setSize_7 (by decide) ?_
    exact kt_iret (v := (-2)) (WS := kt_W h0 ad d1) (σ := σ) K hK X h dX0_setSize_9
set_option maxHeartbeats 4000000 in
set_option maxRecDepth 100000 in
/-- KeepTree.flip(II)I -/
theorem met_k_flip (l : Launch) (dC : Nat → ClassId) (dI : Nat → Nat → Nat) (h0 : Nat) (ad : Nat → Nat) (d1 d2 : ClassId) (σ : KSt) (x1 x2 : Int32) (a : Int32 × KSt) (h : k_flip σ x1 x2 = some a) : kt_Ci l yX0_flip (ws_ yX0_flip cX0_flip 3 (some .int)) ({ frames := 1, cells := 0, slots := 0, locals := 20 } : Room) h0 [.int x1, .int x2] dC dI (kt_T d1 d2) (kt_W h0 ad d1) σ a := by
  refine kt_enter (Qc := fun A => kt_Qi a dC dI (kt_T d1 d2) (kt_W h0 ad d1) A) (by decide) (Nat.le_of_ble_eq_true rfl) ?_
  intro p e s m below meth c A ls K hK hA X hl
  have K : kt_E RX0 p s m meth c cX0_flip 3 (some .int) _ := K
  obtain ⟨hx, hb, hml, hown, hts, hr, hlocks⟩ := id K
  generalize hs0 : s.heap = H at X ⊢
  generalize hl0 : ([] : List Loc) = locs at X ⊢
  have hRf : 1 ≤ (({ frames := 1, cells := 0, slots := 0, locals := 20 } : Room)).frames := Nat.le_refl _
  have hRl : 20 ≤ (({ frames := 1, cells := 0, slots := 0, locals := 20 } : Room)).locals := Nat.le_refl _
  have hl : lv_has ls 3 [(0, .ref h0), (1, .int x1), (2, .int x2)] := hl
  rw [k_flip] at h
  refine lv_iload_n hx hb dX0_flip_0 rfl (lv_at hl 1 rfl) ?_
  obtain ⟨a1, e2, h⟩ := kt_bnd h
  refine kt_calls (As := [.int x1]) (rest := []) K (met_k_isObject l x1 a1 e2) (va_cwS 1 hts (lw_S q100 q101 q18 q102) rfl rfl rfl (by decide +kernel) ⟨Nat.le_trans (Nat.le_of_ble_eq_true rfl) hRf, Nat.le_trans (Nat.le_of_ble_eq_true rfl) hRl⟩) rfl hl.1 rfl (Nat.le_of_ble_eq_true rfl) dX0_flip_1 X (fun H locs X => ?_)
  refine lv_if_eq (tgt := 14) hx hb dX0_flip_4 (by decide) (fun c3 => ?_) (fun c3 => ?_)
  · have h := kt_ift c3 h
    refine lv_bipush (v := (-2)) hx hb dX0_flip_14 (by decide) ?_
    exact kt_iret (v := (-2)) (WS := kt_W h0 ad d1) (σ := σ) K hK X h dX0_flip_16
  · have h := kt_iff c3 h
    refine lv_iload_n hx hb dX0_flip_7 rfl (lv_at hl 2 rfl) ?_
    obtain ⟨a4, e5, h⟩ := kt_bnd h
    refine kt_calls (As := [.int x2]) (rest := []) K (met_k_isObject l x2 a4 e5) (va_cwS 1 hts (lw_S q100 q101 q18 q102) rfl rfl rfl (by decide +kernel) ⟨Nat.le_trans (Nat.le_of_ble_eq_true rfl) hRf, Nat.le_trans (Nat.le_of_ble_eq_true rfl) hRl⟩) rfl hl.1 rfl (Nat.le_of_ble_eq_true rfl) dX0_flip_8 X (fun H locs X => ?_)
    refine lv_if_ne (tgt := 17) hx hb dX0_flip_11 (by decide) (fun c6 => ?_) (fun c6 => ?_)
    · have h := kt_iff c6 h
      refine lv_aload_n hx hb dX0_flip_17 rfl (lv_at hl 0 rfl) ?_
      refine va_get (D := (dC, dI)) (ci := 0) (v := .ref (ad 1)) (C := RX0) (T := TX0) (N := 22) hx hb hts in_X0 hown hK X.1 0 kt_W0 rfl 1 (by decide) (hts _ q29) (fun _ h9 => h9) kt_F1 dX0_flip_18 ?_
      refine lv_iload_n hx hb dX0_flip_21 rfl (lv_at hl 1 rfl) ?_
      refine lv_dup2_11 hx hb dX0_flip_22 rfl rfl ?_
      obtain ⟨b7, h⟩ := kt_chk_some h
      refine va_iald (f := σ 1) hx hb hK X.1 2 0 (kt_A1 (rfl)) rfl b7 dX0_flip_23 ?_
      refine lv_iconst (v := 1) hx hb dX0_flip_24 (by decide) ?_
      refine lv_iload_n hx hb dX0_flip_25 rfl (lv_at hl 2 rfl) ?_
      refine lv_ishl hx hb dX0_flip_26 ?_
      refine lv_ixor hx hb dX0_flip_27 ?_
      refine lv_topi (fun y8 e9 => ?_)
      have h := kt_nm_at e9 h
      obtain ⟨b10, h⟩ := kt_chk_some h
      refine va_iast (f := σ 1) hx hb hK X.1 X.2.1 X.2.2 2 0 (kt_A1 rfl) rfl b10 dX0_flip_28 (fun H locs hP hD hS => ?_)
      have X : kt_X dC dI (kt_W h0 ad d1 (kt_st σ 1 ((kt_ix x1)) y8)) A s H locs := kt_XA1 hP hD hS
      refine lv_aload_n hx hb dX0_flip_29 rfl (lv_at hl 0 rfl) ?_
      refine lv_iconst (v := 0) hx hb dX0_flip_30 (by decide) ?_
      refine va_put (D := (dC, dI)) (ci := 0) (v := .int 0) (ty := .boolean) (C := RX0) (T := TX0) (N := 22) hx hb hts in_X0 tyX0 tyX0_ok nmX0 hown hK X.1 X.2.1 X.2.2 0 kt_W0 rfl 3 (by decide) (hts _ q31) (fun _ h9 => h9) rfl (by decide +kernel) rfl rfl kt_FL3 dX0_flip_31 (fun H locs hP hD hS => ?_)
      have X : kt_X dC dI (kt_W h0 ad d1 (kt_st (kt_st σ 1 ((kt_ix x1)) y8) 3 0 0)) A s H locs := kt_XF3 hP hD hS
      refine lv_aload_n hx hb dX0_flip_34 rfl (lv_at hl 0 rfl) ?_
      refine va_get (D := (dC, dI)) (ci := 0) (v := .ref (ad 1)) (C := RX0) (T := TX0) (N := 22) hx hb hts in_X0 hown hK X.1 0 kt_W0 rfl 1 (by decide) (hts _ q29) (fun _ h9 => h9) kt_F1 dX0_flip_35 ?_
      refine lv_iload_n hx hb dX0_flip_38 rfl (lv_at hl 1 rfl) ?_
      obtain ⟨b11, h⟩ := kt_chk_some h
      refine va_iald (f := (kt_st σ 1 ((kt_ix x1)) y8) 1) hx hb hK X.1 2 0 (kt_A1 (kt_st_ne rfl)) rfl b11 dX0_flip_39 ?_
      refine lv_iload_n hx hb dX0_flip_40 rfl (lv_at hl 2 rfl) ?_
      refine lv_iushr (v := kt_ushr ((kt_st σ 1 ((kt_ix x1)) y8) 1 (kt_ix x1)) x2) hx hb dX0_flip_41 rfl ?_
      refine lv_iconst (v := 1) hx hb dX0_flip_42 (by decide) ?_
      refine lv_iand hx hb dX0_flip_43 ?_
      exact kt_iret (v := (kt_ushr ((kt_st σ 1 ((kt_ix x1)) y8) 1 (kt_ix x1)) x2) &&& 1) (WS := kt_W h0 ad d1) (σ := kt_st (kt_st σ 1 ((kt_ix x1)) y8) 3 0 0) K hK X h dX0_flip_44
    · have h := kt_ift c6 h
      refine lv_bipush (v := (-2)) hx hb dX0_flip_14 (by decide) ?_
      exact kt_iret (v := (-2)) (WS := kt_W h0 ad d1) (σ := σ) K hK X h dX0_flip_16
set_option maxHeartbeats 4000000 in
set_option maxRecDepth 100000 in
/-- KeepTree.setRoot(IZ)I -/
theorem met_k_setRoot (l : Launch) (dC : Nat → ClassId) (dI : Nat → Nat → Nat) (h0 : Nat) (ad : Nat → Nat) (d1 d2 : ClassId) (σ : KSt) (x1 x2 : Int32) (a : Int32 × KSt) (h : k_setRoot σ x1 x2 = some a) : kt_Ci l yX0_setRoot (ws_ yX0_setRoot cX0_setRoot 4 (some .int)) ({ frames := 1, cells := 0, slots := 0, locals := 20 } : Room) h0 [.int x1, .int x2] dC dI (kt_T d1 d2) (kt_W h0 ad d1) σ a := by
  refine kt_enter (Qc := fun A => kt_Qi a dC dI (kt_T d1 d2) (kt_W h0 ad d1) A) (by decide) (Nat.le_of_ble_eq_true rfl) ?_
  intro p e s m below meth c A ls K hK hA X hl
  have K : kt_E RX0 p s m meth c cX0_setRoot 4 (some .int) _ := K
  obtain ⟨hx, hb, hml, hown, hts, hr, hlocks⟩ := id K
  generalize hs0 : s.heap = H at X ⊢
  generalize hl0 : ([] : List Loc) = locs at X ⊢
  have hRf : 1 ≤ (({ frames := 1, cells := 0, slots := 0, locals := 20 } : Room)).frames := Nat.le_refl _
  have hRl : 20 ≤ (({ frames := 1, cells := 0, slots := 0, locals := 20 } : Room)).locals := Nat.le_refl _
  have hl : lv_has ls 4 [(0, .ref h0), (1, .int x1), (2, .int x2)] := hl
  rw [k_setRoot] at h
  refine lv_iload_n hx hb dX0_setRoot_0 rfl (lv_at hl 1 rfl) ?_
  obtain ⟨a1, e2, h⟩ := kt_bnd h
  refine kt_calls (As := [.int x1]) (rest := []) K (met_k_isObject l x1 a1 e2) (va_cwS 1 hts (lw_S q100 q101 q18 q102) rfl rfl rfl (by decide +kernel) ⟨Nat.le_trans (Nat.le_of_ble_eq_true rfl) hRf, Nat.le_trans (Nat.le_of_ble_eq_true rfl) hRl⟩) rfl hl.1 rfl (Nat.le_of_ble_eq_true rfl) dX0_setRoot_1 X (fun H locs X => ?_)
  refine lv_if_ne (tgt := 10) hx hb dX0_setRoot_4 (by decide) (fun c3 => ?_) (fun c3 => ?_)
  · have h := kt_iff c3 h
    refine lv_aload_n hx hb dX0_setRoot_10 rfl (lv_at hl 0 rfl) ?_
    refine va_get (D := (dC, dI)) (ci := 0) (v := .int (σ 2 0)) (C := RX0) (T := TX0) (N := 22) hx hb hts in_X0 hown hK X.1 0 kt_W0 rfl 2 (by decide) (hts _ q30) (fun _ h9 => h9) (kt_F2 (rfl)) dX0_setRoot_11 ?_
    refine lv_iload_n hx hb dX0_setRoot_14 rfl (lv_at hl 1 rfl) ?_
    refine lv_iushr (v := kt_ushr (σ 2 0) x1) hx hb dX0_setRoot_15 rfl ?_
    refine lv_iconst (v := 1) hx hb dX0_setRoot_16 (by decide) ?_
    refine lv_iand hx hb dX0_setRoot_17 ?_
    refine lv_topi (fun y4 e5 => ?_)
    have h := kt_nm_at e5 h
    refine lv_istore_n (lv' := [(3, .int y4), (0, .ref h0), (1, .int x1), (2, .int x2)]) hx hb dX0_setRoot_18 rfl hl (by decide) rfl (fun ls hl => ?_)
    refine lv_aload_n hx hb dX0_setRoot_19 rfl (lv_at hl 1 rfl) ?_
    refine lv_iload_n hx hb dX0_setRoot_20 rfl (lv_at hl 3 rfl) ?_
    refine lv_if_eq (tgt := 35) hx hb dX0_setRoot_21 (by decide) (fun c6 => ?_) (fun c6 => ?_)
    · have h := kt_ift c6 h
      refine lv_aload_n hx hb dX0_setRoot_35 rfl (lv_at hl 1 rfl) ?_
      refine va_get (D := (dC, dI)) (ci := 0) (v := .int (σ 2 0)) (C := RX0) (T := TX0) (N := 22) hx hb hts in_X0 hown hK X.1 0 kt_W0 rfl 2 (by decide) (hts _ q30) (fun _ h9 => h9) (kt_F2 (rfl)) dX0_setRoot_36 ?_
      refine lv_iconst (v := 1) hx hb dX0_setRoot_39 (by decide) ?_
      refine lv_iload_n hx hb dX0_setRoot_40 rfl (lv_at hl 2 rfl) ?_
      refine lv_ishl hx hb dX0_setRoot_41 ?_
      refine lv_iconst (v := (-1)) hx hb dX0_setRoot_42 (by decide) ?_
      refine lv_ixor hx hb dX0_setRoot_43 ?_
      refine lv_iand hx hb dX0_setRoot_44 ?_
      refine lv_topi (fun y7 e8 => ?_)
      have h := kt_nm_at e8 h
      refine va_put (D := (dC, dI)) (ci := 0) (v := .int y7) (ty := .int) (C := RX0) (T := TX0) (N := 22) hx hb hts in_X0 tyX0 tyX0_ok nmX0 hown hK X.1 X.2.1 X.2.2 0 kt_W0 rfl 2 (by decide) (hts _ q30) (fun _ h9 => h9) rfl (by decide +kernel) rfl rfl kt_FL2 dX0_setRoot_45 (fun H locs hP hD hS => ?_)
      have X : kt_X dC dI (kt_W h0 ad d1 (kt_st σ 2 0 y7)) A s H locs := kt_XF2 hP hD hS
      refine lv_aload_n hx hb dX0_setRoot_48 rfl (lv_at hl 1 rfl) ?_
      refine lv_iconst (v := 0) hx hb dX0_setRoot_49 (by decide) ?_
      refine va_put (D := (dC, dI)) (ci := 0) (v := .int 0) (ty := .boolean) (C := RX0) (T := TX0) (N := 22) hx hb hts in_X0 tyX0 tyX0_ok nmX0 hown hK X.1 X.2.1 X.2.2 0 kt_W0 rfl 3 (by decide) (hts _ q31) (fun _ h9 => h9) rfl (by decide +kernel) rfl rfl kt_FL3 dX0_setRoot_50 (fun H locs hP hD hS => ?_)
      have X : kt_X dC dI (kt_W h0 ad d1 (kt_st (kt_st σ 2 0 y7) 3 0 0)) A s H locs := kt_XF3 hP hD hS
      refine lv_iload_n hx hb dX0_setRoot_53 rfl (lv_at hl 0 rfl) ?_
      exact kt_iret (v := y4) (WS := kt_W h0 ad d1) (σ := kt_st (kt_st σ 2 0 y7) 3 0 0) K hK X h dX0_setRoot_54
    · have h := kt_iff c6 h
      refine lv_aload_n hx hb dX0_setRoot_24 rfl (lv_at hl 1 rfl) ?_
      refine va_get (D := (dC, dI)) (ci := 0) (v := .int (σ 2 0)) (C := RX0) (T := TX0) (N := 22) hx hb hts in_X0 hown hK X.1 0 kt_W0 rfl 2 (by decide) (hts _ q30) (fun _ h9 => h9) (kt_F2 (rfl)) dX0_setRoot_25 ?_
      refine lv_iconst (v := 1) hx hb dX0_setRoot_28 (by decide) ?_
      refine lv_iload_n hx hb dX0_setRoot_29 rfl (lv_at hl 2 rfl) ?_
      refine lv_ishl hx hb dX0_setRoot_30 ?_
      refine lv_ior hx hb dX0_setRoot_31 ?_
      refine lv_goto (tgt := 45) hx hb dX0_setRoot_32 (by decide) ?_
      refine lv_topi (fun y9 e10 => ?_)
      have h := kt_nm_at e10 h
      refine va_put (D := (dC, dI)) (ci := 0) (v := .int y9) (ty := .int) (C := RX0) (T := TX0) (N := 22) hx hb hts in_X0 tyX0 tyX0_ok nmX0 hown hK X.1 X.2.1 X.2.2 0 kt_W0 rfl 2 (by decide) (hts _ q30) (fun _ h9 => h9) rfl (by decide +kernel) rfl rfl kt_FL2 dX0_setRoot_45 (fun H locs hP hD hS => ?_)
      have X : kt_X dC dI (kt_W h0 ad d1 (kt_st σ 2 0 y9)) A s H locs := kt_XF2 hP hD hS
      refine lv_aload_n hx hb dX0_setRoot_48 rfl (lv_at hl 1 rfl) ?_
      refine lv_iconst (v := 0) hx hb dX0_setRoot_49 (by decide) ?_
      refine va_put (D := (dC, dI)) (ci := 0) (v := .int 0) (ty := .boolean) (C := RX0) (T := TX0) (N := 22) hx hb hts in_X0 tyX0 tyX0_ok nmX0 hown hK X.1 X.2.1 X.2.2 0 kt_W0 rfl 3 (by decide) (hts _ q31) (fun _ h9 => h9) rfl (by decide +kernel) rfl rfl kt_FL3 dX0_setRoot_50 (fun H locs hP hD hS => ?_)
      have X : kt_X dC dI (kt_W h0 ad d1 (kt_st (kt_st σ 2 0 y9) 3 0 0)) A s H locs := kt_XF3 hP hD hS
      refine lv_iload_n hx hb dX0_setRoot_53 rfl (lv_at hl 0 rfl) ?_
      exact kt_iret (v := y4) (WS := kt_W h0 ad d1) (σ := kt_st (kt_st σ 2 0 y9) 3 0 0) K hK X h dX0_setRoot_54
  · have h := kt_ift c3 h
    refine lv_bipush (v := (-2)) hx hb dX0_setRoot_7 (by decide) ?_
    exact kt_iret (v := (-2)) (WS := kt_W h0 ad d1) (σ := σ) K hK X h dX0_setRoot_9
set_option maxHeartbeats 4000000 in
set_option maxRecDepth 100000 in
/-- KeepTree.visit(I)V -/
theorem met_k_visit (l : Launch) (dC : Nat → ClassId) (dI : Nat → Nat → Nat) (h0 : Nat) (ad : Nat → Nat) (d1 d2 : ClassId) (σ : KSt) (x1 : Int32) (a : KSt) (h : k_visit σ x1 = some a) : kt_Cv l yX0_visit (ws_ yX0_visit cX0_visit 2 none) ({ frames := 0, cells := 0, slots := 0, locals := 0 } : Room) h0 [.int x1] dC dI (kt_T d1 d2) (kt_W h0 ad d1) σ a := by
  refine kt_enter (Qc := fun A => kt_Qv a dC dI (kt_T d1 d2) (kt_W h0 ad d1) A) (by decide) (Nat.le_of_ble_eq_true rfl) ?_
  intro p e s m below meth c A ls K hK hA X hl
  have K : kt_E RX0 p s m meth c cX0_visit 2 none _ := K
  obtain ⟨hx, hb, hml, hown, hts, hr, hlocks⟩ := id K
  generalize hs0 : s.heap = H at X ⊢
  generalize hl0 : ([] : List Loc) = locs at X ⊢
  have hl : lv_has ls 2 [(0, .ref h0), (1, .int x1)] := hl
  rw [k_visit] at h
  refine lv_aload_n hx hb dX0_visit_0 rfl (lv_at hl 0 rfl) ?_
  refine va_get (D := (dC, dI)) (ci := 0) (v := .ref (ad 5)) (C := RX0) (T := TX0) (N := 22) hx hb hts in_X0 hown hK X.1 0 kt_W0 rfl 5 (by decide) (hts _ q33) (fun _ h9 => h9) kt_F5 dX0_visit_1 ?_
  refine lv_iload_n hx hb dX0_visit_4 rfl (lv_at hl 1 rfl) ?_
  refine lv_aload_n hx hb dX0_visit_5 rfl (lv_at hl 0 rfl) ?_
  refine va_get (D := (dC, dI)) (ci := 0) (v := .int (σ 4 0)) (C := RX0) (T := TX0) (N := 22) hx hb hts in_X0 hown hK X.1 0 kt_W0 rfl 4 (by decide) (hts _ q32) (fun _ h9 => h9) (kt_F4 (rfl)) dX0_visit_6 ?_
  refine lv_topi (fun y1 e2 => ?_)
  have h := kt_nm_at e2 h
  obtain ⟨b3, h⟩ := kt_chk_some h
  refine va_iast (f := σ 5) hx hb hK X.1 X.2.1 X.2.2 3 0 (kt_A5 rfl) rfl b3 dX0_visit_9 (fun H locs hP hD hS => ?_)
  have X : kt_X dC dI (kt_W h0 ad d1 (kt_st σ 5 ((kt_ix x1)) y1)) A s H locs := kt_XA5 hP hD hS
  refine lv_aload_n hx hb dX0_visit_10 rfl (lv_at hl 0 rfl) ?_
  refine va_get (D := (dC, dI)) (ci := 0) (v := .ref (ad 6)) (C := RX0) (T := TX0) (N := 22) hx hb hts in_X0 hown hK X.1 0 kt_W0 rfl 6 (by decide) (hts _ q34) (fun _ h9 => h9) kt_F6 dX0_visit_11 ?_
  refine lv_aload_n hx hb dX0_visit_14 rfl (lv_at hl 0 rfl) ?_
  refine va_get (D := (dC, dI)) (ci := 0) (v := .int (σ 4 0)) (C := RX0) (T := TX0) (N := 22) hx hb hts in_X0 hown hK X.1 0 kt_W0 rfl 4 (by decide) (hts _ q32) (fun _ h9 => h9) (kt_F4 (congrFun (kt_st_ne rfl) 0)) dX0_visit_15 ?_
  refine lv_iload_n hx hb dX0_visit_18 rfl (lv_at hl 1 rfl) ?_
  obtain ⟨b4, h⟩ := kt_chk_some h
  refine va_iast (f := (kt_st σ 5 ((kt_ix x1)) y1) 6) hx hb hK X.1 X.2.1 X.2.2 4 0 (kt_A6 rfl) rfl b4 dX0_visit_19 (fun H locs hP hD hS => ?_)
  have X : kt_X dC dI (kt_W h0 ad d1 (kt_st (kt_st σ 5 ((kt_ix x1)) y1) 6 ((kt_ix (σ 4 0))) x1)) A s H locs := kt_XA6 hP hD hS
  refine lv_aload_n hx hb dX0_visit_20 rfl (lv_at hl 0 rfl) ?_
  refine lv_dup hx hb dX0_visit_21 rfl ?_
  refine va_get (D := (dC, dI)) (ci := 0) (v := .int (σ 4 0)) (C := RX0) (T := TX0) (N := 22) hx hb hts in_X0 hown hK X.1 0 kt_W0 rfl 4 (by decide) (hts _ q32) (fun _ h9 => h9) (kt_F4 ((congrFun (kt_st_ne rfl) 0).trans (congrFun (kt_st_ne rfl) 0))) dX0_visit_22 ?_
  refine lv_iconst (v := 1) hx hb dX0_visit_25 (by decide) ?_
  refine lv_iadd hx hb dX0_visit_26 ?_
  refine lv_topi (fun y5 e6 => ?_)
  have h := kt_nm_at e6 h
  refine va_put (D := (dC, dI)) (ci := 0) (v := .int y5) (ty := .int) (C := RX0) (T := TX0) (N := 22) hx hb hts in_X0 tyX0 tyX0_ok nmX0 hown hK X.1 X.2.1 X.2.2 0 kt_W0 rfl 4 (by decide) (hts _ q32) (fun _ h9 => h9) rfl (by decide +kernel) rfl rfl kt_FL4 dX0_visit_27 (fun H locs hP hD hS => ?_)
  have X : kt_X dC dI (kt_W h0 ad d1 (kt_st (kt_st (kt_st σ 5 ((kt_ix x1)) y1) 6 ((kt_ix (σ 4 0))) x1) 4 0 y5)) A s H locs := kt_XF4 hP hD hS
  exact kt_vret (WS := kt_W h0 ad d1) (σ := kt_st (kt_st (kt_st σ 5 ((kt_ix x1)) y1) 6 ((kt_ix (σ 4 0))) x1) 4 0 y5) K hK X h dX0_visit_30
set_option maxHeartbeats 4000000 in
set_option maxRecDepth 100000 in
theorem wl_k_lowestOf_2 {p : Program} {l : Launch} {e : Env} {R : Room} {s : State} {m : MethodId} {args : Array Value} {below : List Frame} {meth : Method} {c : Code} {Q : State → Prop} (K : kt_E RX0 p s m meth c cX0_lowestOf 2 (some .int) args) (x0 : Int32) :
    ∀ (n : Nat) (x1 : Int32) (r : Int32 ⊕ (Int32)), k_lowestOf_2 x0 n x1 = some r → ∀ (ls : Array Slot), lv_has ls 2 [(0, .int x0), (1, .int x1)] → (∀ (z : Int32), r = .inr z → ∀ (ls : Array Slot), lv_has ls 2 [(0, .int x0), (1, .int z)] → W p l e R s m args below meth c s.heap [] 0 0 Q (F0 m 24 ls [])) → (∀ (v : Int32), r = .inl v → ∀ (ls : Array Slot), W p l e R s m args below meth c s.heap [] 0 0 Q (F0 m 17 ls [.int v])) → W p l e R s m args below meth c s.heap [] 0 0 Q (F0 m 2 ls []) := by
  obtain ⟨hx, hb, hml, hown, hts, hr, hlocks⟩ := id K
  intro n
  induction n with
  | zero =>
    intro _ r h
    cases h
  | succ n ih =>
    intro x1 r h ls hl kE kR
    rw [k_lowestOf_2] at h
    refine lv_iload_n hx hb dX0_lowestOf_2 rfl (lv_at hl 1 rfl) ?_
    refine lv_bipush (v := 16) hx hb dX0_lowestOf_3 (by decide) ?_
    refine lv_icmp_ge (tgt := 24) hx hb dX0_lowestOf_5 (by decide) (fun c1 => ?_) (fun c1 => ?_)
    · have h := kt_ift c1 h
      cases h
      exact kE _ rfl  ls (lv_sub hl [0, 1] rfl)
    · have h := kt_iff c1 h
      refine lv_iload_n hx hb dX0_lowestOf_8 rfl (lv_at hl 0 rfl) ?_
      refine lv_iload_n hx hb dX0_lowestOf_9 rfl (lv_at hl 1 rfl) ?_
      refine lv_iushr (v := kt_ushr x0 x1) hx hb dX0_lowestOf_10 rfl ?_
      refine lv_iconst (v := 1) hx hb dX0_lowestOf_11 (by decide) ?_
      refine lv_iand hx hb dX0_lowestOf_12 ?_
      refine lv_if_eq (tgt := 18) hx hb dX0_lowestOf_13 (by decide) (fun c2 => ?_) (fun c2 => ?_)
      · have h := kt_ift c2 h
        refine lv_iinc (v := x1 + 1) (lv' := [(1, .int (x1 + 1)), (0, .int x0)]) hx hb dX0_lowestOf_18 hl (k := 1) rfl rfl (by decide) rfl (fun ls hl => ?_)
        refine lv_goto (tgt := 2) hx hb dX0_lowestOf_21 (by decide) ?_
        exact ih (x1 + 1) r h  ls (lv_sub hl [1, 0] rfl) kE kR
      · have h := kt_iff c2 h
        refine lv_iload_n hx hb dX0_lowestOf_16 rfl (lv_at hl 1 rfl) ?_
        cases h
        exact kR _ rfl ls
set_option maxHeartbeats 4000000 in
set_option maxRecDepth 100000 in
/-- KeepTree.lowestOf(I)I -/
theorem met_k_lowestOf (l : Launch) (N : Nat) (x0 : Int32) (a : Int32) (h : k_lowestOf N x0 = some a) : kt_Cs l yX0_lowestOf (ws_ yX0_lowestOf cX0_lowestOf 2 (some .int)) ({ frames := 0, cells := 0, slots := 0, locals := 0 } : Room) [.int x0] a := by
  refine kt_enters (by decide) (Nat.le_of_ble_eq_true rfl) ?_
  intro p e s m below meth c ls K hl
  obtain ⟨hx, hb, hml, hown, hts, hr, hlocks⟩ := id K
  have hl : lv_has ls 2 [(0, .int x0)] := hl
  rw [k_lowestOf] at h
  refine lv_iconst (v := 0) hx hb dX0_lowestOf_0 (by decide) ?_
  refine lv_istore_n (lv' := [(1, .int 0), (0, .int x0)]) hx hb dX0_lowestOf_1 rfl hl (by decide) rfl (fun ls hl => ?_)
  obtain ⟨a1, e2, h⟩ := kt_bnd h
  refine wl_k_lowestOf_2 K x0 N 0 a1 e2 ls (lv_sub hl [1, 0] rfl) (fun r3 e0 ls hl => ?_) (fun rv e0 ls => ?_)
  · rw [e0] at h
    have h := kt_sel_r h
    refine lv_iconst (v := (-1)) hx hb dX0_lowestOf_24 (by decide) ?_
    exact kt_siret (v := (-1)) K h dX0_lowestOf_25
  · rw [e0] at h
    have h := kt_sel_l h
    exact kt_siret (v := rv) K h dX0_lowestOf_17
set_option maxHeartbeats 4000000 in
set_option maxRecDepth 100000 in
/-- KeepTree.visible(I)I -/
theorem met_k_visible (l : Launch) (x0 : Int32) (a : Int32) (h : k_visible x0 = some a) : kt_Cs l yX0_visible (ws_ yX0_visible cX0_visible 1 (some .int)) ({ frames := 0, cells := 0, slots := 0, locals := 0 } : Room) [.int x0] a := by
  refine kt_enters (by decide) (Nat.le_of_ble_eq_true rfl) ?_
  intro p e s m below meth c ls K hl
  obtain ⟨hx, hb, hml, hown, hts, hr, hlocks⟩ := id K
  have hl : lv_has ls 1 [(0, .int x0)] := hl
  rw [k_visible] at h
  refine lv_iload_n hx hb dX0_visible_0 rfl (lv_at hl 0 rfl) ?_
  refine lv_bipush (v := 16) hx hb dX0_visible_1 (by decide) ?_
  refine lv_icmp_ne (tgt := 10) hx hb dX0_visible_3 (by decide) (fun c1 => ?_) (fun c1 => ?_)
  · have h := kt_iff c1 h
    refine lv_iload_n hx hb dX0_visible_10 rfl (lv_at hl 0 rfl) ?_
    exact kt_siret (v := x0) K h dX0_visible_11
  · have h := kt_ift c1 h
    refine lv_iconst (v := (-1)) hx hb dX0_visible_6 (by decide) ?_
    refine lv_goto (tgt := 11) hx hb dX0_visible_7 (by decide) ?_
    exact kt_siret (v := (-1)) K h dX0_visible_11
set_option maxHeartbeats 4000000 in
set_option maxRecDepth 100000 in
/-- KeepTree.holds(II)Z -/
theorem met_k_holds (l : Launch) (dC : Nat → ClassId) (dI : Nat → Nat → Nat) (h0 : Nat) (ad : Nat → Nat) (d1 d2 : ClassId) (σ : KSt) (x1 x2 : Int32) (a : Int32) (h : k_holds σ x1 x2 = some a) : kt_Ci l yX0_holds (ws_ yX0_holds cX0_holds 3 (some .boolean)) ({ frames := 0, cells := 0, slots := 0, locals := 0 } : Room) h0 [.int x1, .int x2] dC dI (kt_T d1 d2) (kt_W h0 ad d1) σ (a, σ) := by
  refine kt_enter (Qc := fun A => kt_Qi (a, σ) dC dI (kt_T d1 d2) (kt_W h0 ad d1) A) (by decide) (Nat.le_of_ble_eq_true rfl) ?_
  intro p e s m below meth c A ls K hK hA X hl
  have K : kt_E RX0 p s m meth c cX0_holds 3 (some .boolean) _ := K
  obtain ⟨hx, hb, hml, hown, hts, hr, hlocks⟩ := id K
  generalize hs0 : s.heap = H at X ⊢
  generalize hl0 : ([] : List Loc) = locs at X ⊢
  have hl : lv_has ls 3 [(0, .ref h0), (1, .int x1), (2, .int x2)] := hl
  rw [k_holds] at h
  refine lv_aload_n hx hb dX0_holds_0 rfl (lv_at hl 0 rfl) ?_
  refine va_get (D := (dC, dI)) (ci := 0) (v := .ref (ad 5)) (C := RX0) (T := TX0) (N := 22) hx hb hts in_X0 hown hK X.1 0 kt_W0 rfl 5 (by decide) (hts _ q33) (fun _ h9 => h9) kt_F5 dX0_holds_1 ?_
  refine lv_iload_n hx hb dX0_holds_4 rfl (lv_at hl 1 rfl) ?_
  obtain ⟨b1, h⟩ := kt_chk_some h
  refine va_iald (f := σ 5) hx hb hK X.1 3 0 (kt_A5 (rfl)) rfl b1 dX0_holds_5 ?_
  refine lv_if_lt (tgt := 18) hx hb dX0_holds_6 (by decide) (fun c2 => ?_) (fun c2 => ?_)
  · have h := kt_ift c2 h
    refine lv_iconst (v := 0) hx hb dX0_holds_18 (by decide) ?_
    exact kt_zret (v := 0) (WS := kt_W h0 ad d1) (σ := σ) K (by decide) hK X (congrArg (fun z => Option.map (fun w => (w, σ)) z) h) dX0_holds_19
  · have h := kt_iff c2 h
    refine lv_aload_n hx hb dX0_holds_9 rfl (lv_at hl 0 rfl) ?_
    refine va_get (D := (dC, dI)) (ci := 0) (v := .ref (ad 5)) (C := RX0) (T := TX0) (N := 22) hx hb hts in_X0 hown hK X.1 0 kt_W0 rfl 5 (by decide) (hts _ q33) (fun _ h9 => h9) kt_F5 dX0_holds_10 ?_
    refine lv_iload_n hx hb dX0_holds_13 rfl (lv_at hl 2 rfl) ?_
    obtain ⟨b3, h⟩ := kt_chk_some h
    refine va_iald (f := σ 5) hx hb hK X.1 3 0 (kt_A5 (rfl)) rfl b3 dX0_holds_14 ?_
    refine lv_if_ge (tgt := 20) hx hb dX0_holds_15 (by decide) (fun c4 => ?_) (fun c4 => ?_)
    · have h := kt_ift c4 h
      refine lv_aload_n hx hb dX0_holds_20 rfl (lv_at hl 0 rfl) ?_
      refine va_get (D := (dC, dI)) (ci := 0) (v := .ref (ad 20)) (C := RX0) (T := TX0) (N := 22) hx hb hts in_X0 hown hK X.1 0 kt_W0 rfl 20 (by decide) (hts _ q48) (fun _ h9 => h9) kt_F20 dX0_holds_21 ?_
      refine lv_iload_n hx hb dX0_holds_24 rfl (lv_at hl 1 rfl) ?_
      obtain ⟨b5, h⟩ := kt_chk_some h
      refine va_iald (f := σ 20) hx hb hK X.1 18 0 (kt_A20 (rfl)) rfl b5 dX0_holds_25 ?_
      refine lv_aload_n hx hb dX0_holds_26 rfl (lv_at hl 0 rfl) ?_
      refine va_get (D := (dC, dI)) (ci := 0) (v := .ref (ad 20)) (C := RX0) (T := TX0) (N := 22) hx hb hts in_X0 hown hK X.1 0 kt_W0 rfl 20 (by decide) (hts _ q48) (fun _ h9 => h9) kt_F20 dX0_holds_27 ?_
      refine lv_iload_n hx hb dX0_holds_30 rfl (lv_at hl 2 rfl) ?_
      obtain ⟨b6, h⟩ := kt_chk_some h
      refine va_iald (f := σ 20) hx hb hK X.1 18 0 (kt_A20 (rfl)) rfl b6 dX0_holds_31 ?_
      refine lv_icmp_gt (tgt := 54) hx hb dX0_holds_32 (by decide) (fun c7 => ?_) (fun c7 => ?_)
      · have h := kt_ift c7 h
        refine lv_iconst (v := 0) hx hb dX0_holds_54 (by decide) ?_
        exact kt_zret (v := 0) (WS := kt_W h0 ad d1) (σ := σ) K (by decide) hK X (congrArg (fun z => Option.map (fun w => (w, σ)) z) h) dX0_holds_55
      · have h := kt_iff c7 h
        refine lv_aload_n hx hb dX0_holds_35 rfl (lv_at hl 0 rfl) ?_
        refine va_get (D := (dC, dI)) (ci := 0) (v := .ref (ad 20)) (C := RX0) (T := TX0) (N := 22) hx hb hts in_X0 hown hK X.1 0 kt_W0 rfl 20 (by decide) (hts _ q48) (fun _ h9 => h9) kt_F20 dX0_holds_36 ?_
        refine lv_iload_n hx hb dX0_holds_39 rfl (lv_at hl 2 rfl) ?_
        obtain ⟨b8, h⟩ := kt_chk_some h
        refine va_iald (f := σ 20) hx hb hK X.1 18 0 (kt_A20 (rfl)) rfl b8 dX0_holds_40 ?_
        refine lv_aload_n hx hb dX0_holds_41 rfl (lv_at hl 0 rfl) ?_
        refine va_get (D := (dC, dI)) (ci := 0) (v := .ref (ad 21)) (C := RX0) (T := TX0) (N := 22) hx hb hts in_X0 hown hK X.1 0 kt_W0 rfl 21 (by decide) (hts _ q49) (fun _ h9 => h9) kt_F21 dX0_holds_42 ?_
        refine lv_iload_n hx hb dX0_holds_45 rfl (lv_at hl 1 rfl) ?_
        obtain ⟨b9, h⟩ := kt_chk_some h
        refine va_iald (f := σ 21) hx hb hK X.1 19 0 (kt_A21 (rfl)) rfl b9 dX0_holds_46 ?_
        refine lv_icmp_gt (tgt := 54) hx hb dX0_holds_47 (by decide) (fun c10 => ?_) (fun c10 => ?_)
        · have h := kt_ift c10 h
          refine lv_iconst (v := 0) hx hb dX0_holds_54 (by decide) ?_
          exact kt_zret (v := 0) (WS := kt_W h0 ad d1) (σ := σ) K (by decide) hK X (congrArg (fun z => Option.map (fun w => (w, σ)) z) h) dX0_holds_55
        · have h := kt_iff c10 h
          refine lv_iconst (v := 1) hx hb dX0_holds_50 (by decide) ?_
          refine lv_goto (tgt := 55) hx hb dX0_holds_51 (by decide) ?_
          exact kt_zret (v := 1) (WS := kt_W h0 ad d1) (σ := σ) K (by decide) hK X (congrArg (fun z => Option.map (fun w => (w, σ)) z) h) dX0_holds_55
    · have h := kt_iff c4 h
      refine lv_iconst (v := 0) hx hb dX0_holds_18 (by decide) ?_
      exact kt_zret (v := 0) (WS := kt_W h0 ad d1) (σ := σ) K (by decide) hK X (congrArg (fun z => Option.map (fun w => (w, σ)) z) h) dX0_holds_19
end
section
set_option maxHeartbeats 4000000 in
set_option maxRecDepth 100000 in
theorem wl_k_numberVertices_64 {p : Program} {l : Launch} {e : Env} {R : Room} {s : State} {m : MethodId} {args : Array Value} {below : List Frame} {meth : Method} {c : Code} {Q : State → Prop} {dC : Nat → ClassId} {dI : Nat → Nat → Nat} {d1 d2 : ClassId} {A : Nat → Prop} {h0 : Nat} {ad : Nat → Nat} (K : kt_E RX0 p s m meth c cX0_numberVertices 5 none args) (hK : va_K (dC, dI) vwCl (kt_T d1 d2) s) (hA : ∀ q : Nat, s.heap.size ≤ q → A q) (hRf : 1 ≤ R.frames) (hRl : 21 ≤ R.locals) (N : Nat) :
    ∀ (n : Nat) (x1 x2 : Int32) (σ : KSt) (r : Int32 × Int32 × KSt), k_numberVertices_64 N n x1 x2 σ = some r → ∀ (H : Heap) (locs : List Loc), kt_X dC dI (kt_W h0 ad d1 σ) A s H locs → ∀ (ls : Array Slot), lv_has ls 5 [(0, .ref h0), (1, .int x1), (2, .int x2)] → (∀ (H : Heap) (locs : List Loc), kt_X dC dI (kt_W h0 ad d1 r.2.2) A s H locs → ∀ (ls : Array Slot), lv_has ls 5 [(0, .ref h0), (1, .int r.1), (2, .int r.2.1)] → W p l e R s m args below meth c H locs 0 0 Q (F0 m 186 ls [])) → W p l e R s m args below meth c H locs 0 0 Q (F0 m 64 ls []) := by
  obtain ⟨hx, hb, hml, hown, hts, hr, hlocks⟩ := id K
  intro n
  induction n with
  | zero =>
    intro _ _ _ r h
    cases h
  | succ n ih =>
    intro x1 x2 σ r h H locs X ls hl kE
    rw [k_numberVertices_64] at h
    refine lv_iload_n hx hb dX0_numberVertices_64 rfl (lv_at hl 2 rfl) ?_
    refine lv_sipush (v := 400) hx hb dX0_numberVertices_65 (by decide) ?_
    refine lv_icmp_ge (tgt := 186) hx hb dX0_numberVertices_68 (by decide) (fun c1 => ?_) (fun c1 => ?_)
    · have h := kt_ift c1 h
      cases h
      exact kE H locs X ls (lv_sub hl [0, 1, 2] rfl)
    · have h := kt_iff c1 h
      refine lv_iload_n hx hb dX0_numberVertices_71 rfl (lv_at hl 1 rfl) ?_
      refine lv_if_le (tgt := 186) hx hb dX0_numberVertices_72 (by decide) (fun c2 => ?_) (fun c2 => ?_)
      · have h := kt_ift c2 h
        cases h
        exact kE H locs X ls (lv_sub hl [0, 1, 2] rfl)
      · have h := kt_iff c2 h
        refine lv_aload_n hx hb dX0_numberVertices_75 rfl (lv_at hl 0 rfl) ?_
        refine va_get (D := (dC, dI)) (ci := 0) (v := .ref (ad 8)) (C := RX0) (T := TX0) (N := 22) hx hb hts in_X0 hown hK X.1 0 kt_W0 rfl 8 (by decide) (hts _ q36) (fun _ h9 => h9) kt_F8 dX0_numberVertices_76 ?_
        refine lv_iload_n hx hb dX0_numberVertices_79 rfl (lv_at hl 1 rfl) ?_
        refine lv_iconst (v := 1) hx hb dX0_numberVertices_80 (by decide) ?_
        refine lv_isub hx hb dX0_numberVertices_81 ?_
        obtain ⟨b3, h⟩ := kt_chk_some h
        refine va_iald (f := σ 8) hx hb hK X.1 6 0 (kt_A8 (rfl)) rfl b3 dX0_numberVertices_82 ?_
        refine lv_topi (fun y4 e5 => ?_)
        have h := kt_nm_at e5 h
        refine lv_istore_n (lv' := [(3, .int y4), (0, .ref h0), (1, .int x1), (2, .int x2)]) hx hb dX0_numberVertices_83 rfl hl (by decide) rfl (fun ls hl => ?_)
        refine lv_aload_n hx hb dX0_numberVertices_84 rfl (lv_at hl 1 rfl) ?_
        refine va_get (D := (dC, dI)) (ci := 0) (v := .ref (ad 9)) (C := RX0) (T := TX0) (N := 22) hx hb hts in_X0 hown hK X.1 0 kt_W0 rfl 9 (by decide) (hts _ q37) (fun _ h9 => h9) kt_F9 dX0_numberVertices_85 ?_
        refine lv_iload_n hx hb dX0_numberVertices_88 rfl (lv_at hl 2 rfl) ?_
        refine lv_iconst (v := 1) hx hb dX0_numberVertices_89 (by decide) ?_
        refine lv_isub hx hb dX0_numberVertices_90 ?_
        obtain ⟨b6, h⟩ := kt_chk_some h
        refine va_iald (f := σ 9) hx hb hK X.1 7 0 (kt_A9 (rfl)) rfl b6 dX0_numberVertices_91 ?_
        obtain ⟨a7, e8, h⟩ := kt_bnd h
        refine kt_calls (As := [.int (σ 9 (kt_ix (x1 - 1)))]) (rest := []) K (met_k_lowestOf l N (σ 9 (kt_ix (x1 - 1))) a7 e8) (va_cwS 1 hts (lw_S q127 q128 q18 q129) rfl rfl rfl (by decide +kernel) ⟨Nat.le_trans (Nat.le_of_ble_eq_true rfl) hRf, Nat.le_trans (Nat.le_of_ble_eq_true rfl) hRl⟩) rfl hl.1 rfl (Nat.le_of_ble_eq_true rfl) dX0_numberVertices_92 X (fun H locs X => ?_)
        refine lv_istore (lv' := [(4, .int a7), (3, .int y4), (0, .ref h0), (1, .int x1), (2, .int x2)]) hx hb dX0_numberVertices_95 hl (by decide) rfl (fun ls hl => ?_)
        refine lv_iload hx hb dX0_numberVertices_97 (lv_at hl 0 rfl) ?_
        refine lv_if_ge (tgt := 108) hx hb dX0_numberVertices_99 (by decide) (fun c9 => ?_) (fun c9 => ?_)
        · have h := kt_ift c9 h
          refine lv_aload_n hx hb dX0_numberVertices_108 rfl (lv_at hl 2 rfl) ?_
          refine va_get (D := (dC, dI)) (ci := 0) (v := .ref (ad 9)) (C := RX0) (T := TX0) (N := 22) hx hb hts in_X0 hown hK X.1 0 kt_W0 rfl 9 (by decide) (hts _ q37) (fun _ h9 => h9) kt_F9 dX0_numberVertices_109 ?_
          refine lv_iload_n hx hb dX0_numberVertices_112 rfl (lv_at hl 3 rfl) ?_
          refine lv_iconst (v := 1) hx hb dX0_numberVertices_113 (by decide) ?_
          refine lv_isub hx hb dX0_numberVertices_114 ?_
          refine lv_dup2_11 hx hb dX0_numberVertices_115 rfl rfl ?_
          obtain ⟨b10, h⟩ := kt_chk_some h
          refine va_iald (f := σ 9) hx hb hK X.1 7 0 (kt_A9 (rfl)) rfl b10 dX0_numberVertices_116 ?_
          refine lv_iconst (v := 1) hx hb dX0_numberVertices_117 (by decide) ?_
          refine lv_iload hx hb dX0_numberVertices_118 (lv_at hl 0 rfl) ?_
          refine lv_ishl hx hb dX0_numberVertices_120 ?_
          refine lv_iconst (v := (-1)) hx hb dX0_numberVertices_121 (by decide) ?_
          refine lv_ixor hx hb dX0_numberVertices_122 ?_
          refine lv_iand hx hb dX0_numberVertices_123 ?_
          refine lv_topi (fun y11 e12 => ?_)
          have h := kt_nm_at e12 h
          obtain ⟨b13, h⟩ := kt_chk_some h
          refine va_iast (f := σ 9) hx hb hK X.1 X.2.1 X.2.2 7 0 (kt_A9 rfl) rfl b13 dX0_numberVertices_124 (fun H locs hP hD hS => ?_)
          have X : kt_X dC dI (kt_W h0 ad d1 (kt_st σ 9 ((kt_ix (x1 - 1))) y11)) A s H locs := kt_XA9 hP hD hS
          refine lv_aload_n hx hb dX0_numberVertices_125 rfl (lv_at hl 2 rfl) ?_
          refine va_get (D := (dC, dI)) (ci := 0) (v := .ref (ad 5)) (C := RX0) (T := TX0) (N := 22) hx hb hts in_X0 hown hK X.1 0 kt_W0 rfl 5 (by decide) (hts _ q33) (fun _ h9 => h9) kt_F5 dX0_numberVertices_126 ?_
          refine lv_iload hx hb dX0_numberVertices_129 (lv_at hl 0 rfl) ?_
          obtain ⟨b14, h⟩ := kt_chk_some h
          refine va_iald (f := σ 5) hx hb hK X.1 3 0 (kt_A5 (kt_st_ne rfl)) rfl b14 dX0_numberVertices_131 ?_
          refine lv_if_ge (tgt := 180) hx hb dX0_numberVertices_132 (by decide) (fun c15 => ?_) (fun c15 => ?_)
          · have h := kt_ift c15 h
            refine lv_iinc (v := x2 + 1) (lv' := [(2, .int (x2 + 1)), (4, .int a7), (3, .int y4), (0, .ref h0), (1, .int x1)]) hx hb dX0_numberVertices_180 hl (k := 4) rfl rfl (by decide) rfl (fun ls hl => ?_)
            refine lv_goto (tgt := 64) hx hb dX0_numberVertices_183 (by decide) ?_
            exact ih x1 (x2 + 1) (kt_st σ 9 ((kt_ix (x1 - 1))) y11) r h H locs X ls (lv_sub hl [3, 4, 0] rfl) kE
          · have h := kt_iff c15 h
            refine lv_aload_n hx hb dX0_numberVertices_135 rfl (lv_at hl 2 rfl) ?_
            refine va_get (D := (dC, dI)) (ci := 0) (v := .ref (ad 7)) (C := RX0) (T := TX0) (N := 22) hx hb hts in_X0 hown hK X.1 0 kt_W0 rfl 7 (by decide) (hts _ q35) (fun _ h9 => h9) kt_F7 dX0_numberVertices_136 ?_
            refine lv_aload_n hx hb dX0_numberVertices_139 rfl (lv_at hl 2 rfl) ?_
            refine va_get (D := (dC, dI)) (ci := 0) (v := .int (σ 4 0)) (C := RX0) (T := TX0) (N := 22) hx hb hts in_X0 hown hK X.1 0 kt_W0 rfl 4 (by decide) (hts _ q32) (fun _ h9 => h9) (kt_F4 (congrFun (kt_st_ne rfl) 0)) dX0_numberVertices_140 ?_
            refine lv_aload_n hx hb dX0_numberVertices_143 rfl (lv_at hl 2 rfl) ?_
            refine va_get (D := (dC, dI)) (ci := 0) (v := .ref (ad 5)) (C := RX0) (T := TX0) (N := 22) hx hb hts in_X0 hown hK X.1 0 kt_W0 rfl 5 (by decide) (hts _ q33) (fun _ h9 => h9) kt_F5 dX0_numberVertices_144 ?_
            refine lv_iload_n hx hb dX0_numberVertices_147 rfl (lv_at hl 1 rfl) ?_
            obtain ⟨b16, h⟩ := kt_chk_some h
            refine va_iald (f := σ 5) hx hb hK X.1 3 0 (kt_A5 (kt_st_ne rfl)) rfl b16 dX0_numberVertices_148 ?_
            refine lv_topi (fun y17 e18 => ?_)
            have h := kt_nm_at e18 h
            obtain ⟨b19, h⟩ := kt_chk_some h
            refine va_iast (f := (kt_st σ 9 ((kt_ix (x1 - 1))) y11) 7) hx hb hK X.1 X.2.1 X.2.2 5 0 (kt_A7 rfl) rfl b19 dX0_numberVertices_149 (fun H locs hP hD hS => ?_)
            have X : kt_X dC dI (kt_W h0 ad d1 (kt_st (kt_st σ 9 ((kt_ix (x1 - 1))) y11) 7 ((kt_ix (σ 4 0))) y17)) A s H locs := kt_XA7 hP hD hS
            refine lv_aload_n hx hb dX0_numberVertices_150 rfl (lv_at hl 2 rfl) ?_
            refine lv_iload hx hb dX0_numberVertices_151 (lv_at hl 0 rfl) ?_
            obtain ⟨a20, e21, h⟩ := kt_bnd h
            refine kt_callv (WS := kt_W h0 ad d1) (σ := kt_st (kt_st σ 9 ((kt_ix (x1 - 1))) y11) 7 ((kt_ix (σ 4 0))) y17) (As := [.int a7]) (rest := []) K hK hA (met_k_visit l dC dI h0 ad d1 d2 (kt_st (kt_st σ 9 ((kt_ix (x1 - 1))) y11) 7 ((kt_ix (σ 4 0))) y17) a7 a20 e21) (cwV 1 hts (lw_V q123 q125 qs2 q18 q126) rfl rfl rfl (by decide +kernel) ⟨Nat.le_trans (Nat.le_of_ble_eq_true rfl) hRf, Nat.le_trans (Nat.le_of_ble_eq_true rfl) hRl⟩) (va_recv hK X.1 (ci := 0) (q0 := 0) rfl kt_W0) rfl hl.1 rfl (Nat.le_of_ble_eq_true rfl) dX0_numberVertices_153 X (fun H locs X => ?_)
            refine lv_aload_n hx hb dX0_numberVertices_156 rfl (lv_at hl 2 rfl) ?_
            refine va_get (D := (dC, dI)) (ci := 0) (v := .ref (ad 8)) (C := RX0) (T := TX0) (N := 22) hx hb hts in_X0 hown hK X.1 0 kt_W0 rfl 8 (by decide) (hts _ q36) (fun _ h9 => h9) kt_F8 dX0_numberVertices_157 ?_
            refine lv_iload_n hx hb dX0_numberVertices_160 rfl (lv_at hl 3 rfl) ?_
            refine lv_iload hx hb dX0_numberVertices_161 (lv_at hl 0 rfl) ?_
            obtain ⟨b22, h⟩ := kt_chk_some h
            refine va_iast (f := a20 8) hx hb hK X.1 X.2.1 X.2.2 6 0 (kt_A8 rfl) rfl b22 dX0_numberVertices_163 (fun H locs hP hD hS => ?_)
            have X : kt_X dC dI (kt_W h0 ad d1 (kt_st a20 8 ((kt_ix x1)) a7)) A s H locs := kt_XA8 hP hD hS
            refine lv_aload_n hx hb dX0_numberVertices_164 rfl (lv_at hl 2 rfl) ?_
            refine va_get (D := (dC, dI)) (ci := 0) (v := .ref (ad 9)) (C := RX0) (T := TX0) (N := 22) hx hb hts in_X0 hown hK X.1 0 kt_W0 rfl 9 (by decide) (hts _ q37) (fun _ h9 => h9) kt_F9 dX0_numberVertices_165 ?_
            refine lv_iload_n hx hb dX0_numberVertices_168 rfl (lv_at hl 3 rfl) ?_
            refine lv_aload_n hx hb dX0_numberVertices_169 rfl (lv_at hl 2 rfl) ?_
            refine va_get (D := (dC, dI)) (ci := 0) (v := .ref (ad 1)) (C := RX0) (T := TX0) (N := 22) hx hb hts in_X0 hown hK X.1 0 kt_W0 rfl 1 (by decide) (hts _ q29) (fun _ h9 => h9) kt_F1 dX0_numberVertices_170 ?_
            refine lv_iload hx hb dX0_numberVertices_173 (lv_at hl 0 rfl) ?_
            obtain ⟨b23, h⟩ := kt_chk_some h
            refine va_iald (f := a20 1) hx hb hK X.1 2 0 (kt_A1 (kt_st_ne rfl)) rfl b23 dX0_numberVertices_175 ?_
            refine lv_topi (fun y24 e25 => ?_)
            have h := kt_nm_at e25 h
            obtain ⟨b26, h⟩ := kt_chk_some h
            refine va_iast (f := (kt_st a20 8 ((kt_ix x1)) a7) 9) hx hb hK X.1 X.2.1 X.2.2 7 0 (kt_A9 rfl) rfl b26 dX0_numberVertices_176 (fun H locs hP hD hS => ?_)
            have X : kt_X dC dI (kt_W h0 ad d1 (kt_st (kt_st a20 8 ((kt_ix x1)) a7) 9 ((kt_ix x1)) y24)) A s H locs := kt_XA9 hP hD hS
            refine lv_iinc (v := x1 + 1) (lv' := [(1, .int (x1 + 1)), (4, .int a7), (3, .int y4), (0, .ref h0), (2, .int x2)]) hx hb dX0_numberVertices_177 hl (k := 3) rfl rfl (by decide) rfl (fun ls hl => ?_)
            refine lv_iinc (v := x2 + 1) (lv' := [(2, .int (x2 + 1)), (1, .int (x1 + 1)), (4, .int a7), (3, .int y4), (0, .ref h0)]) hx hb dX0_numberVertices_180 hl (k := 4) rfl rfl (by decide) rfl (fun ls hl => ?_)
            refine lv_goto (tgt := 64) hx hb dX0_numberVertices_183 (by decide) ?_
            exact ih (x1 + 1) (x2 + 1) (kt_st (kt_st a20 8 ((kt_ix x1)) a7) 9 ((kt_ix x1)) y24) r h H locs X ls (lv_sub hl [4, 1, 0] rfl) kE
        · have h := kt_iff c9 h
          refine lv_iinc (v := x1 + (-1)) (lv' := [(1, .int (x1 + (-1))), (4, .int a7), (3, .int y4), (0, .ref h0), (2, .int x2)]) hx hb dX0_numberVertices_102 hl (k := 3) rfl rfl (by decide) rfl (fun ls hl => ?_)
          refine lv_goto (tgt := 180) hx hb dX0_numberVertices_105 (by decide) ?_
          refine lv_iinc (v := x2 + 1) (lv' := [(2, .int (x2 + 1)), (1, .int (x1 + (-1))), (4, .int a7), (3, .int y4), (0, .ref h0)]) hx hb dX0_numberVertices_180 hl (k := 4) rfl rfl (by decide) rfl (fun ls hl => ?_)
          refine lv_goto (tgt := 64) hx hb dX0_numberVertices_183 (by decide) ?_
          exact ih (x1 + (-1)) (x2 + 1) σ r h H locs X ls (lv_sub hl [4, 1, 0] rfl) kE
set_option maxHeartbeats 4000000 in
set_option maxRecDepth 100000 in
theorem wl_k_numberVertices_2 {p : Program} {l : Launch} {e : Env} {R : Room} {s : State} {m : MethodId} {args : Array Value} {below : List Frame} {meth : Method} {c : Code} {Q : State → Prop} {dC : Nat → ClassId} {dI : Nat → Nat → Nat} {d1 d2 : ClassId} {A : Nat → Prop} {h0 : Nat} {ad : Nat → Nat} (K : kt_E RX0 p s m meth c cX0_numberVertices 5 none args) (hK : va_K (dC, dI) vwCl (kt_T d1 d2) s) (hA : ∀ q : Nat, s.heap.size ≤ q → A q) :
    ∀ (n : Nat) (x1 : Int32) (σ : KSt) (r : Int32 × KSt), k_numberVertices_2 n x1 σ = some r → ∀ (H : Heap) (locs : List Loc), kt_X dC dI (kt_W h0 ad d1 σ) A s H locs → ∀ (ls : Array Slot), lv_has ls 5 [(0, .ref h0), (1, .int x1)] → (∀ (H : Heap) (locs : List Loc), kt_X dC dI (kt_W h0 ad d1 r.2) A s H locs → ∀ (ls : Array Slot), lv_has ls 5 [(0, .ref h0), (1, .int r.1)] → W p l e R s m args below meth c H locs 0 0 Q (F0 m 28 ls [])) → W p l e R s m args below meth c H locs 0 0 Q (F0 m 2 ls []) := by
  obtain ⟨hx, hb, hml, hown, hts, hr, hlocks⟩ := id K
  intro n
  induction n with
  | zero =>
    intro _ _ r h
    cases h
  | succ n ih =>
    intro x1 σ r h H locs X ls hl kE
    rw [k_numberVertices_2] at h
    refine lv_iload_n hx hb dX0_numberVertices_2 rfl (lv_at hl 1 rfl) ?_
    refine lv_bipush (v := 17) hx hb dX0_numberVertices_3 (by decide) ?_
    refine lv_icmp_ge (tgt := 28) hx hb dX0_numberVertices_5 (by decide) (fun c1 => ?_) (fun c1 => ?_)
    · have h := kt_ift c1 h
      cases h
      exact kE H locs X ls (lv_sub hl [0, 1] rfl)
    · have h := kt_iff c1 h
      refine lv_aload_n hx hb dX0_numberVertices_8 rfl (lv_at hl 0 rfl) ?_
      refine va_get (D := (dC, dI)) (ci := 0) (v := .ref (ad 5)) (C := RX0) (T := TX0) (N := 22) hx hb hts in_X0 hown hK X.1 0 kt_W0 rfl 5 (by decide) (hts _ q33) (fun _ h9 => h9) kt_F5 dX0_numberVertices_9 ?_
      refine lv_iload_n hx hb dX0_numberVertices_12 rfl (lv_at hl 1 rfl) ?_
      refine lv_iconst (v := (-1)) hx hb dX0_numberVertices_13 (by decide) ?_
      obtain ⟨b2, h⟩ := kt_chk_some h
      refine va_iast (f := σ 5) hx hb hK X.1 X.2.1 X.2.2 3 0 (kt_A5 rfl) rfl b2 dX0_numberVertices_14 (fun H locs hP hD hS => ?_)
      have X : kt_X dC dI (kt_W h0 ad d1 (kt_st σ 5 ((kt_ix x1)) (-1))) A s H locs := kt_XA5 hP hD hS
      refine lv_aload_n hx hb dX0_numberVertices_15 rfl (lv_at hl 0 rfl) ?_
      refine va_get (D := (dC, dI)) (ci := 0) (v := .ref (ad 7)) (C := RX0) (T := TX0) (N := 22) hx hb hts in_X0 hown hK X.1 0 kt_W0 rfl 7 (by decide) (hts _ q35) (fun _ h9 => h9) kt_F7 dX0_numberVertices_16 ?_
      refine lv_iload_n hx hb dX0_numberVertices_19 rfl (lv_at hl 1 rfl) ?_
      refine lv_iconst (v := (-1)) hx hb dX0_numberVertices_20 (by decide) ?_
      obtain ⟨b3, h⟩ := kt_chk_some h
      refine va_iast (f := (kt_st σ 5 ((kt_ix x1)) (-1)) 7) hx hb hK X.1 X.2.1 X.2.2 5 0 (kt_A7 rfl) rfl b3 dX0_numberVertices_21 (fun H locs hP hD hS => ?_)
      have X : kt_X dC dI (kt_W h0 ad d1 (kt_st (kt_st σ 5 ((kt_ix x1)) (-1)) 7 ((kt_ix x1)) (-1))) A s H locs := kt_XA7 hP hD hS
      refine lv_iinc (v := x1 + 1) (lv' := [(1, .int (x1 + 1)), (0, .ref h0)]) hx hb dX0_numberVertices_22 hl (k := 1) rfl rfl (by decide) rfl (fun ls hl => ?_)
      refine lv_goto (tgt := 2) hx hb dX0_numberVertices_25 (by decide) ?_
      exact ih (x1 + 1) (kt_st (kt_st σ 5 ((kt_ix x1)) (-1)) 7 ((kt_ix x1)) (-1)) r h H locs X ls (lv_sub hl [1, 0] rfl) kE
set_option maxHeartbeats 4000000 in
set_option maxRecDepth 100000 in
/-- KeepTree.numberVertices()V -/
theorem met_k_numberVertices (l : Launch) (dC : Nat → ClassId) (dI : Nat → Nat → Nat) (h0 : Nat) (ad : Nat → Nat) (d1 d2 : ClassId) (N : Nat) (σ : KSt) (a : KSt) (h : k_numberVertices N σ = some a) : kt_Cv l yX0_numberVertices (ws_ yX0_numberVertices cX0_numberVertices 5 none) ({ frames := 1, cells := 0, slots := 0, locals := 21 } : Room) h0 [] dC dI (kt_T d1 d2) (kt_W h0 ad d1) σ a := by
  refine kt_enter (Qc := fun A => kt_Qv a dC dI (kt_T d1 d2) (kt_W h0 ad d1) A) (by decide) (Nat.le_of_ble_eq_true rfl) ?_
  intro p e s m below meth c A ls K hK hA X hl
  have K : kt_E RX0 p s m meth c cX0_numberVertices 5 none _ := K
  obtain ⟨hx, hb, hml, hown, hts, hr, hlocks⟩ := id K
  generalize hs0 : s.heap = H at X ⊢
  generalize hl0 : ([] : List Loc) = locs at X ⊢
  have hRf : 1 ≤ (({ frames := 1, cells := 0, slots := 0, locals := 21 } : Room)).frames := Nat.le_refl _
  have hRl : 21 ≤ (({ frames := 1, cells := 0, slots := 0, locals := 21 } : Room)).locals := Nat.le_refl _
  have hl : lv_has ls 5 [(0, .ref h0)] := hl
  rw [k_numberVertices] at h
  refine lv_iconst (v := 0) hx hb dX0_numberVertices_0 (by decide) ?_
  refine lv_istore_n (lv' := [(1, .int 0), (0, .ref h0)]) hx hb dX0_numberVertices_1 rfl hl (by decide) rfl (fun ls hl => ?_)
  obtain ⟨a1, e2, h⟩ := kt_bnd h
  refine wl_k_numberVertices_2 K hK hA N 0 σ a1 e2 H locs X ls (lv_sub hl [1, 0] rfl) (fun H locs X ls hl => ?_)
  refine lv_aload_n hx hb dX0_numberVertices_28 rfl (lv_at hl 0 rfl) ?_
  refine lv_iconst (v := 0) hx hb dX0_numberVertices_29 (by decide) ?_
  refine va_put (D := (dC, dI)) (ci := 0) (v := .int 0) (ty := .int) (C := RX0) (T := TX0) (N := 22) hx hb hts in_X0 tyX0 tyX0_ok nmX0 hown hK X.1 X.2.1 X.2.2 0 kt_W0 rfl 4 (by decide) (hts _ q32) (fun _ h9 => h9) rfl (by decide +kernel) rfl rfl kt_FL4 dX0_numberVertices_30 (fun H locs hP hD hS => ?_)
  have X : kt_X dC dI (kt_W h0 ad d1 (kt_st a1.2 4 0 0)) A s H locs := kt_XF4 hP hD hS
  refine lv_aload_n hx hb dX0_numberVertices_33 rfl (lv_at hl 0 rfl) ?_
  refine lv_bipush (v := 16) hx hb dX0_numberVertices_34 (by decide) ?_
  obtain ⟨a3, e4, h⟩ := kt_bnd h
  refine kt_callv (WS := kt_W h0 ad d1) (σ := kt_st a1.2 4 0 0) (As := [.int 16]) (rest := []) K hK hA (met_k_visit l dC dI h0 ad d1 d2 (kt_st a1.2 4 0 0) 16 a3 e4) (cwV 1 hts (lw_V q123 q125 qs2 q18 q126) rfl rfl rfl (by decide +kernel) ⟨Nat.le_trans (Nat.le_of_ble_eq_true rfl) hRf, Nat.le_trans (Nat.le_of_ble_eq_true rfl) hRl⟩) (va_recv hK X.1 (ci := 0) (q0 := 0) rfl kt_W0) rfl hl.1 rfl (Nat.le_of_ble_eq_true rfl) dX0_numberVertices_36 X (fun H locs X => ?_)
  refine lv_aload_n hx hb dX0_numberVertices_39 rfl (lv_at hl 0 rfl) ?_
  refine va_get (D := (dC, dI)) (ci := 0) (v := .ref (ad 8)) (C := RX0) (T := TX0) (N := 22) hx hb hts in_X0 hown hK X.1 0 kt_W0 rfl 8 (by decide) (hts _ q36) (fun _ h9 => h9) kt_F8 dX0_numberVertices_40 ?_
  refine lv_iconst (v := 0) hx hb dX0_numberVertices_43 (by decide) ?_
  refine lv_bipush (v := 16) hx hb dX0_numberVertices_44 (by decide) ?_
  obtain ⟨b5, h⟩ := kt_chk_some h
  refine va_iast (f := a3 8) hx hb hK X.1 X.2.1 X.2.2 6 0 (kt_A8 rfl) rfl b5 dX0_numberVertices_46 (fun H locs hP hD hS => ?_)
  have X : kt_X dC dI (kt_W h0 ad d1 (kt_st a3 8 ((kt_ix 0)) 16)) A s H locs := kt_XA8 hP hD hS
  refine lv_aload_n hx hb dX0_numberVertices_47 rfl (lv_at hl 0 rfl) ?_
  refine va_get (D := (dC, dI)) (ci := 0) (v := .ref (ad 9)) (C := RX0) (T := TX0) (N := 22) hx hb hts in_X0 hown hK X.1 0 kt_W0 rfl 9 (by decide) (hts _ q37) (fun _ h9 => h9) kt_F9 dX0_numberVertices_48 ?_
  refine lv_iconst (v := 0) hx hb dX0_numberVertices_51 (by decide) ?_
  refine lv_aload_n hx hb dX0_numberVertices_52 rfl (lv_at hl 0 rfl) ?_
  refine va_get (D := (dC, dI)) (ci := 0) (v := .ref (ad 1)) (C := RX0) (T := TX0) (N := 22) hx hb hts in_X0 hown hK X.1 0 kt_W0 rfl 1 (by decide) (hts _ q29) (fun _ h9 => h9) kt_F1 dX0_numberVertices_53 ?_
  refine lv_bipush (v := 16) hx hb dX0_numberVertices_56 (by decide) ?_
  obtain ⟨b6, h⟩ := kt_chk_some h
  refine va_iald (f := a3 1) hx hb hK X.1 2 0 (kt_A1 (kt_st_ne rfl)) rfl b6 dX0_numberVertices_58 ?_
  refine lv_topi (fun y7 e8 => ?_)
  have h := kt_nm_at e8 h
  obtain ⟨b9, h⟩ := kt_chk_some h
  refine va_iast (f := (kt_st a3 8 ((kt_ix 0)) 16) 9) hx hb hK X.1 X.2.1 X.2.2 7 0 (kt_A9 rfl) rfl b9 dX0_numberVertices_59 (fun H locs hP hD hS => ?_)
  have X : kt_X dC dI (kt_W h0 ad d1 (kt_st (kt_st a3 8 ((kt_ix 0)) 16) 9 ((kt_ix 0)) y7)) A s H locs := kt_XA9 hP hD hS
  refine lv_iconst (v := 1) hx hb dX0_numberVertices_60 (by decide) ?_
  refine lv_istore_n (lv' := [(1, .int 1), (0, .ref h0)]) hx hb dX0_numberVertices_61 rfl hl (by decide) rfl (fun ls hl => ?_)
  refine lv_iconst (v := 0) hx hb dX0_numberVertices_62 (by decide) ?_
  refine lv_istore_n (lv' := [(2, .int 0), (1, .int 1), (0, .ref h0)]) hx hb dX0_numberVertices_63 rfl hl (by decide) rfl (fun ls hl => ?_)
  obtain ⟨a10, e11, h⟩ := kt_bnd h
  refine wl_k_numberVertices_64 K hK hA hRf hRl N N 1 0 (kt_st (kt_st a3 8 ((kt_ix 0)) 16) 9 ((kt_ix 0)) y7) a10 e11 H locs X ls (lv_sub hl [2, 1, 0] rfl) (fun H locs X ls hl => ?_)
  exact kt_vret (WS := kt_W h0 ad d1) (σ := a10.2.2) K hK X h dX0_numberVertices_186
set_option maxHeartbeats 4000000 in
set_option maxRecDepth 100000 in
theorem wl_k_evaluate_72 {p : Program} {l : Launch} {e : Env} {R : Room} {s : State} {m : MethodId} {args : Array Value} {below : List Frame} {meth : Method} {c : Code} {Q : State → Prop} {dC : Nat → ClassId} {dI : Nat → Nat → Nat} {d1 d2 : ClassId} {A : Nat → Prop} {h0 : Nat} {ad : Nat → Nat} (K : kt_E RX0 p s m meth c cX0_evaluate 7 (some .int) args) (hK : va_K (dC, dI) vwCl (kt_T d1 d2) s) (hA : ∀ q : Nat, s.heap.size ≤ q → A q) (x1 : Int32) :
    ∀ (n : Nat) (x4 : Int32) (σ : KSt) (r : Int32 × KSt), k_evaluate_72 x1 n x4 σ = some r → ∀ (H : Heap) (locs : List Loc), kt_X dC dI (kt_W h0 ad d1 σ) A s H locs → ∀ (ls : Array Slot), lv_has ls 7 [(0, .ref h0), (1, .int x1), (4, .int x4)] → (∀ (H : Heap) (locs : List Loc), kt_X dC dI (kt_W h0 ad d1 r.2) A s H locs → ∀ (ls : Array Slot), lv_has ls 7 [(0, .ref h0), (1, .int x1), (4, .int r.1)] → W p l e R s m args below meth c H locs 0 0 Q (F0 m 156 ls [])) → W p l e R s m args below meth c H locs 0 0 Q (F0 m 72 ls []) := by
  obtain ⟨hx, hb, hml, hown, hts, hr, hlocks⟩ := id K
  intro n
  induction n with
  | zero =>
    intro _ _ r h
    cases h
  | succ n ih =>
    intro x4 σ r h H locs X ls hl kE
    rw [k_evaluate_72] at h
    refine lv_iload hx hb dX0_evaluate_72 (lv_at hl 2 rfl) ?_
    refine lv_if_lt (tgt := 156) hx hb dX0_evaluate_74 (by decide) (fun c1 => ?_) (fun c1 => ?_)
    · have h := kt_ift c1 h
      cases h
      exact kE H locs X ls (lv_sub hl [0, 1, 2] rfl)
    · have h := kt_iff c1 h
      refine lv_aload_n hx hb dX0_evaluate_77 rfl (lv_at hl 0 rfl) ?_
      refine va_get (D := (dC, dI)) (ci := 0) (v := .ref (ad 14)) (C := RX0) (T := TX0) (N := 22) hx hb hts in_X0 hown hK X.1 0 kt_W0 rfl 14 (by decide) (hts _ q42) (fun _ h9 => h9) kt_F14 dX0_evaluate_78 ?_
      refine lv_iload hx hb dX0_evaluate_81 (lv_at hl 2 rfl) ?_
      obtain ⟨b2, h⟩ := kt_chk_some h
      refine va_iald (f := σ 14) hx hb hK X.1 12 0 (kt_A14 (rfl)) rfl b2 dX0_evaluate_83 ?_
      refine lv_topi (fun y3 e4 => ?_)
      have h := kt_nm_at e4 h
      refine lv_istore (lv' := [(5, .int y3), (0, .ref h0), (1, .int x1), (4, .int x4)]) hx hb dX0_evaluate_84 hl (by decide) rfl (fun ls hl => ?_)
      refine lv_aload_n hx hb dX0_evaluate_86 rfl (lv_at hl 1 rfl) ?_
      refine va_get (D := (dC, dI)) (ci := 0) (v := .ref (ad 12)) (C := RX0) (T := TX0) (N := 22) hx hb hts in_X0 hown hK X.1 0 kt_W0 rfl 12 (by decide) (hts _ q40) (fun _ h9 => h9) kt_F12 dX0_evaluate_87 ?_
      refine lv_iload hx hb dX0_evaluate_90 (lv_at hl 0 rfl) ?_
      obtain ⟨b5, h⟩ := kt_chk_some h
      refine va_iald (f := σ 12) hx hb hK X.1 10 0 (kt_A12 (rfl)) rfl b5 dX0_evaluate_92 ?_
      refine lv_topi (fun y6 e7 => ?_)
      have h := kt_nm_at e7 h
      refine lv_istore (lv' := [(6, .int y6), (5, .int y3), (0, .ref h0), (1, .int x1), (4, .int x4)]) hx hb dX0_evaluate_93 hl (by decide) rfl (fun ls hl => ?_)
      refine lv_aload_n hx hb dX0_evaluate_95 rfl (lv_at hl 2 rfl) ?_
      refine va_get (D := (dC, dI)) (ci := 0) (v := .ref (ad 10)) (C := RX0) (T := TX0) (N := 22) hx hb hts in_X0 hown hK X.1 0 kt_W0 rfl 10 (by decide) (hts _ q38) (fun _ h9 => h9) kt_F10 dX0_evaluate_96 ?_
      refine lv_aload_n hx hb dX0_evaluate_99 rfl (lv_at hl 2 rfl) ?_
      refine va_get (D := (dC, dI)) (ci := 0) (v := .ref (ad 13)) (C := RX0) (T := TX0) (N := 22) hx hb hts in_X0 hown hK X.1 0 kt_W0 rfl 13 (by decide) (hts _ q41) (fun _ h9 => h9) kt_F13 dX0_evaluate_100 ?_
      refine lv_iload hx hb dX0_evaluate_103 (lv_at hl 0 rfl) ?_
      obtain ⟨b8, h⟩ := kt_chk_some h
      refine va_iald (f := σ 13) hx hb hK X.1 11 0 (kt_A13 (rfl)) rfl b8 dX0_evaluate_105 ?_
      obtain ⟨b9, h⟩ := kt_chk_some h
      refine va_iald (f := σ 10) hx hb hK X.1 8 0 (kt_A10 (rfl)) rfl b9 dX0_evaluate_106 ?_
      refine lv_aload_n hx hb dX0_evaluate_107 rfl (lv_at hl 2 rfl) ?_
      refine va_get (D := (dC, dI)) (ci := 0) (v := .ref (ad 10)) (C := RX0) (T := TX0) (N := 22) hx hb hts in_X0 hown hK X.1 0 kt_W0 rfl 10 (by decide) (hts _ q38) (fun _ h9 => h9) kt_F10 dX0_evaluate_108 ?_
      refine lv_aload_n hx hb dX0_evaluate_111 rfl (lv_at hl 2 rfl) ?_
      refine va_get (D := (dC, dI)) (ci := 0) (v := .ref (ad 13)) (C := RX0) (T := TX0) (N := 22) hx hb hts in_X0 hown hK X.1 0 kt_W0 rfl 13 (by decide) (hts _ q41) (fun _ h9 => h9) kt_F13 dX0_evaluate_112 ?_
      refine lv_iload hx hb dX0_evaluate_115 (lv_at hl 1 rfl) ?_
      obtain ⟨b10, h⟩ := kt_chk_some h
      refine va_iald (f := σ 13) hx hb hK X.1 11 0 (kt_A13 (rfl)) rfl b10 dX0_evaluate_117 ?_
      obtain ⟨b11, h⟩ := kt_chk_some h
      refine va_iald (f := σ 10) hx hb hK X.1 8 0 (kt_A10 (rfl)) rfl b11 dX0_evaluate_118 ?_
      refine lv_icmp_ge (tgt := 136) hx hb dX0_evaluate_119 (by decide) (fun c12 => ?_) (fun c12 => ?_)
      · have h := kt_ift c12 h
        refine lv_aload_n hx hb dX0_evaluate_136 rfl (lv_at hl 2 rfl) ?_
        refine va_get (D := (dC, dI)) (ci := 0) (v := .ref (ad 12)) (C := RX0) (T := TX0) (N := 22) hx hb hts in_X0 hown hK X.1 0 kt_W0 rfl 12 (by decide) (hts _ q40) (fun _ h9 => h9) kt_F12 dX0_evaluate_137 ?_
        refine lv_iload hx hb dX0_evaluate_140 (lv_at hl 1 rfl) ?_
        refine lv_aload_n hx hb dX0_evaluate_142 rfl (lv_at hl 2 rfl) ?_
        refine va_get (D := (dC, dI)) (ci := 0) (v := .ref (ad 12)) (C := RX0) (T := TX0) (N := 22) hx hb hts in_X0 hown hK X.1 0 kt_W0 rfl 12 (by decide) (hts _ q40) (fun _ h9 => h9) kt_F12 dX0_evaluate_143 ?_
        refine lv_iload hx hb dX0_evaluate_146 (lv_at hl 0 rfl) ?_
        obtain ⟨b13, h⟩ := kt_chk_some h
        refine va_iald (f := σ 12) hx hb hK X.1 10 0 (kt_A12 (rfl)) rfl b13 dX0_evaluate_148 ?_
        refine lv_topi (fun y14 e15 => ?_)
        have h := kt_nm_at e15 h
        obtain ⟨b16, h⟩ := kt_chk_some h
        refine va_iast (f := σ 12) hx hb hK X.1 X.2.1 X.2.2 10 0 (kt_A12 rfl) rfl b16 dX0_evaluate_149 (fun H locs hP hD hS => ?_)
        have X : kt_X dC dI (kt_W h0 ad d1 (kt_st σ 12 ((kt_ix y3)) y14)) A s H locs := kt_XA12 hP hD hS
        refine lv_iinc (v := x4 + (-1)) (lv' := [(4, .int (x4 + (-1))), (6, .int y6), (5, .int y3), (0, .ref h0), (1, .int x1)]) hx hb dX0_evaluate_150 hl (k := 4) rfl rfl (by decide) rfl (fun ls hl => ?_)
        refine lv_goto (tgt := 72) hx hb dX0_evaluate_153 (by decide) ?_
        exact ih (x4 + (-1)) (kt_st σ 12 ((kt_ix y3)) y14) r h H locs X ls (lv_sub hl [3, 4, 0] rfl) kE
      · have h := kt_iff c12 h
        refine lv_aload_n hx hb dX0_evaluate_122 rfl (lv_at hl 2 rfl) ?_
        refine va_get (D := (dC, dI)) (ci := 0) (v := .ref (ad 13)) (C := RX0) (T := TX0) (N := 22) hx hb hts in_X0 hown hK X.1 0 kt_W0 rfl 13 (by decide) (hts _ q41) (fun _ h9 => h9) kt_F13 dX0_evaluate_123 ?_
        refine lv_iload hx hb dX0_evaluate_126 (lv_at hl 1 rfl) ?_
        refine lv_aload_n hx hb dX0_evaluate_128 rfl (lv_at hl 2 rfl) ?_
        refine va_get (D := (dC, dI)) (ci := 0) (v := .ref (ad 13)) (C := RX0) (T := TX0) (N := 22) hx hb hts in_X0 hown hK X.1 0 kt_W0 rfl 13 (by decide) (hts _ q41) (fun _ h9 => h9) kt_F13 dX0_evaluate_129 ?_
        refine lv_iload hx hb dX0_evaluate_132 (lv_at hl 0 rfl) ?_
        obtain ⟨b17, h⟩ := kt_chk_some h
        refine va_iald (f := σ 13) hx hb hK X.1 11 0 (kt_A13 (rfl)) rfl b17 dX0_evaluate_134 ?_
        refine lv_topi (fun y18 e19 => ?_)
        have h := kt_nm_at e19 h
        obtain ⟨b20, h⟩ := kt_chk_some h
        refine va_iast (f := σ 13) hx hb hK X.1 X.2.1 X.2.2 11 0 (kt_A13 rfl) rfl b20 dX0_evaluate_135 (fun H locs hP hD hS => ?_)
        have X : kt_X dC dI (kt_W h0 ad d1 (kt_st σ 13 ((kt_ix y3)) y18)) A s H locs := kt_XA13 hP hD hS
        refine lv_aload_n hx hb dX0_evaluate_136 rfl (lv_at hl 2 rfl) ?_
        refine va_get (D := (dC, dI)) (ci := 0) (v := .ref (ad 12)) (C := RX0) (T := TX0) (N := 22) hx hb hts in_X0 hown hK X.1 0 kt_W0 rfl 12 (by decide) (hts _ q40) (fun _ h9 => h9) kt_F12 dX0_evaluate_137 ?_
        refine lv_iload hx hb dX0_evaluate_140 (lv_at hl 1 rfl) ?_
        refine lv_aload_n hx hb dX0_evaluate_142 rfl (lv_at hl 2 rfl) ?_
        refine va_get (D := (dC, dI)) (ci := 0) (v := .ref (ad 12)) (C := RX0) (T := TX0) (N := 22) hx hb hts in_X0 hown hK X.1 0 kt_W0 rfl 12 (by decide) (hts _ q40) (fun _ h9 => h9) kt_F12 dX0_evaluate_143 ?_
        refine lv_iload hx hb dX0_evaluate_146 (lv_at hl 0 rfl) ?_
        obtain ⟨b21, h⟩ := kt_chk_some h
        refine va_iald (f := σ 12) hx hb hK X.1 10 0 (kt_A12 (kt_st_ne rfl)) rfl b21 dX0_evaluate_148 ?_
        refine lv_topi (fun y22 e23 => ?_)
        have h := kt_nm_at e23 h
        obtain ⟨b24, h⟩ := kt_chk_some h
        refine va_iast (f := (kt_st σ 13 ((kt_ix y3)) y18) 12) hx hb hK X.1 X.2.1 X.2.2 10 0 (kt_A12 rfl) rfl b24 dX0_evaluate_149 (fun H locs hP hD hS => ?_)
        have X : kt_X dC dI (kt_W h0 ad d1 (kt_st (kt_st σ 13 ((kt_ix y3)) y18) 12 ((kt_ix y3)) y22)) A s H locs := kt_XA12 hP hD hS
        refine lv_iinc (v := x4 + (-1)) (lv' := [(4, .int (x4 + (-1))), (6, .int y6), (5, .int y3), (0, .ref h0), (1, .int x1)]) hx hb dX0_evaluate_150 hl (k := 4) rfl rfl (by decide) rfl (fun ls hl => ?_)
        refine lv_goto (tgt := 72) hx hb dX0_evaluate_153 (by decide) ?_
        exact ih (x4 + (-1)) (kt_st (kt_st σ 13 ((kt_ix y3)) y18) 12 ((kt_ix y3)) y22) r h H locs X ls (lv_sub hl [3, 4, 0] rfl) kE
set_option maxHeartbeats 4000000 in
set_option maxRecDepth 100000 in
theorem wl_k_evaluate_23 {p : Program} {l : Launch} {e : Env} {R : Room} {s : State} {m : MethodId} {args : Array Value} {below : List Frame} {meth : Method} {c : Code} {Q : State → Prop} {dC : Nat → ClassId} {dI : Nat → Nat → Nat} {d1 d2 : ClassId} {A : Nat → Prop} {h0 : Nat} {ad : Nat → Nat} (K : kt_E RX0 p s m meth c cX0_evaluate 7 (some .int) args) (hK : va_K (dC, dI) vwCl (kt_T d1 d2) s) (hA : ∀ q : Nat, s.heap.size ≤ q → A q) (x1 : Int32) :
    ∀ (n : Nat) (x2 x3 x4 : Int32) (σ : KSt) (r : Int32 × Int32 × Int32 × KSt), k_evaluate_23 x1 n x2 x3 x4 σ = some r → ∀ (H : Heap) (locs : List Loc), kt_X dC dI (kt_W h0 ad d1 σ) A s H locs → ∀ (ls : Array Slot), lv_has ls 7 [(0, .ref h0), (1, .int x1), (2, .int x2), (3, .int x3), (4, .int x4)] → (∀ (H : Heap) (locs : List Loc), kt_X dC dI (kt_W h0 ad d1 r.2.2.2) A s H locs → ∀ (ls : Array Slot), lv_has ls 7 [(0, .ref h0), (1, .int x1), (2, .int r.1), (3, .int r.2.1), (4, .int r.2.2.1)] → W p l e R s m args below meth c H locs 0 0 Q (F0 m 67 ls [])) → W p l e R s m args below meth c H locs 0 0 Q (F0 m 23 ls []) := by
  obtain ⟨hx, hb, hml, hown, hts, hr, hlocks⟩ := id K
  intro n
  induction n with
  | zero =>
    intro _ _ _ _ r h
    cases h
  | succ n ih =>
    intro x2 x3 x4 σ r h H locs X ls hl kE
    rw [k_evaluate_23] at h
    refine lv_iload hx hb dX0_evaluate_23 (lv_at hl 4 rfl) ?_
    refine lv_bipush (v := 17) hx hb dX0_evaluate_25 (by decide) ?_
    refine lv_icmp_ge (tgt := 67) hx hb dX0_evaluate_27 (by decide) (fun c1 => ?_) (fun c1 => ?_)
    · have h := kt_ift c1 h
      cases h
      exact kE H locs X ls (lv_sub hl [0, 1, 2, 3, 4] rfl)
    · have h := kt_iff c1 h
      refine lv_aload_n hx hb dX0_evaluate_30 rfl (lv_at hl 0 rfl) ?_
      refine va_get (D := (dC, dI)) (ci := 0) (v := .ref (ad 12)) (C := RX0) (T := TX0) (N := 22) hx hb hts in_X0 hown hK X.1 0 kt_W0 rfl 12 (by decide) (hts _ q40) (fun _ h9 => h9) kt_F12 dX0_evaluate_31 ?_
      refine lv_aload_n hx hb dX0_evaluate_34 rfl (lv_at hl 0 rfl) ?_
      refine va_get (D := (dC, dI)) (ci := 0) (v := .ref (ad 12)) (C := RX0) (T := TX0) (N := 22) hx hb hts in_X0 hown hK X.1 0 kt_W0 rfl 12 (by decide) (hts _ q40) (fun _ h9 => h9) kt_F12 dX0_evaluate_35 ?_
      refine lv_iload_n hx hb dX0_evaluate_38 rfl (lv_at hl 3 rfl) ?_
      obtain ⟨b2, h⟩ := kt_chk_some h
      refine va_iald (f := σ 12) hx hb hK X.1 10 0 (kt_A12 (rfl)) rfl b2 dX0_evaluate_39 ?_
      obtain ⟨b3, h⟩ := kt_chk_some h
      refine va_iald (f := σ 12) hx hb hK X.1 10 0 (kt_A12 (rfl)) rfl b3 dX0_evaluate_40 ?_
      refine lv_if_lt (tgt := 67) hx hb dX0_evaluate_41 (by decide) (fun c4 => ?_) (fun c4 => ?_)
      · have h := kt_ift c4 h
        cases h
        exact kE H locs X ls (lv_sub hl [0, 1, 2, 3, 4] rfl)
      · have h := kt_iff c4 h
        refine lv_aload_n hx hb dX0_evaluate_44 rfl (lv_at hl 0 rfl) ?_
        refine va_get (D := (dC, dI)) (ci := 0) (v := .ref (ad 14)) (C := RX0) (T := TX0) (N := 22) hx hb hts in_X0 hown hK X.1 0 kt_W0 rfl 14 (by decide) (hts _ q42) (fun _ h9 => h9) kt_F14 dX0_evaluate_45 ?_
        refine lv_iload_n hx hb dX0_evaluate_48 rfl (lv_at hl 2 rfl) ?_
        refine lv_iload_n hx hb dX0_evaluate_49 rfl (lv_at hl 3 rfl) ?_
        obtain ⟨b5, h⟩ := kt_chk_some h
        refine va_iast (f := σ 14) hx hb hK X.1 X.2.1 X.2.2 12 0 (kt_A14 rfl) rfl b5 dX0_evaluate_50 (fun H locs hP hD hS => ?_)
        have X : kt_X dC dI (kt_W h0 ad d1 (kt_st σ 14 ((kt_ix x2)) x3)) A s H locs := kt_XA14 hP hD hS
        refine lv_iinc (v := x2 + 1) (lv' := [(2, .int (x2 + 1)), (0, .ref h0), (1, .int x1), (3, .int x3), (4, .int x4)]) hx hb dX0_evaluate_51 hl (k := 2) rfl rfl (by decide) rfl (fun ls hl => ?_)
        refine lv_aload_n hx hb dX0_evaluate_54 rfl (lv_at hl 1 rfl) ?_
        refine va_get (D := (dC, dI)) (ci := 0) (v := .ref (ad 12)) (C := RX0) (T := TX0) (N := 22) hx hb hts in_X0 hown hK X.1 0 kt_W0 rfl 12 (by decide) (hts _ q40) (fun _ h9 => h9) kt_F12 dX0_evaluate_55 ?_
        refine lv_iload_n hx hb dX0_evaluate_58 rfl (lv_at hl 3 rfl) ?_
        obtain ⟨b6, h⟩ := kt_chk_some h
        refine va_iald (f := σ 12) hx hb hK X.1 10 0 (kt_A12 (kt_st_ne rfl)) rfl b6 dX0_evaluate_59 ?_
        refine lv_topi (fun y7 e8 => ?_)
        have h := kt_nm_at e8 h
        refine lv_istore_n (lv' := [(3, .int y7), (2, .int (x2 + 1)), (0, .ref h0), (1, .int x1), (4, .int x4)]) hx hb dX0_evaluate_60 rfl hl (by decide) rfl (fun ls hl => ?_)
        refine lv_iinc (v := x4 + 1) (lv' := [(4, .int (x4 + 1)), (3, .int y7), (2, .int (x2 + 1)), (0, .ref h0), (1, .int x1)]) hx hb dX0_evaluate_61 hl (k := 4) rfl rfl (by decide) rfl (fun ls hl => ?_)
        refine lv_goto (tgt := 23) hx hb dX0_evaluate_64 (by decide) ?_
        exact ih (x2 + 1) y7 (x4 + 1) (kt_st σ 14 ((kt_ix x2)) x3) r h H locs X ls (lv_sub hl [3, 4, 2, 1, 0] rfl) kE
set_option maxHeartbeats 4000000 in
set_option maxRecDepth 100000 in
/-- KeepTree.evaluate(I)I -/
theorem met_k_evaluate (l : Launch) (dC : Nat → ClassId) (dI : Nat → Nat → Nat) (h0 : Nat) (ad : Nat → Nat) (d1 d2 : ClassId) (N : Nat) (σ : KSt) (x1 : Int32) (a : Int32 × KSt) (h : k_evaluate N σ x1 = some a) : kt_Ci l yX0_evaluate (ws_ yX0_evaluate cX0_evaluate 7 (some .int)) ({ frames := 0, cells := 0, slots := 0, locals := 0 } : Room) h0 [.int x1] dC dI (kt_T d1 d2) (kt_W h0 ad d1) σ a := by
  refine kt_enter (Qc := fun A => kt_Qi a dC dI (kt_T d1 d2) (kt_W h0 ad d1) A) (by decide) (Nat.le_of_ble_eq_true rfl) ?_
  intro p e s m below meth c A ls K hK hA X hl
  have K : kt_E RX0 p s m meth c cX0_evaluate 7 (some .int) _ := K
  obtain ⟨hx, hb, hml, hown, hts, hr, hlocks⟩ := id K
  generalize hs0 : s.heap = H at X ⊢
  generalize hl0 : ([] : List Loc) = locs at X ⊢
  have hl : lv_has ls 7 [(0, .ref h0), (1, .int x1)] := hl
  rw [k_evaluate] at h
  refine lv_aload_n hx hb dX0_evaluate_0 rfl (lv_at hl 0 rfl) ?_
  refine va_get (D := (dC, dI)) (ci := 0) (v := .ref (ad 12)) (C := RX0) (T := TX0) (N := 22) hx hb hts in_X0 hown hK X.1 0 kt_W0 rfl 12 (by decide) (hts _ q40) (fun _ h9 => h9) kt_F12 dX0_evaluate_1 ?_
  refine lv_iload_n hx hb dX0_evaluate_4 rfl (lv_at hl 1 rfl) ?_
  obtain ⟨b1, h⟩ := kt_chk_some h
  refine va_iald (f := σ 12) hx hb hK X.1 10 0 (kt_A12 (rfl)) rfl b1 dX0_evaluate_5 ?_
  refine lv_if_ge (tgt := 16) hx hb dX0_evaluate_6 (by decide) (fun c2 => ?_) (fun c2 => ?_)
  · have h := kt_ift c2 h
    refine lv_iconst (v := 0) hx hb dX0_evaluate_16 (by decide) ?_
    refine lv_istore_n (lv' := [(2, .int 0), (0, .ref h0), (1, .int x1)]) hx hb dX0_evaluate_17 rfl hl (by decide) rfl (fun ls hl => ?_)
    refine lv_iload_n hx hb dX0_evaluate_18 rfl (lv_at hl 2 rfl) ?_
    refine lv_istore_n (lv' := [(3, .int x1), (2, .int 0), (0, .ref h0), (1, .int x1)]) hx hb dX0_evaluate_19 rfl hl (by decide) rfl (fun ls hl => ?_)
    refine lv_iconst (v := 0) hx hb dX0_evaluate_20 (by decide) ?_
    refine lv_istore (lv' := [(4, .int 0), (3, .int x1), (2, .int 0), (0, .ref h0), (1, .int x1)]) hx hb dX0_evaluate_21 hl (by decide) rfl (fun ls hl => ?_)
    obtain ⟨a3, e4, h⟩ := kt_bnd h
    refine wl_k_evaluate_23 K hK hA x1 N 0 x1 0 σ a3 e4 H locs X ls (lv_sub hl [3, 4, 2, 1, 0] rfl) (fun H locs X ls hl => ?_)
    refine lv_iload_n hx hb dX0_evaluate_67 rfl (lv_at hl 2 rfl) ?_
    refine lv_iconst (v := 1) hx hb dX0_evaluate_68 (by decide) ?_
    refine lv_isub hx hb dX0_evaluate_69 ?_
    refine lv_topi (fun y5 e6 => ?_)
    have h := kt_nm_at e6 h
    refine lv_istore (lv' := [(4, .int y5), (0, .ref h0), (1, .int x1), (2, .int a3.1), (3, .int a3.2.1)]) hx hb dX0_evaluate_70 hl (by decide) rfl (fun ls hl => ?_)
    obtain ⟨a7, e8, h⟩ := kt_bnd h
    refine wl_k_evaluate_72 K hK hA x1 N y5 a3.2.2.2 a7 e8 H locs X ls (lv_sub hl [1, 2, 0] rfl) (fun H locs X ls hl => ?_)
    refine lv_aload_n hx hb dX0_evaluate_156 rfl (lv_at hl 0 rfl) ?_
    refine va_get (D := (dC, dI)) (ci := 0) (v := .ref (ad 13)) (C := RX0) (T := TX0) (N := 22) hx hb hts in_X0 hown hK X.1 0 kt_W0 rfl 13 (by decide) (hts _ q41) (fun _ h9 => h9) kt_F13 dX0_evaluate_157 ?_
    refine lv_iload_n hx hb dX0_evaluate_160 rfl (lv_at hl 1 rfl) ?_
    obtain ⟨b9, h⟩ := kt_chk_some h
    refine va_iald (f := a7.2 13) hx hb hK X.1 11 0 (kt_A13 (rfl)) rfl b9 dX0_evaluate_161 ?_
    exact kt_iret (v := a7.2 13 (kt_ix x1)) (WS := kt_W h0 ad d1) (σ := a7.2) K hK X h dX0_evaluate_162
  · have h := kt_iff c2 h
    refine lv_aload_n hx hb dX0_evaluate_9 rfl (lv_at hl 0 rfl) ?_
    refine va_get (D := (dC, dI)) (ci := 0) (v := .ref (ad 13)) (C := RX0) (T := TX0) (N := 22) hx hb hts in_X0 hown hK X.1 0 kt_W0 rfl 13 (by decide) (hts _ q41) (fun _ h9 => h9) kt_F13 dX0_evaluate_10 ?_
    refine lv_iload_n hx hb dX0_evaluate_13 rfl (lv_at hl 1 rfl) ?_
    obtain ⟨b10, h⟩ := kt_chk_some h
    refine va_iald (f := σ 13) hx hb hK X.1 11 0 (kt_A13 (rfl)) rfl b10 dX0_evaluate_14 ?_
    exact kt_iret (v := σ 13 (kt_ix x1)) (WS := kt_W h0 ad d1) (σ := σ) K hK X h dX0_evaluate_15
end
section
set_option maxHeartbeats 4000000 in
set_option maxRecDepth 100000 in
theorem wl_k_findSemi_9 {p : Program} {l : Launch} {e : Env} {R : Room} {s : State} {m : MethodId} {args : Array Value} {below : List Frame} {meth : Method} {c : Code} {Q : State → Prop} {dC : Nat → ClassId} {dI : Nat → Nat → Nat} {d1 d2 : ClassId} {A : Nat → Prop} {h0 : Nat} {ad : Nat → Nat} (K : kt_E RX0 p s m meth c cX0_findSemi 5 none args) (hK : va_K (dC, dI) vwCl (kt_T d1 d2) s) (hA : ∀ q : Nat, s.heap.size ≤ q → A q) (hRf : 1 ≤ R.frames) (hRl : 26 ≤ R.locals) (N : Nat) (x1 x2 : Int32) :
    ∀ (n : Nat) (x3 : Int32) (σ : KSt) (r : Int32 × KSt), k_findSemi_9 N x1 x2 n x3 σ = some r → ∀ (H : Heap) (locs : List Loc), kt_X dC dI (kt_W h0 ad d1 σ) A s H locs → ∀ (ls : Array Slot), lv_has ls 5 [(0, .ref h0), (1, .int x1), (2, .int x2), (3, .int x3)] → (∀ (H : Heap) (locs : List Loc), kt_X dC dI (kt_W h0 ad d1 r.2) A s H locs → ∀ (ls : Array Slot), lv_has ls 5 [(0, .ref h0), (1, .int x1), (2, .int x2), (3, .int r.1)] → W p l e R s m args below meth c H locs 0 0 Q (F0 m 77 ls [])) → W p l e R s m args below meth c H locs 0 0 Q (F0 m 9 ls []) := by
  obtain ⟨hx, hb, hml, hown, hts, hr, hlocks⟩ := id K
  intro n
  induction n with
  | zero =>
    intro _ _ r h
    cases h
  | succ n ih =>
    intro x3 σ r h H locs X ls hl kE
    rw [k_findSemi_9] at h
    refine lv_iload_n hx hb dX0_findSemi_9 rfl (lv_at hl 3 rfl) ?_
    refine lv_aload_n hx hb dX0_findSemi_10 rfl (lv_at hl 0 rfl) ?_
    refine va_get (D := (dC, dI)) (ci := 0) (v := .int (σ 4 0)) (C := RX0) (T := TX0) (N := 22) hx hb hts in_X0 hown hK X.1 0 kt_W0 rfl 4 (by decide) (hts _ q32) (fun _ h9 => h9) (kt_F4 (rfl)) dX0_findSemi_11 ?_
    refine lv_icmp_ge (tgt := 77) hx hb dX0_findSemi_14 (by decide) (fun c1 => ?_) (fun c1 => ?_)
    · have h := kt_ift c1 h
      cases h
      exact kE H locs X ls (lv_sub hl [0, 1, 2, 3] rfl)
    · have h := kt_iff c1 h
      refine lv_aload_n hx hb dX0_findSemi_17 rfl (lv_at hl 0 rfl) ?_
      refine va_get (D := (dC, dI)) (ci := 0) (v := .ref (ad 1)) (C := RX0) (T := TX0) (N := 22) hx hb hts in_X0 hown hK X.1 0 kt_W0 rfl 1 (by decide) (hts _ q29) (fun _ h9 => h9) kt_F1 dX0_findSemi_18 ?_
      refine lv_aload_n hx hb dX0_findSemi_21 rfl (lv_at hl 0 rfl) ?_
      refine va_get (D := (dC, dI)) (ci := 0) (v := .ref (ad 6)) (C := RX0) (T := TX0) (N := 22) hx hb hts in_X0 hown hK X.1 0 kt_W0 rfl 6 (by decide) (hts _ q34) (fun _ h9 => h9) kt_F6 dX0_findSemi_22 ?_
      refine lv_iload_n hx hb dX0_findSemi_25 rfl (lv_at hl 3 rfl) ?_
      obtain ⟨b2, h⟩ := kt_chk_some h
      refine va_iald (f := σ 6) hx hb hK X.1 4 0 (kt_A6 (rfl)) rfl b2 dX0_findSemi_26 ?_
      obtain ⟨b3, h⟩ := kt_chk_some h
      refine va_iald (f := σ 1) hx hb hK X.1 2 0 (kt_A1 (rfl)) rfl b3 dX0_findSemi_27 ?_
      refine lv_iload_n hx hb dX0_findSemi_28 rfl (lv_at hl 2 rfl) ?_
      refine lv_iushr (v := kt_ushr (σ 1 (kt_ix (σ 6 (kt_ix x3)))) x2) hx hb dX0_findSemi_29 rfl ?_
      refine lv_iconst (v := 1) hx hb dX0_findSemi_30 (by decide) ?_
      refine lv_iand hx hb dX0_findSemi_31 ?_
      refine lv_if_eq (tgt := 71) hx hb dX0_findSemi_32 (by decide) (fun c4 => ?_) (fun c4 => ?_)
      · have h := kt_ift c4 h
        refine lv_iinc (v := x3 + 1) (lv' := [(3, .int (x3 + 1)), (0, .ref h0), (1, .int x1), (2, .int x2)]) hx hb dX0_findSemi_71 hl (k := 3) rfl rfl (by decide) rfl (fun ls hl => ?_)
        refine lv_goto (tgt := 9) hx hb dX0_findSemi_74 (by decide) ?_
        exact ih (x3 + 1) σ r h H locs X ls (lv_sub hl [1, 2, 3, 0] rfl) kE
      · have h := kt_iff c4 h
        refine lv_aload_n hx hb dX0_findSemi_35 rfl (lv_at hl 0 rfl) ?_
        refine lv_iload_n hx hb dX0_findSemi_36 rfl (lv_at hl 3 rfl) ?_
        obtain ⟨a5, e6, h⟩ := kt_bnd h
        refine kt_calli (WS := kt_W h0 ad d1) (σ := σ) (As := [.int x3]) (rest := []) K hK hA (met_k_evaluate l dC dI h0 ad d1 d2 N σ x3 a5 e6) (cwV 1 hts (lw_V q138 q140 qs5 q18 q141) rfl rfl rfl (by decide +kernel) ⟨Nat.le_trans (Nat.le_of_ble_eq_true rfl) hRf, Nat.le_trans (Nat.le_of_ble_eq_true rfl) hRl⟩) (va_recv hK X.1 (ci := 0) (q0 := 0) rfl kt_W0) rfl hl.1 rfl (Nat.le_of_ble_eq_true rfl) dX0_findSemi_37 X (fun H locs X => ?_)
        refine lv_istore (lv' := [(4, .int a5.1), (0, .ref h0), (1, .int x1), (2, .int x2), (3, .int x3)]) hx hb dX0_findSemi_40 hl (by decide) rfl (fun ls hl => ?_)
        refine lv_aload_n hx hb dX0_findSemi_42 rfl (lv_at hl 1 rfl) ?_
        refine va_get (D := (dC, dI)) (ci := 0) (v := .ref (ad 10)) (C := RX0) (T := TX0) (N := 22) hx hb hts in_X0 hown hK X.1 0 kt_W0 rfl 10 (by decide) (hts _ q38) (fun _ h9 => h9) kt_F10 dX0_findSemi_43 ?_
        refine lv_iload hx hb dX0_findSemi_46 (lv_at hl 0 rfl) ?_
        obtain ⟨b7, h⟩ := kt_chk_some h
        refine va_iald (f := a5.2 10) hx hb hK X.1 8 0 (kt_A10 (rfl)) rfl b7 dX0_findSemi_48 ?_
        refine lv_aload_n hx hb dX0_findSemi_49 rfl (lv_at hl 1 rfl) ?_
        refine va_get (D := (dC, dI)) (ci := 0) (v := .ref (ad 10)) (C := RX0) (T := TX0) (N := 22) hx hb hts in_X0 hown hK X.1 0 kt_W0 rfl 10 (by decide) (hts _ q38) (fun _ h9 => h9) kt_F10 dX0_findSemi_50 ?_
        refine lv_iload_n hx hb dX0_findSemi_53 rfl (lv_at hl 2 rfl) ?_
        obtain ⟨b8, h⟩ := kt_chk_some h
        refine va_iald (f := a5.2 10) hx hb hK X.1 8 0 (kt_A10 (rfl)) rfl b8 dX0_findSemi_54 ?_
        refine lv_icmp_ge (tgt := 71) hx hb dX0_findSemi_55 (by decide) (fun c9 => ?_) (fun c9 => ?_)
        · have h := kt_ift c9 h
          refine lv_iinc (v := x3 + 1) (lv' := [(3, .int (x3 + 1)), (4, .int a5.1), (0, .ref h0), (1, .int x1), (2, .int x2)]) hx hb dX0_findSemi_71 hl (k := 4) rfl rfl (by decide) rfl (fun ls hl => ?_)
          refine lv_goto (tgt := 9) hx hb dX0_findSemi_74 (by decide) ?_
          exact ih (x3 + 1) a5.2 r h H locs X ls (lv_sub hl [2, 3, 4, 0] rfl) kE
        · have h := kt_iff c9 h
          refine lv_aload_n hx hb dX0_findSemi_58 rfl (lv_at hl 1 rfl) ?_
          refine va_get (D := (dC, dI)) (ci := 0) (v := .ref (ad 10)) (C := RX0) (T := TX0) (N := 22) hx hb hts in_X0 hown hK X.1 0 kt_W0 rfl 10 (by decide) (hts _ q38) (fun _ h9 => h9) kt_F10 dX0_findSemi_59 ?_
          refine lv_iload_n hx hb dX0_findSemi_62 rfl (lv_at hl 2 rfl) ?_
          refine lv_aload_n hx hb dX0_findSemi_63 rfl (lv_at hl 1 rfl) ?_
          refine va_get (D := (dC, dI)) (ci := 0) (v := .ref (ad 10)) (C := RX0) (T := TX0) (N := 22) hx hb hts in_X0 hown hK X.1 0 kt_W0 rfl 10 (by decide) (hts _ q38) (fun _ h9 => h9) kt_F10 dX0_findSemi_64 ?_
          refine lv_iload hx hb dX0_findSemi_67 (lv_at hl 0 rfl) ?_
          obtain ⟨b10, h⟩ := kt_chk_some h
          refine va_iald (f := a5.2 10) hx hb hK X.1 8 0 (kt_A10 (rfl)) rfl b10 dX0_findSemi_69 ?_
          refine lv_topi (fun y11 e12 => ?_)
          have h := kt_nm_at e12 h
          obtain ⟨b13, h⟩ := kt_chk_some h
          refine va_iast (f := a5.2 10) hx hb hK X.1 X.2.1 X.2.2 8 0 (kt_A10 rfl) rfl b13 dX0_findSemi_70 (fun H locs hP hD hS => ?_)
          have X : kt_X dC dI (kt_W h0 ad d1 (kt_st a5.2 10 ((kt_ix x1)) y11)) A s H locs := kt_XA10 hP hD hS
          refine lv_iinc (v := x3 + 1) (lv' := [(3, .int (x3 + 1)), (4, .int a5.1), (0, .ref h0), (1, .int x1), (2, .int x2)]) hx hb dX0_findSemi_71 hl (k := 4) rfl rfl (by decide) rfl (fun ls hl => ?_)
          refine lv_goto (tgt := 9) hx hb dX0_findSemi_74 (by decide) ?_
          exact ih (x3 + 1) (kt_st a5.2 10 ((kt_ix x1)) y11) r h H locs X ls (lv_sub hl [2, 3, 4, 0] rfl) kE
set_option maxHeartbeats 4000000 in
set_option maxRecDepth 100000 in
/-- KeepTree.findSemi(I)V -/
theorem met_k_findSemi (l : Launch) (dC : Nat → ClassId) (dI : Nat → Nat → Nat) (h0 : Nat) (ad : Nat → Nat) (d1 d2 : ClassId) (N : Nat) (σ : KSt) (x1 : Int32) (a : KSt) (h : k_findSemi N σ x1 = some a) : kt_Cv l yX0_findSemi (ws_ yX0_findSemi cX0_findSemi 5 none) ({ frames := 1, cells := 0, slots := 0, locals := 26 } : Room) h0 [.int x1] dC dI (kt_T d1 d2) (kt_W h0 ad d1) σ a := by
  refine kt_enter (Qc := fun A => kt_Qv a dC dI (kt_T d1 d2) (kt_W h0 ad d1) A) (by decide) (Nat.le_of_ble_eq_true rfl) ?_
  intro p e s m below meth c A ls K hK hA X hl
  have K : kt_E RX0 p s m meth c cX0_findSemi 5 none _ := K
  obtain ⟨hx, hb, hml, hown, hts, hr, hlocks⟩ := id K
  generalize hs0 : s.heap = H at X ⊢
  generalize hl0 : ([] : List Loc) = locs at X ⊢
  have hRf : 1 ≤ (({ frames := 1, cells := 0, slots := 0, locals := 26 } : Room)).frames := Nat.le_refl _
  have hRl : 26 ≤ (({ frames := 1, cells := 0, slots := 0, locals := 26 } : Room)).locals := Nat.le_refl _
  have hl : lv_has ls 5 [(0, .ref h0), (1, .int x1)] := hl
  rw [k_findSemi] at h
  refine lv_aload_n hx hb dX0_findSemi_0 rfl (lv_at hl 0 rfl) ?_
  refine va_get (D := (dC, dI)) (ci := 0) (v := .ref (ad 6)) (C := RX0) (T := TX0) (N := 22) hx hb hts in_X0 hown hK X.1 0 kt_W0 rfl 6 (by decide) (hts _ q34) (fun _ h9 => h9) kt_F6 dX0_findSemi_1 ?_
  refine lv_iload_n hx hb dX0_findSemi_4 rfl (lv_at hl 1 rfl) ?_
  obtain ⟨b1, h⟩ := kt_chk_some h
  refine va_iald (f := σ 6) hx hb hK X.1 4 0 (kt_A6 (rfl)) rfl b1 dX0_findSemi_5 ?_
  refine lv_topi (fun y2 e3 => ?_)
  have h := kt_nm_at e3 h
  refine lv_istore_n (lv' := [(2, .int y2), (0, .ref h0), (1, .int x1)]) hx hb dX0_findSemi_6 rfl hl (by decide) rfl (fun ls hl => ?_)
  refine lv_iconst (v := 0) hx hb dX0_findSemi_7 (by decide) ?_
  refine lv_istore_n (lv' := [(3, .int 0), (2, .int y2), (0, .ref h0), (1, .int x1)]) hx hb dX0_findSemi_8 rfl hl (by decide) rfl (fun ls hl => ?_)
  obtain ⟨a4, e5, h⟩ := kt_bnd h
  refine wl_k_findSemi_9 K hK hA hRf hRl N x1 y2 N 0 σ a4 e5 H locs X ls (lv_sub hl [2, 3, 1, 0] rfl) (fun H locs X ls hl => ?_)
  exact kt_vret (WS := kt_W h0 ad d1) (σ := a4.2) K hK X h dX0_findSemi_77
set_option maxHeartbeats 4000000 in
set_option maxRecDepth 100000 in
theorem wl_k_emptyBucket_9 {p : Program} {l : Launch} {e : Env} {R : Room} {s : State} {m : MethodId} {args : Array Value} {below : List Frame} {meth : Method} {c : Code} {Q : State → Prop} {dC : Nat → ClassId} {dI : Nat → Nat → Nat} {d1 d2 : ClassId} {A : Nat → Prop} {h0 : Nat} {ad : Nat → Nat} (K : kt_E RX0 p s m meth c cX0_emptyBucket 5 none args) (hK : va_K (dC, dI) vwCl (kt_T d1 d2) s) (hA : ∀ q : Nat, s.heap.size ≤ q → A q) (hRf : 1 ≤ R.frames) (hRl : 26 ≤ R.locals) (N : Nat) (x1 : Int32) :
    ∀ (n : Nat) (x2 x3 : Int32) (σ : KSt) (r : Int32 × Int32 × KSt), k_emptyBucket_9 N x1 n x2 x3 σ = some r → ∀ (H : Heap) (locs : List Loc), kt_X dC dI (kt_W h0 ad d1 σ) A s H locs → ∀ (ls : Array Slot), lv_has ls 5 [(0, .ref h0), (1, .int x1), (2, .int x2), (3, .int x3)] → (∀ (H : Heap) (locs : List Loc), kt_X dC dI (kt_W h0 ad d1 r.2.2) A s H locs → ∀ (ls : Array Slot), lv_has ls 5 [(0, .ref h0), (1, .int x1), (2, .int r.1), (3, .int r.2.1)] → W p l e R s m args below meth c H locs 0 0 Q (F0 m 67 ls [])) → W p l e R s m args below meth c H locs 0 0 Q (F0 m 9 ls []) := by
  obtain ⟨hx, hb, hml, hown, hts, hr, hlocks⟩ := id K
  intro n
  induction n with
  | zero =>
    intro _ _ _ r h
    cases h
  | succ n ih =>
    intro x2 x3 σ r h H locs X ls hl kE
    rw [k_emptyBucket_9] at h
    refine lv_iload_n hx hb dX0_emptyBucket_9 rfl (lv_at hl 3 rfl) ?_
    refine lv_bipush (v := 17) hx hb dX0_emptyBucket_10 (by decide) ?_
    refine lv_icmp_ge (tgt := 67) hx hb dX0_emptyBucket_12 (by decide) (fun c1 => ?_) (fun c1 => ?_)
    · have h := kt_ift c1 h
      cases h
      exact kE H locs X ls (lv_sub hl [0, 1, 2, 3] rfl)
    · have h := kt_iff c1 h
      refine lv_iload_n hx hb dX0_emptyBucket_15 rfl (lv_at hl 2 rfl) ?_
      refine lv_if_lt (tgt := 67) hx hb dX0_emptyBucket_16 (by decide) (fun c2 => ?_) (fun c2 => ?_)
      · have h := kt_ift c2 h
        cases h
        exact kE H locs X ls (lv_sub hl [0, 1, 2, 3] rfl)
      · have h := kt_iff c2 h
        refine lv_aload_n hx hb dX0_emptyBucket_19 rfl (lv_at hl 0 rfl) ?_
        refine lv_iload_n hx hb dX0_emptyBucket_20 rfl (lv_at hl 2 rfl) ?_
        obtain ⟨a3, e4, h⟩ := kt_bnd h
        refine kt_calli (WS := kt_W h0 ad d1) (σ := σ) (As := [.int x2]) (rest := []) K hK hA (met_k_evaluate l dC dI h0 ad d1 d2 N σ x2 a3 e4) (cwV 1 hts (lw_V q138 q140 qs5 q18 q141) rfl rfl rfl (by decide +kernel) ⟨Nat.le_trans (Nat.le_of_ble_eq_true rfl) hRf, Nat.le_trans (Nat.le_of_ble_eq_true rfl) hRl⟩) (va_recv hK X.1 (ci := 0) (q0 := 0) rfl kt_W0) rfl hl.1 rfl (Nat.le_of_ble_eq_true rfl) dX0_emptyBucket_21 X (fun H locs X => ?_)
        refine lv_istore (lv' := [(4, .int a3.1), (0, .ref h0), (1, .int x1), (2, .int x2), (3, .int x3)]) hx hb dX0_emptyBucket_24 hl (by decide) rfl (fun ls hl => ?_)
        refine lv_aload_n hx hb dX0_emptyBucket_26 rfl (lv_at hl 1 rfl) ?_
        refine va_get (D := (dC, dI)) (ci := 0) (v := .ref (ad 11)) (C := RX0) (T := TX0) (N := 22) hx hb hts in_X0 hown hK X.1 0 kt_W0 rfl 11 (by decide) (hts _ q39) (fun _ h9 => h9) kt_F11 dX0_emptyBucket_27 ?_
        refine lv_iload_n hx hb dX0_emptyBucket_30 rfl (lv_at hl 3 rfl) ?_
        refine lv_aload_n hx hb dX0_emptyBucket_31 rfl (lv_at hl 1 rfl) ?_
        refine va_get (D := (dC, dI)) (ci := 0) (v := .ref (ad 10)) (C := RX0) (T := TX0) (N := 22) hx hb hts in_X0 hown hK X.1 0 kt_W0 rfl 10 (by decide) (hts _ q38) (fun _ h9 => h9) kt_F10 dX0_emptyBucket_32 ?_
        refine lv_iload hx hb dX0_emptyBucket_35 (lv_at hl 0 rfl) ?_
        obtain ⟨b5, h⟩ := kt_chk_some h
        refine va_iald (f := a3.2 10) hx hb hK X.1 8 0 (kt_A10 (rfl)) rfl b5 dX0_emptyBucket_37 ?_
        refine lv_aload_n hx hb dX0_emptyBucket_38 rfl (lv_at hl 1 rfl) ?_
        refine va_get (D := (dC, dI)) (ci := 0) (v := .ref (ad 10)) (C := RX0) (T := TX0) (N := 22) hx hb hts in_X0 hown hK X.1 0 kt_W0 rfl 10 (by decide) (hts _ q38) (fun _ h9 => h9) kt_F10 dX0_emptyBucket_39 ?_
        refine lv_iload_n hx hb dX0_emptyBucket_42 rfl (lv_at hl 3 rfl) ?_
        obtain ⟨b6, h⟩ := kt_chk_some h
        refine va_iald (f := a3.2 10) hx hb hK X.1 8 0 (kt_A10 (rfl)) rfl b6 dX0_emptyBucket_43 ?_
        refine lv_icmp_ge (tgt := 52) hx hb dX0_emptyBucket_44 (by decide) (fun c7 => ?_) (fun c7 => ?_)
        · have h := kt_ift c7 h
          refine lv_iload_n hx hb dX0_emptyBucket_52 rfl (lv_at hl 2 rfl) ?_
          obtain ⟨b8, h⟩ := kt_chk_some h
          refine va_iast (f := a3.2 11) hx hb hK X.1 X.2.1 X.2.2 9 0 (kt_A11 rfl) rfl b8 dX0_emptyBucket_53 (fun H locs hP hD hS => ?_)
          have X : kt_X dC dI (kt_W h0 ad d1 (kt_st a3.2 11 ((kt_ix x2)) x1)) A s H locs := kt_XA11 hP hD hS
          refine lv_aload_n hx hb dX0_emptyBucket_54 rfl (lv_at hl 1 rfl) ?_
          refine va_get (D := (dC, dI)) (ci := 0) (v := .ref (ad 16)) (C := RX0) (T := TX0) (N := 22) hx hb hts in_X0 hown hK X.1 0 kt_W0 rfl 16 (by decide) (hts _ q44) (fun _ h9 => h9) kt_F16 dX0_emptyBucket_55 ?_
          refine lv_iload_n hx hb dX0_emptyBucket_58 rfl (lv_at hl 3 rfl) ?_
          obtain ⟨b9, h⟩ := kt_chk_some h
          refine va_iald (f := a3.2 16) hx hb hK X.1 14 0 (kt_A16 (kt_st_ne rfl)) rfl b9 dX0_emptyBucket_59 ?_
          refine lv_topi (fun y10 e11 => ?_)
          have h := kt_nm_at e11 h
          refine lv_istore_n (lv' := [(2, .int y10), (4, .int a3.1), (0, .ref h0), (1, .int x1), (3, .int x3)]) hx hb dX0_emptyBucket_60 rfl hl (by decide) rfl (fun ls hl => ?_)
          refine lv_iinc (v := x3 + 1) (lv' := [(3, .int (x3 + 1)), (2, .int y10), (4, .int a3.1), (0, .ref h0), (1, .int x1)]) hx hb dX0_emptyBucket_61 hl (k := 4) rfl rfl (by decide) rfl (fun ls hl => ?_)
          refine lv_goto (tgt := 9) hx hb dX0_emptyBucket_64 (by decide) ?_
          exact ih y10 (x3 + 1) (kt_st a3.2 11 ((kt_ix x2)) x1) r h H locs X ls (lv_sub hl [3, 4, 1, 0] rfl) kE
        · have h := kt_iff c7 h
          refine lv_iload hx hb dX0_emptyBucket_47 (lv_at hl 0 rfl) ?_
          refine lv_goto (tgt := 53) hx hb dX0_emptyBucket_49 (by decide) ?_
          obtain ⟨b12, h⟩ := kt_chk_some h
          refine va_iast (f := a3.2 11) hx hb hK X.1 X.2.1 X.2.2 9 0 (kt_A11 rfl) rfl b12 dX0_emptyBucket_53 (fun H locs hP hD hS => ?_)
          have X : kt_X dC dI (kt_W h0 ad d1 (kt_st a3.2 11 ((kt_ix x2)) a3.1)) A s H locs := kt_XA11 hP hD hS
          refine lv_aload_n hx hb dX0_emptyBucket_54 rfl (lv_at hl 1 rfl) ?_
          refine va_get (D := (dC, dI)) (ci := 0) (v := .ref (ad 16)) (C := RX0) (T := TX0) (N := 22) hx hb hts in_X0 hown hK X.1 0 kt_W0 rfl 16 (by decide) (hts _ q44) (fun _ h9 => h9) kt_F16 dX0_emptyBucket_55 ?_
          refine lv_iload_n hx hb dX0_emptyBucket_58 rfl (lv_at hl 3 rfl) ?_
          obtain ⟨b13, h⟩ := kt_chk_some h
          refine va_iald (f := a3.2 16) hx hb hK X.1 14 0 (kt_A16 (kt_st_ne rfl)) rfl b13 dX0_emptyBucket_59 ?_
          refine lv_topi (fun y14 e15 => ?_)
          have h := kt_nm_at e15 h
          refine lv_istore_n (lv' := [(2, .int y14), (4, .int a3.1), (0, .ref h0), (1, .int x1), (3, .int x3)]) hx hb dX0_emptyBucket_60 rfl hl (by decide) rfl (fun ls hl => ?_)
          refine lv_iinc (v := x3 + 1) (lv' := [(3, .int (x3 + 1)), (2, .int y14), (4, .int a3.1), (0, .ref h0), (1, .int x1)]) hx hb dX0_emptyBucket_61 hl (k := 4) rfl rfl (by decide) rfl (fun ls hl => ?_)
          refine lv_goto (tgt := 9) hx hb dX0_emptyBucket_64 (by decide) ?_
          exact ih y14 (x3 + 1) (kt_st a3.2 11 ((kt_ix x2)) a3.1) r h H locs X ls (lv_sub hl [3, 4, 1, 0] rfl) kE
set_option maxHeartbeats 4000000 in
set_option maxRecDepth 100000 in
/-- KeepTree.emptyBucket(I)V -/
theorem met_k_emptyBucket (l : Launch) (dC : Nat → ClassId) (dI : Nat → Nat → Nat) (h0 : Nat) (ad : Nat → Nat) (d1 d2 : ClassId) (N : Nat) (σ : KSt) (x1 : Int32) (a : KSt) (h : k_emptyBucket N σ x1 = some a) : kt_Cv l yX0_emptyBucket (ws_ yX0_emptyBucket cX0_emptyBucket 5 none) ({ frames := 1, cells := 0, slots := 0, locals := 26 } : Room) h0 [.int x1] dC dI (kt_T d1 d2) (kt_W h0 ad d1) σ a := by
  refine kt_enter (Qc := fun A => kt_Qv a dC dI (kt_T d1 d2) (kt_W h0 ad d1) A) (by decide) (Nat.le_of_ble_eq_true rfl) ?_
  intro p e s m below meth c A ls K hK hA X hl
  have K : kt_E RX0 p s m meth c cX0_emptyBucket 5 none _ := K
  obtain ⟨hx, hb, hml, hown, hts, hr, hlocks⟩ := id K
  generalize hs0 : s.heap = H at X ⊢
  generalize hl0 : ([] : List Loc) = locs at X ⊢
  have hRf : 1 ≤ (({ frames := 1, cells := 0, slots := 0, locals := 26 } : Room)).frames := Nat.le_refl _
  have hRl : 26 ≤ (({ frames := 1, cells := 0, slots := 0, locals := 26 } : Room)).locals := Nat.le_refl _
  have hl : lv_has ls 5 [(0, .ref h0), (1, .int x1)] := hl
  rw [k_emptyBucket] at h
  refine lv_aload_n hx hb dX0_emptyBucket_0 rfl (lv_at hl 0 rfl) ?_
  refine va_get (D := (dC, dI)) (ci := 0) (v := .ref (ad 15)) (C := RX0) (T := TX0) (N := 22) hx hb hts in_X0 hown hK X.1 0 kt_W0 rfl 15 (by decide) (hts _ q43) (fun _ h9 => h9) kt_F15 dX0_emptyBucket_1 ?_
  refine lv_iload_n hx hb dX0_emptyBucket_4 rfl (lv_at hl 1 rfl) ?_
  obtain ⟨b1, h⟩ := kt_chk_some h
  refine va_iald (f := σ 15) hx hb hK X.1 13 0 (kt_A15 (rfl)) rfl b1 dX0_emptyBucket_5 ?_
  refine lv_topi (fun y2 e3 => ?_)
  have h := kt_nm_at e3 h
  refine lv_istore_n (lv' := [(2, .int y2), (0, .ref h0), (1, .int x1)]) hx hb dX0_emptyBucket_6 rfl hl (by decide) rfl (fun ls hl => ?_)
  refine lv_iconst (v := 0) hx hb dX0_emptyBucket_7 (by decide) ?_
  refine lv_istore_n (lv' := [(3, .int 0), (2, .int y2), (0, .ref h0), (1, .int x1)]) hx hb dX0_emptyBucket_8 rfl hl (by decide) rfl (fun ls hl => ?_)
  obtain ⟨a4, e5, h⟩ := kt_bnd h
  refine wl_k_emptyBucket_9 K hK hA hRf hRl N x1 N y2 0 σ a4 e5 H locs X ls (lv_sub hl [2, 3, 1, 0] rfl) (fun H locs X ls hl => ?_)
  refine lv_aload_n hx hb dX0_emptyBucket_67 rfl (lv_at hl 0 rfl) ?_
  refine va_get (D := (dC, dI)) (ci := 0) (v := .ref (ad 15)) (C := RX0) (T := TX0) (N := 22) hx hb hts in_X0 hown hK X.1 0 kt_W0 rfl 15 (by decide) (hts _ q43) (fun _ h9 => h9) kt_F15 dX0_emptyBucket_68 ?_
  refine lv_iload_n hx hb dX0_emptyBucket_71 rfl (lv_at hl 1 rfl) ?_
  refine lv_iconst (v := (-1)) hx hb dX0_emptyBucket_72 (by decide) ?_
  obtain ⟨b6, h⟩ := kt_chk_some h
  refine va_iast (f := a4.2.2 15) hx hb hK X.1 X.2.1 X.2.2 13 0 (kt_A15 rfl) rfl b6 dX0_emptyBucket_73 (fun H locs hP hD hS => ?_)
  have X : kt_X dC dI (kt_W h0 ad d1 (kt_st a4.2.2 15 ((kt_ix x1)) (-1))) A s H locs := kt_XA15 hP hD hS
  exact kt_vret (WS := kt_W h0 ad d1) (σ := kt_st a4.2.2 15 ((kt_ix x1)) (-1)) K hK X h dX0_emptyBucket_74
set_option maxHeartbeats 4000000 in
set_option maxRecDepth 100000 in
theorem wl_k_findDominators_126 {p : Program} {l : Launch} {e : Env} {R : Room} {s : State} {m : MethodId} {args : Array Value} {below : List Frame} {meth : Method} {c : Code} {Q : State → Prop} {dC : Nat → ClassId} {dI : Nat → Nat → Nat} {d1 d2 : ClassId} {A : Nat → Prop} {h0 : Nat} {ad : Nat → Nat} (K : kt_E RX0 p s m meth c cX0_findDominators 2 none args) (hK : va_K (dC, dI) vwCl (kt_T d1 d2) s) (hA : ∀ q : Nat, s.heap.size ≤ q → A q) :
    ∀ (n : Nat) (x1 : Int32) (σ : KSt) (r : Int32 × KSt), k_findDominators_126 n x1 σ = some r → ∀ (H : Heap) (locs : List Loc), kt_X dC dI (kt_W h0 ad d1 σ) A s H locs → ∀ (ls : Array Slot), lv_has ls 2 [(0, .ref h0), (1, .int x1)] → (∀ (H : Heap) (locs : List Loc), kt_X dC dI (kt_W h0 ad d1 r.2) A s H locs → ∀ (ls : Array Slot), lv_has ls 2 [(0, .ref h0), (1, .int r.1)] → W p l e R s m args below meth c H locs 0 0 Q (F0 m 172 ls [])) → W p l e R s m args below meth c H locs 0 0 Q (F0 m 126 ls []) := by
  obtain ⟨hx, hb, hml, hown, hts, hr, hlocks⟩ := id K
  intro n
  induction n with
  | zero =>
    intro _ _ r h
    cases h
  | succ n ih =>
    intro x1 σ r h H locs X ls hl kE
    rw [k_findDominators_126] at h
    refine lv_iload_n hx hb dX0_findDominators_126 rfl (lv_at hl 1 rfl) ?_
    refine lv_aload_n hx hb dX0_findDominators_127 rfl (lv_at hl 0 rfl) ?_
    refine va_get (D := (dC, dI)) (ci := 0) (v := .int (σ 4 0)) (C := RX0) (T := TX0) (N := 22) hx hb hts in_X0 hown hK X.1 0 kt_W0 rfl 4 (by decide) (hts _ q32) (fun _ h9 => h9) (kt_F4 (rfl)) dX0_findDominators_128 ?_
    refine lv_icmp_ge (tgt := 172) hx hb dX0_findDominators_131 (by decide) (fun c1 => ?_) (fun c1 => ?_)
    · have h := kt_ift c1 h
      cases h
      exact kE H locs X ls (lv_sub hl [0, 1] rfl)
    · have h := kt_iff c1 h
      refine lv_aload_n hx hb dX0_findDominators_134 rfl (lv_at hl 0 rfl) ?_
      refine va_get (D := (dC, dI)) (ci := 0) (v := .ref (ad 11)) (C := RX0) (T := TX0) (N := 22) hx hb hts in_X0 hown hK X.1 0 kt_W0 rfl 11 (by decide) (hts _ q39) (fun _ h9 => h9) kt_F11 dX0_findDominators_135 ?_
      refine lv_iload_n hx hb dX0_findDominators_138 rfl (lv_at hl 1 rfl) ?_
      obtain ⟨b2, h⟩ := kt_chk_some h
      refine va_iald (f := σ 11) hx hb hK X.1 9 0 (kt_A11 (rfl)) rfl b2 dX0_findDominators_139 ?_
      refine lv_aload_n hx hb dX0_findDominators_140 rfl (lv_at hl 0 rfl) ?_
      refine va_get (D := (dC, dI)) (ci := 0) (v := .ref (ad 10)) (C := RX0) (T := TX0) (N := 22) hx hb hts in_X0 hown hK X.1 0 kt_W0 rfl 10 (by decide) (hts _ q38) (fun _ h9 => h9) kt_F10 dX0_findDominators_141 ?_
      refine lv_iload_n hx hb dX0_findDominators_144 rfl (lv_at hl 1 rfl) ?_
      obtain ⟨b3, h⟩ := kt_chk_some h
      refine va_iald (f := σ 10) hx hb hK X.1 8 0 (kt_A10 (rfl)) rfl b3 dX0_findDominators_145 ?_
      refine lv_icmp_eq (tgt := 166) hx hb dX0_findDominators_146 (by decide) (fun c4 => ?_) (fun c4 => ?_)
      · have h := kt_ift c4 h
        refine lv_iinc (v := x1 + 1) (lv' := [(1, .int (x1 + 1)), (0, .ref h0)]) hx hb dX0_findDominators_166 hl (k := 1) rfl rfl (by decide) rfl (fun ls hl => ?_)
        refine lv_goto (tgt := 126) hx hb dX0_findDominators_169 (by decide) ?_
        exact ih (x1 + 1) σ r h H locs X ls (lv_sub hl [1, 0] rfl) kE
      · have h := kt_iff c4 h
        refine lv_aload_n hx hb dX0_findDominators_149 rfl (lv_at hl 0 rfl) ?_
        refine va_get (D := (dC, dI)) (ci := 0) (v := .ref (ad 11)) (C := RX0) (T := TX0) (N := 22) hx hb hts in_X0 hown hK X.1 0 kt_W0 rfl 11 (by decide) (hts _ q39) (fun _ h9 => h9) kt_F11 dX0_findDominators_150 ?_
        refine lv_iload_n hx hb dX0_findDominators_153 rfl (lv_at hl 1 rfl) ?_
        refine lv_aload_n hx hb dX0_findDominators_154 rfl (lv_at hl 0 rfl) ?_
        refine va_get (D := (dC, dI)) (ci := 0) (v := .ref (ad 11)) (C := RX0) (T := TX0) (N := 22) hx hb hts in_X0 hown hK X.1 0 kt_W0 rfl 11 (by decide) (hts _ q39) (fun _ h9 => h9) kt_F11 dX0_findDominators_155 ?_
        refine lv_aload_n hx hb dX0_findDominators_158 rfl (lv_at hl 0 rfl) ?_
        refine va_get (D := (dC, dI)) (ci := 0) (v := .ref (ad 11)) (C := RX0) (T := TX0) (N := 22) hx hb hts in_X0 hown hK X.1 0 kt_W0 rfl 11 (by decide) (hts _ q39) (fun _ h9 => h9) kt_F11 dX0_findDominators_159 ?_
        refine lv_iload_n hx hb dX0_findDominators_162 rfl (lv_at hl 1 rfl) ?_
        obtain ⟨b5, h⟩ := kt_chk_some h
        refine va_iald (f := σ 11) hx hb hK X.1 9 0 (kt_A11 (rfl)) rfl b5 dX0_findDominators_163 ?_
        obtain ⟨b6, h⟩ := kt_chk_some h
        refine va_iald (f := σ 11) hx hb hK X.1 9 0 (kt_A11 (rfl)) rfl b6 dX0_findDominators_164 ?_
        refine lv_topi (fun y7 e8 => ?_)
        have h := kt_nm_at e8 h
        obtain ⟨b9, h⟩ := kt_chk_some h
        refine va_iast (f := σ 11) hx hb hK X.1 X.2.1 X.2.2 9 0 (kt_A11 rfl) rfl b9 dX0_findDominators_165 (fun H locs hP hD hS => ?_)
        have X : kt_X dC dI (kt_W h0 ad d1 (kt_st σ 11 ((kt_ix x1)) y7)) A s H locs := kt_XA11 hP hD hS
        refine lv_iinc (v := x1 + 1) (lv' := [(1, .int (x1 + 1)), (0, .ref h0)]) hx hb dX0_findDominators_166 hl (k := 1) rfl rfl (by decide) rfl (fun ls hl => ?_)
        refine lv_goto (tgt := 126) hx hb dX0_findDominators_169 (by decide) ?_
        exact ih (x1 + 1) (kt_st σ 11 ((kt_ix x1)) y7) r h H locs X ls (lv_sub hl [1, 0] rfl) kE
set_option maxHeartbeats 4000000 in
set_option maxRecDepth 100000 in
theorem wl_k_findDominators_58 {p : Program} {l : Launch} {e : Env} {R : Room} {s : State} {m : MethodId} {args : Array Value} {below : List Frame} {meth : Method} {c : Code} {Q : State → Prop} {dC : Nat → ClassId} {dI : Nat → Nat → Nat} {d1 d2 : ClassId} {A : Nat → Prop} {h0 : Nat} {ad : Nat → Nat} (K : kt_E RX0 p s m meth c cX0_findDominators 2 none args) (hK : va_K (dC, dI) vwCl (kt_T d1 d2) s) (hA : ∀ q : Nat, s.heap.size ≤ q → A q) (hRf : 2 ≤ R.frames) (hRl : 50 ≤ R.locals) (N : Nat) :
    ∀ (n : Nat) (x1 : Int32) (σ : KSt) (r : Int32 × KSt), k_findDominators_58 N n x1 σ = some r → ∀ (H : Heap) (locs : List Loc), kt_X dC dI (kt_W h0 ad d1 σ) A s H locs → ∀ (ls : Array Slot), lv_has ls 2 [(0, .ref h0), (1, .int x1)] → (∀ (H : Heap) (locs : List Loc), kt_X dC dI (kt_W h0 ad d1 r.2) A s H locs → ∀ (ls : Array Slot), lv_has ls 2 [(0, .ref h0), (1, .int r.1)] → W p l e R s m args below meth c H locs 0 0 Q (F0 m 124 ls [])) → W p l e R s m args below meth c H locs 0 0 Q (F0 m 58 ls []) := by
  obtain ⟨hx, hb, hml, hown, hts, hr, hlocks⟩ := id K
  intro n
  induction n with
  | zero =>
    intro _ _ r h
    cases h
  | succ n ih =>
    intro x1 σ r h H locs X ls hl kE
    rw [k_findDominators_58] at h
    refine lv_iload_n hx hb dX0_findDominators_58 rfl (lv_at hl 1 rfl) ?_
    refine lv_if_le (tgt := 124) hx hb dX0_findDominators_59 (by decide) (fun c1 => ?_) (fun c1 => ?_)
    · have h := kt_ift c1 h
      cases h
      exact kE H locs X ls (lv_sub hl [0, 1] rfl)
    · have h := kt_iff c1 h
      refine lv_aload_n hx hb dX0_findDominators_62 rfl (lv_at hl 0 rfl) ?_
      refine lv_iload_n hx hb dX0_findDominators_63 rfl (lv_at hl 1 rfl) ?_
      obtain ⟨a2, e3, h⟩ := kt_bnd h
      refine kt_callv (WS := kt_W h0 ad d1) (σ := σ) (As := [.int x1]) (rest := []) K hK hA (met_k_findSemi l dC dI h0 ad d1 d2 N σ x1 a2 e3) (cwV 1 hts (lw_V q134 q136 qs4 q18 q137) rfl rfl rfl (by decide +kernel) ⟨Nat.le_trans (Nat.le_of_ble_eq_true rfl) hRf, Nat.le_trans (Nat.le_of_ble_eq_true rfl) hRl⟩) (va_recv hK X.1 (ci := 0) (q0 := 0) rfl kt_W0) rfl hl.1 rfl (Nat.le_of_ble_eq_true rfl) dX0_findDominators_64 X (fun H locs X => ?_)
      refine lv_aload_n hx hb dX0_findDominators_67 rfl (lv_at hl 0 rfl) ?_
      refine va_get (D := (dC, dI)) (ci := 0) (v := .ref (ad 16)) (C := RX0) (T := TX0) (N := 22) hx hb hts in_X0 hown hK X.1 0 kt_W0 rfl 16 (by decide) (hts _ q44) (fun _ h9 => h9) kt_F16 dX0_findDominators_68 ?_
      refine lv_iload_n hx hb dX0_findDominators_71 rfl (lv_at hl 1 rfl) ?_
      refine lv_aload_n hx hb dX0_findDominators_72 rfl (lv_at hl 0 rfl) ?_
      refine va_get (D := (dC, dI)) (ci := 0) (v := .ref (ad 15)) (C := RX0) (T := TX0) (N := 22) hx hb hts in_X0 hown hK X.1 0 kt_W0 rfl 15 (by decide) (hts _ q43) (fun _ h9 => h9) kt_F15 dX0_findDominators_73 ?_
      refine lv_aload_n hx hb dX0_findDominators_76 rfl (lv_at hl 0 rfl) ?_
      refine va_get (D := (dC, dI)) (ci := 0) (v := .ref (ad 10)) (C := RX0) (T := TX0) (N := 22) hx hb hts in_X0 hown hK X.1 0 kt_W0 rfl 10 (by decide) (hts _ q38) (fun _ h9 => h9) kt_F10 dX0_findDominators_77 ?_
      refine lv_iload_n hx hb dX0_findDominators_80 rfl (lv_at hl 1 rfl) ?_
      obtain ⟨b4, h⟩ := kt_chk_some h
      refine va_iald (f := a2 10) hx hb hK X.1 8 0 (kt_A10 (rfl)) rfl b4 dX0_findDominators_81 ?_
      obtain ⟨b5, h⟩ := kt_chk_some h
      refine va_iald (f := a2 15) hx hb hK X.1 13 0 (kt_A15 (rfl)) rfl b5 dX0_findDominators_82 ?_
      refine lv_topi (fun y6 e7 => ?_)
      have h := kt_nm_at e7 h
      obtain ⟨b8, h⟩ := kt_chk_some h
      refine va_iast (f := a2 16) hx hb hK X.1 X.2.1 X.2.2 14 0 (kt_A16 rfl) rfl b8 dX0_findDominators_83 (fun H locs hP hD hS => ?_)
      have X : kt_X dC dI (kt_W h0 ad d1 (kt_st a2 16 ((kt_ix x1)) y6)) A s H locs := kt_XA16 hP hD hS
      refine lv_aload_n hx hb dX0_findDominators_84 rfl (lv_at hl 0 rfl) ?_
      refine va_get (D := (dC, dI)) (ci := 0) (v := .ref (ad 15)) (C := RX0) (T := TX0) (N := 22) hx hb hts in_X0 hown hK X.1 0 kt_W0 rfl 15 (by decide) (hts _ q43) (fun _ h9 => h9) kt_F15 dX0_findDominators_85 ?_
      refine lv_aload_n hx hb dX0_findDominators_88 rfl (lv_at hl 0 rfl) ?_
      refine va_get (D := (dC, dI)) (ci := 0) (v := .ref (ad 10)) (C := RX0) (T := TX0) (N := 22) hx hb hts in_X0 hown hK X.1 0 kt_W0 rfl 10 (by decide) (hts _ q38) (fun _ h9 => h9) kt_F10 dX0_findDominators_89 ?_
      refine lv_iload_n hx hb dX0_findDominators_92 rfl (lv_at hl 1 rfl) ?_
      obtain ⟨b9, h⟩ := kt_chk_some h
      refine va_iald (f := a2 10) hx hb hK X.1 8 0 (kt_A10 (kt_st_ne rfl)) rfl b9 dX0_findDominators_93 ?_
      refine lv_iload_n hx hb dX0_findDominators_94 rfl (lv_at hl 1 rfl) ?_
      obtain ⟨b10, h⟩ := kt_chk_some h
      refine va_iast (f := (kt_st a2 16 ((kt_ix x1)) y6) 15) hx hb hK X.1 X.2.1 X.2.2 13 0 (kt_A15 rfl) rfl b10 dX0_findDominators_95 (fun H locs hP hD hS => ?_)
      have X : kt_X dC dI (kt_W h0 ad d1 (kt_st (kt_st a2 16 ((kt_ix x1)) y6) 15 ((kt_ix (a2 10 (kt_ix x1)))) x1)) A s H locs := kt_XA15 hP hD hS
      refine lv_aload_n hx hb dX0_findDominators_96 rfl (lv_at hl 0 rfl) ?_
      refine va_get (D := (dC, dI)) (ci := 0) (v := .ref (ad 12)) (C := RX0) (T := TX0) (N := 22) hx hb hts in_X0 hown hK X.1 0 kt_W0 rfl 12 (by decide) (hts _ q40) (fun _ h9 => h9) kt_F12 dX0_findDominators_97 ?_
      refine lv_iload_n hx hb dX0_findDominators_100 rfl (lv_at hl 1 rfl) ?_
      refine lv_aload_n hx hb dX0_findDominators_101 rfl (lv_at hl 0 rfl) ?_
      refine va_get (D := (dC, dI)) (ci := 0) (v := .ref (ad 7)) (C := RX0) (T := TX0) (N := 22) hx hb hts in_X0 hown hK X.1 0 kt_W0 rfl 7 (by decide) (hts _ q35) (fun _ h9 => h9) kt_F7 dX0_findDominators_102 ?_
      refine lv_iload_n hx hb dX0_findDominators_105 rfl (lv_at hl 1 rfl) ?_
      obtain ⟨b11, h⟩ := kt_chk_some h
      refine va_iald (f := a2 7) hx hb hK X.1 5 0 (kt_A7 ((kt_st_ne rfl).trans (kt_st_ne rfl))) rfl b11 dX0_findDominators_106 ?_
      refine lv_topi (fun y12 e13 => ?_)
      have h := kt_nm_at e13 h
      obtain ⟨b14, h⟩ := kt_chk_some h
      refine va_iast (f := (kt_st (kt_st a2 16 ((kt_ix x1)) y6) 15 ((kt_ix (a2 10 (kt_ix x1)))) x1) 12) hx hb hK X.1 X.2.1 X.2.2 10 0 (kt_A12 rfl) rfl b14 dX0_findDominators_107 (fun H locs hP hD hS => ?_)
      have X : kt_X dC dI (kt_W h0 ad d1 (kt_st (kt_st (kt_st a2 16 ((kt_ix x1)) y6) 15 ((kt_ix (a2 10 (kt_ix x1)))) x1) 12 ((kt_ix x1)) y12)) A s H locs := kt_XA12 hP hD hS
      refine lv_aload_n hx hb dX0_findDominators_108 rfl (lv_at hl 0 rfl) ?_
      refine lv_aload_n hx hb dX0_findDominators_109 rfl (lv_at hl 0 rfl) ?_
      refine va_get (D := (dC, dI)) (ci := 0) (v := .ref (ad 7)) (C := RX0) (T := TX0) (N := 22) hx hb hts in_X0 hown hK X.1 0 kt_W0 rfl 7 (by decide) (hts _ q35) (fun _ h9 => h9) kt_F7 dX0_findDominators_110 ?_
      refine lv_iload_n hx hb dX0_findDominators_113 rfl (lv_at hl 1 rfl) ?_
      obtain ⟨b15, h⟩ := kt_chk_some h
      refine va_iald (f := a2 7) hx hb hK X.1 5 0 (kt_A7 ((kt_st_ne rfl).trans ((kt_st_ne rfl).trans (kt_st_ne rfl)))) rfl b15 dX0_findDominators_114 ?_
      obtain ⟨a16, e17, h⟩ := kt_bnd h
      refine kt_callv (WS := kt_W h0 ad d1) (σ := kt_st (kt_st (kt_st a2 16 ((kt_ix x1)) y6) 15 ((kt_ix (a2 10 (kt_ix x1)))) x1) 12 ((kt_ix x1)) y12) (As := [.int (a2 7 (kt_ix x1))]) (rest := []) K hK hA (met_k_emptyBucket l dC dI h0 ad d1 d2 N (kt_st (kt_st (kt_st a2 16 ((kt_ix x1)) y6) 15 ((kt_ix (a2 10 (kt_ix x1)))) x1) 12 ((kt_ix x1)) y12) (a2 7 (kt_ix x1)) a16 e17) (cwV 1 hts (lw_V q142 q144 qs6 q18 q145) rfl rfl rfl (by decide +kernel) ⟨Nat.le_trans (Nat.le_of_ble_eq_true rfl) hRf, Nat.le_trans (Nat.le_of_ble_eq_true rfl) hRl⟩) (va_recv hK X.1 (ci := 0) (q0 := 0) rfl kt_W0) rfl hl.1 rfl (Nat.le_of_ble_eq_true rfl) dX0_findDominators_115 X (fun H locs X => ?_)
      refine lv_iinc (v := x1 + (-1)) (lv' := [(1, .int (x1 + (-1))), (0, .ref h0)]) hx hb dX0_findDominators_118 hl (k := 1) rfl rfl (by decide) rfl (fun ls hl => ?_)
      refine lv_goto (tgt := 58) hx hb dX0_findDominators_121 (by decide) ?_
      exact ih (x1 + (-1)) a16 r h H locs X ls (lv_sub hl [1, 0] rfl) kE
set_option maxHeartbeats 4000000 in
set_option maxRecDepth 100000 in
theorem wl_k_findDominators_2 {p : Program} {l : Launch} {e : Env} {R : Room} {s : State} {m : MethodId} {args : Array Value} {below : List Frame} {meth : Method} {c : Code} {Q : State → Prop} {dC : Nat → ClassId} {dI : Nat → Nat → Nat} {d1 d2 : ClassId} {A : Nat → Prop} {h0 : Nat} {ad : Nat → Nat} (K : kt_E RX0 p s m meth c cX0_findDominators 2 none args) (hK : va_K (dC, dI) vwCl (kt_T d1 d2) s) (hA : ∀ q : Nat, s.heap.size ≤ q → A q) :
    ∀ (n : Nat) (x1 : Int32) (σ : KSt) (r : Int32 × KSt), k_findDominators_2 n x1 σ = some r → ∀ (H : Heap) (locs : List Loc), kt_X dC dI (kt_W h0 ad d1 σ) A s H locs → ∀ (ls : Array Slot), lv_has ls 2 [(0, .ref h0), (1, .int x1)] → (∀ (H : Heap) (locs : List Loc), kt_X dC dI (kt_W h0 ad d1 r.2) A s H locs → ∀ (ls : Array Slot), lv_has ls 2 [(0, .ref h0), (1, .int r.1)] → W p l e R s m args below meth c H locs 0 0 Q (F0 m 51 ls [])) → W p l e R s m args below meth c H locs 0 0 Q (F0 m 2 ls []) := by
  obtain ⟨hx, hb, hml, hown, hts, hr, hlocks⟩ := id K
  intro n
  induction n with
  | zero =>
    intro _ _ r h
    cases h
  | succ n ih =>
    intro x1 σ r h H locs X ls hl kE
    rw [k_findDominators_2] at h
    refine lv_iload_n hx hb dX0_findDominators_2 rfl (lv_at hl 1 rfl) ?_
    refine lv_aload_n hx hb dX0_findDominators_3 rfl (lv_at hl 0 rfl) ?_
    refine va_get (D := (dC, dI)) (ci := 0) (v := .int (σ 4 0)) (C := RX0) (T := TX0) (N := 22) hx hb hts in_X0 hown hK X.1 0 kt_W0 rfl 4 (by decide) (hts _ q32) (fun _ h9 => h9) (kt_F4 (rfl)) dX0_findDominators_4 ?_
    refine lv_icmp_ge (tgt := 51) hx hb dX0_findDominators_7 (by decide) (fun c1 => ?_) (fun c1 => ?_)
    · have h := kt_ift c1 h
      cases h
      exact kE H locs X ls (lv_sub hl [0, 1] rfl)
    · have h := kt_iff c1 h
      refine lv_aload_n hx hb dX0_findDominators_10 rfl (lv_at hl 0 rfl) ?_
      refine va_get (D := (dC, dI)) (ci := 0) (v := .ref (ad 10)) (C := RX0) (T := TX0) (N := 22) hx hb hts in_X0 hown hK X.1 0 kt_W0 rfl 10 (by decide) (hts _ q38) (fun _ h9 => h9) kt_F10 dX0_findDominators_11 ?_
      refine lv_iload_n hx hb dX0_findDominators_14 rfl (lv_at hl 1 rfl) ?_
      refine lv_iload_n hx hb dX0_findDominators_15 rfl (lv_at hl 1 rfl) ?_
      obtain ⟨b2, h⟩ := kt_chk_some h
      refine va_iast (f := σ 10) hx hb hK X.1 X.2.1 X.2.2 8 0 (kt_A10 rfl) rfl b2 dX0_findDominators_16 (fun H locs hP hD hS => ?_)
      have X : kt_X dC dI (kt_W h0 ad d1 (kt_st σ 10 ((kt_ix x1)) x1)) A s H locs := kt_XA10 hP hD hS
      refine lv_aload_n hx hb dX0_findDominators_17 rfl (lv_at hl 0 rfl) ?_
      refine va_get (D := (dC, dI)) (ci := 0) (v := .ref (ad 13)) (C := RX0) (T := TX0) (N := 22) hx hb hts in_X0 hown hK X.1 0 kt_W0 rfl 13 (by decide) (hts _ q41) (fun _ h9 => h9) kt_F13 dX0_findDominators_18 ?_
      refine lv_iload_n hx hb dX0_findDominators_21 rfl (lv_at hl 1 rfl) ?_
      refine lv_iload_n hx hb dX0_findDominators_22 rfl (lv_at hl 1 rfl) ?_
      obtain ⟨b3, h⟩ := kt_chk_some h
      refine va_iast (f := (kt_st σ 10 ((kt_ix x1)) x1) 13) hx hb hK X.1 X.2.1 X.2.2 11 0 (kt_A13 rfl) rfl b3 dX0_findDominators_23 (fun H locs hP hD hS => ?_)
      have X : kt_X dC dI (kt_W h0 ad d1 (kt_st (kt_st σ 10 ((kt_ix x1)) x1) 13 ((kt_ix x1)) x1)) A s H locs := kt_XA13 hP hD hS
      refine lv_aload_n hx hb dX0_findDominators_24 rfl (lv_at hl 0 rfl) ?_
      refine va_get (D := (dC, dI)) (ci := 0) (v := .ref (ad 11)) (C := RX0) (T := TX0) (N := 22) hx hb hts in_X0 hown hK X.1 0 kt_W0 rfl 11 (by decide) (hts _ q39) (fun _ h9 => h9) kt_F11 dX0_findDominators_25 ?_
      refine lv_iload_n hx hb dX0_findDominators_28 rfl (lv_at hl 1 rfl) ?_
      refine lv_iconst (v := (-1)) hx hb dX0_findDominators_29 (by decide) ?_
      obtain ⟨b4, h⟩ := kt_chk_some h
      refine va_iast (f := (kt_st (kt_st σ 10 ((kt_ix x1)) x1) 13 ((kt_ix x1)) x1) 11) hx hb hK X.1 X.2.1 X.2.2 9 0 (kt_A11 rfl) rfl b4 dX0_findDominators_30 (fun H locs hP hD hS => ?_)
      have X : kt_X dC dI (kt_W h0 ad d1 (kt_st (kt_st (kt_st σ 10 ((kt_ix x1)) x1) 13 ((kt_ix x1)) x1) 11 ((kt_ix x1)) (-1))) A s H locs := kt_XA11 hP hD hS
      refine lv_aload_n hx hb dX0_findDominators_31 rfl (lv_at hl 0 rfl) ?_
      refine va_get (D := (dC, dI)) (ci := 0) (v := .ref (ad 12)) (C := RX0) (T := TX0) (N := 22) hx hb hts in_X0 hown hK X.1 0 kt_W0 rfl 12 (by decide) (hts _ q40) (fun _ h9 => h9) kt_F12 dX0_findDominators_32 ?_
      refine lv_iload_n hx hb dX0_findDominators_35 rfl (lv_at hl 1 rfl) ?_
      refine lv_iconst (v := (-1)) hx hb dX0_findDominators_36 (by decide) ?_
      obtain ⟨b5, h⟩ := kt_chk_some h
      refine va_iast (f := (kt_st (kt_st (kt_st σ 10 ((kt_ix x1)) x1) 13 ((kt_ix x1)) x1) 11 ((kt_ix x1)) (-1)) 12) hx hb hK X.1 X.2.1 X.2.2 10 0 (kt_A12 rfl) rfl b5 dX0_findDominators_37 (fun H locs hP hD hS => ?_)
      have X : kt_X dC dI (kt_W h0 ad d1 (kt_st (kt_st (kt_st (kt_st σ 10 ((kt_ix x1)) x1) 13 ((kt_ix x1)) x1) 11 ((kt_ix x1)) (-1)) 12 ((kt_ix x1)) (-1))) A s H locs := kt_XA12 hP hD hS
      refine lv_aload_n hx hb dX0_findDominators_38 rfl (lv_at hl 0 rfl) ?_
      refine va_get (D := (dC, dI)) (ci := 0) (v := .ref (ad 15)) (C := RX0) (T := TX0) (N := 22) hx hb hts in_X0 hown hK X.1 0 kt_W0 rfl 15 (by decide) (hts _ q43) (fun _ h9 => h9) kt_F15 dX0_findDominators_39 ?_
      refine lv_iload_n hx hb dX0_findDominators_42 rfl (lv_at hl 1 rfl) ?_
      refine lv_iconst (v := (-1)) hx hb dX0_findDominators_43 (by decide) ?_
      obtain ⟨b6, h⟩ := kt_chk_some h
      refine va_iast (f := (kt_st (kt_st (kt_st (kt_st σ 10 ((kt_ix x1)) x1) 13 ((kt_ix x1)) x1) 11 ((kt_ix x1)) (-1)) 12 ((kt_ix x1)) (-1)) 15) hx hb hK X.1 X.2.1 X.2.2 13 0 (kt_A15 rfl) rfl b6 dX0_findDominators_44 (fun H locs hP hD hS => ?_)
      have X : kt_X dC dI (kt_W h0 ad d1 (kt_st (kt_st (kt_st (kt_st (kt_st σ 10 ((kt_ix x1)) x1) 13 ((kt_ix x1)) x1) 11 ((kt_ix x1)) (-1)) 12 ((kt_ix x1)) (-1)) 15 ((kt_ix x1)) (-1))) A s H locs := kt_XA15 hP hD hS
      refine lv_iinc (v := x1 + 1) (lv' := [(1, .int (x1 + 1)), (0, .ref h0)]) hx hb dX0_findDominators_45 hl (k := 1) rfl rfl (by decide) rfl (fun ls hl => ?_)
      refine lv_goto (tgt := 2) hx hb dX0_findDominators_48 (by decide) ?_
      exact ih (x1 + 1) (kt_st (kt_st (kt_st (kt_st (kt_st σ 10 ((kt_ix x1)) x1) 13 ((kt_ix x1)) x1) 11 ((kt_ix x1)) (-1)) 12 ((kt_ix x1)) (-1)) 15 ((kt_ix x1)) (-1)) r h H locs X ls (lv_sub hl [1, 0] rfl) kE
set_option maxHeartbeats 4000000 in
set_option maxRecDepth 100000 in
/-- KeepTree.findDominators()V -/
theorem met_k_findDominators (l : Launch) (dC : Nat → ClassId) (dI : Nat → Nat → Nat) (h0 : Nat) (ad : Nat → Nat) (d1 d2 : ClassId) (N : Nat) (σ : KSt) (a : KSt) (h : k_findDominators N σ = some a) : kt_Cv l yX0_findDominators (ws_ yX0_findDominators cX0_findDominators 2 none) ({ frames := 2, cells := 0, slots := 0, locals := 50 } : Room) h0 [] dC dI (kt_T d1 d2) (kt_W h0 ad d1) σ a := by
  refine kt_enter (Qc := fun A => kt_Qv a dC dI (kt_T d1 d2) (kt_W h0 ad d1) A) (by decide) (Nat.le_of_ble_eq_true rfl) ?_
  intro p e s m below meth c A ls K hK hA X hl
  have K : kt_E RX0 p s m meth c cX0_findDominators 2 none _ := K
  obtain ⟨hx, hb, hml, hown, hts, hr, hlocks⟩ := id K
  generalize hs0 : s.heap = H at X ⊢
  generalize hl0 : ([] : List Loc) = locs at X ⊢
  have hRf : 2 ≤ (({ frames := 2, cells := 0, slots := 0, locals := 50 } : Room)).frames := Nat.le_refl _
  have hRl : 50 ≤ (({ frames := 2, cells := 0, slots := 0, locals := 50 } : Room)).locals := Nat.le_refl _
  have hl : lv_has ls 2 [(0, .ref h0)] := hl
  rw [k_findDominators] at h
  refine lv_iconst (v := 0) hx hb dX0_findDominators_0 (by decide) ?_
  refine lv_istore_n (lv' := [(1, .int 0), (0, .ref h0)]) hx hb dX0_findDominators_1 rfl hl (by decide) rfl (fun ls hl => ?_)
  obtain ⟨a1, e2, h⟩ := kt_bnd h
  refine wl_k_findDominators_2 K hK hA N 0 σ a1 e2 H locs X ls (lv_sub hl [1, 0] rfl) (fun H locs X ls hl => ?_)
  refine lv_aload_n hx hb dX0_findDominators_51 rfl (lv_at hl 0 rfl) ?_
  refine va_get (D := (dC, dI)) (ci := 0) (v := .int (a1.2 4 0)) (C := RX0) (T := TX0) (N := 22) hx hb hts in_X0 hown hK X.1 0 kt_W0 rfl 4 (by decide) (hts _ q32) (fun _ h9 => h9) (kt_F4 (rfl)) dX0_findDominators_52 ?_
  refine lv_iconst (v := 1) hx hb dX0_findDominators_55 (by decide) ?_
  refine lv_isub hx hb dX0_findDominators_56 ?_
  refine lv_topi (fun y3 e4 => ?_)
  have h := kt_nm_at e4 h
  refine lv_istore_n (lv' := [(1, .int y3), (0, .ref h0)]) hx hb dX0_findDominators_57 rfl hl (by decide) rfl (fun ls hl => ?_)
  obtain ⟨a5, e6, h⟩ := kt_bnd h
  refine wl_k_findDominators_58 K hK hA hRf hRl N N y3 a1.2 a5 e6 H locs X ls (lv_sub hl [1, 0] rfl) (fun H locs X ls hl => ?_)
  refine lv_iconst (v := 1) hx hb dX0_findDominators_124 (by decide) ?_
  refine lv_istore_n (lv' := [(1, .int 1), (0, .ref h0)]) hx hb dX0_findDominators_125 rfl hl (by decide) rfl (fun ls hl => ?_)
  obtain ⟨a7, e8, h⟩ := kt_bnd h
  refine wl_k_findDominators_126 K hK hA N 1 a5.2 a7 e8 H locs X ls (lv_sub hl [1, 0] rfl) (fun H locs X ls hl => ?_)
  exact kt_vret (WS := kt_W h0 ad d1) (σ := a7.2) K hK X h dX0_findDominators_172
end
section
set_option maxHeartbeats 4000000 in
set_option maxRecDepth 100000 in
theorem wl_k_walkTree_22 {p : Program} {l : Launch} {e : Env} {R : Room} {s : State} {m : MethodId} {args : Array Value} {below : List Frame} {meth : Method} {c : Code} {Q : State → Prop} {dC : Nat → ClassId} {dI : Nat → Nat → Nat} {d1 d2 : ClassId} {A : Nat → Prop} {h0 : Nat} {ad : Nat → Nat} (K : kt_E RX0 p s m meth c cX0_walkTree 6 none args) (hK : va_K (dC, dI) vwCl (kt_T d1 d2) s) (hA : ∀ q : Nat, s.heap.size ≤ q → A q) :
    ∀ (n : Nat) (x1 x2 x3 : Int32) (σ : KSt) (r : Int32 × Int32 × Int32 × KSt), k_walkTree_22 n x1 x2 x3 σ = some r → ∀ (H : Heap) (locs : List Loc), kt_X dC dI (kt_W h0 ad d1 σ) A s H locs → ∀ (ls : Array Slot), lv_has ls 6 [(0, .ref h0), (1, .int x1), (2, .int x2), (3, .int x3)] → (∀ (H : Heap) (locs : List Loc), kt_X dC dI (kt_W h0 ad d1 r.2.2.2) A s H locs → ∀ (ls : Array Slot), lv_has ls 6 [(0, .ref h0), (1, .int r.1), (2, .int r.2.1), (3, .int r.2.2.1)] → W p l e R s m args below meth c H locs 0 0 Q (F0 m 112 ls [])) → W p l e R s m args below meth c H locs 0 0 Q (F0 m 22 ls []) := by
  obtain ⟨hx, hb, hml, hown, hts, hr, hlocks⟩ := id K
  intro n
  induction n with
  | zero =>
    intro _ _ _ _ r h
    cases h
  | succ n ih =>
    intro x1 x2 x3 σ r h H locs X ls hl kE
    rw [k_walkTree_22] at h
    refine lv_iload_n hx hb dX0_walkTree_22 rfl (lv_at hl 3 rfl) ?_
    refine lv_bipush (v := 40) hx hb dX0_walkTree_23 (by decide) ?_
    refine lv_icmp_ge (tgt := 112) hx hb dX0_walkTree_25 (by decide) (fun c1 => ?_) (fun c1 => ?_)
    · have h := kt_ift c1 h
      cases h
      exact kE H locs X ls (lv_sub hl [0, 1, 2, 3] rfl)
    · have h := kt_iff c1 h
      refine lv_iload_n hx hb dX0_walkTree_28 rfl (lv_at hl 2 rfl) ?_
      refine lv_if_le (tgt := 112) hx hb dX0_walkTree_29 (by decide) (fun c2 => ?_) (fun c2 => ?_)
      · have h := kt_ift c2 h
        cases h
        exact kE H locs X ls (lv_sub hl [0, 1, 2, 3] rfl)
      · have h := kt_iff c2 h
        refine lv_aload_n hx hb dX0_walkTree_32 rfl (lv_at hl 0 rfl) ?_
        refine va_get (D := (dC, dI)) (ci := 0) (v := .ref (ad 8)) (C := RX0) (T := TX0) (N := 22) hx hb hts in_X0 hown hK X.1 0 kt_W0 rfl 8 (by decide) (hts _ q36) (fun _ h9 => h9) kt_F8 dX0_walkTree_33 ?_
        refine lv_iload_n hx hb dX0_walkTree_36 rfl (lv_at hl 2 rfl) ?_
        refine lv_iconst (v := 1) hx hb dX0_walkTree_37 (by decide) ?_
        refine lv_isub hx hb dX0_walkTree_38 ?_
        obtain ⟨b3, h⟩ := kt_chk_some h
        refine va_iald (f := σ 8) hx hb hK X.1 6 0 (kt_A8 (rfl)) rfl b3 dX0_walkTree_39 ?_
        refine lv_topi (fun y4 e5 => ?_)
        have h := kt_nm_at e5 h
        refine lv_istore (lv' := [(4, .int y4), (0, .ref h0), (1, .int x1), (2, .int x2), (3, .int x3)]) hx hb dX0_walkTree_40 hl (by decide) rfl (fun ls hl => ?_)
        refine lv_aload_n hx hb dX0_walkTree_42 rfl (lv_at hl 1 rfl) ?_
        refine va_get (D := (dC, dI)) (ci := 0) (v := .ref (ad 15)) (C := RX0) (T := TX0) (N := 22) hx hb hts in_X0 hown hK X.1 0 kt_W0 rfl 15 (by decide) (hts _ q43) (fun _ h9 => h9) kt_F15 dX0_walkTree_43 ?_
        refine lv_iload hx hb dX0_walkTree_46 (lv_at hl 0 rfl) ?_
        obtain ⟨b6, h⟩ := kt_chk_some h
        refine va_iald (f := σ 15) hx hb hK X.1 13 0 (kt_A15 (rfl)) rfl b6 dX0_walkTree_48 ?_
        refine lv_topi (fun y7 e8 => ?_)
        have h := kt_nm_at e8 h
        refine lv_istore (lv' := [(5, .int y7), (4, .int y4), (0, .ref h0), (1, .int x1), (2, .int x2), (3, .int x3)]) hx hb dX0_walkTree_49 hl (by decide) rfl (fun ls hl => ?_)
        refine lv_iload hx hb dX0_walkTree_51 (lv_at hl 0 rfl) ?_
        refine lv_if_ge (tgt := 70) hx hb dX0_walkTree_53 (by decide) (fun c9 => ?_) (fun c9 => ?_)
        · have h := kt_ift c9 h
          refine lv_aload_n hx hb dX0_walkTree_70 rfl (lv_at hl 2 rfl) ?_
          refine va_get (D := (dC, dI)) (ci := 0) (v := .ref (ad 15)) (C := RX0) (T := TX0) (N := 22) hx hb hts in_X0 hown hK X.1 0 kt_W0 rfl 15 (by decide) (hts _ q43) (fun _ h9 => h9) kt_F15 dX0_walkTree_71 ?_
          refine lv_iload hx hb dX0_walkTree_74 (lv_at hl 1 rfl) ?_
          refine lv_aload_n hx hb dX0_walkTree_76 rfl (lv_at hl 2 rfl) ?_
          refine va_get (D := (dC, dI)) (ci := 0) (v := .ref (ad 16)) (C := RX0) (T := TX0) (N := 22) hx hb hts in_X0 hown hK X.1 0 kt_W0 rfl 16 (by decide) (hts _ q44) (fun _ h9 => h9) kt_F16 dX0_walkTree_77 ?_
          refine lv_iload hx hb dX0_walkTree_80 (lv_at hl 0 rfl) ?_
          obtain ⟨b10, h⟩ := kt_chk_some h
          refine va_iald (f := σ 16) hx hb hK X.1 14 0 (kt_A16 (rfl)) rfl b10 dX0_walkTree_82 ?_
          refine lv_topi (fun y11 e12 => ?_)
          have h := kt_nm_at e12 h
          obtain ⟨b13, h⟩ := kt_chk_some h
          refine va_iast (f := σ 15) hx hb hK X.1 X.2.1 X.2.2 13 0 (kt_A15 rfl) rfl b13 dX0_walkTree_83 (fun H locs hP hD hS => ?_)
          have X : kt_X dC dI (kt_W h0 ad d1 (kt_st σ 15 ((kt_ix y4)) y11)) A s H locs := kt_XA15 hP hD hS
          refine lv_iinc (v := x1 + 1) (lv' := [(1, .int (x1 + 1)), (5, .int y7), (4, .int y4), (0, .ref h0), (2, .int x2), (3, .int x3)]) hx hb dX0_walkTree_84 hl (k := 3) rfl rfl (by decide) rfl (fun ls hl => ?_)
          refine lv_aload_n hx hb dX0_walkTree_87 rfl (lv_at hl 3 rfl) ?_
          refine va_get (D := (dC, dI)) (ci := 0) (v := .ref (ad 20)) (C := RX0) (T := TX0) (N := 22) hx hb hts in_X0 hown hK X.1 0 kt_W0 rfl 20 (by decide) (hts _ q48) (fun _ h9 => h9) kt_F20 dX0_walkTree_88 ?_
          refine lv_iload hx hb dX0_walkTree_91 (lv_at hl 1 rfl) ?_
          refine lv_iload_n hx hb dX0_walkTree_93 rfl (lv_at hl 0 rfl) ?_
          refine lv_topi (fun y14 e15 => ?_)
          have h := kt_nm_at e15 h
          obtain ⟨b16, h⟩ := kt_chk_some h
          refine va_iast (f := (kt_st σ 15 ((kt_ix y4)) y11) 20) hx hb hK X.1 X.2.1 X.2.2 18 0 (kt_A20 rfl) rfl b16 dX0_walkTree_94 (fun H locs hP hD hS => ?_)
          have X : kt_X dC dI (kt_W h0 ad d1 (kt_st (kt_st σ 15 ((kt_ix y4)) y11) 20 ((kt_ix y7)) y14)) A s H locs := kt_XA20 hP hD hS
          refine lv_aload_n hx hb dX0_walkTree_95 rfl (lv_at hl 3 rfl) ?_
          refine va_get (D := (dC, dI)) (ci := 0) (v := .ref (ad 8)) (C := RX0) (T := TX0) (N := 22) hx hb hts in_X0 hown hK X.1 0 kt_W0 rfl 8 (by decide) (hts _ q36) (fun _ h9 => h9) kt_F8 dX0_walkTree_96 ?_
          refine lv_iload_n hx hb dX0_walkTree_99 rfl (lv_at hl 4 rfl) ?_
          refine lv_iload hx hb dX0_walkTree_100 (lv_at hl 1 rfl) ?_
          obtain ⟨b17, h⟩ := kt_chk_some h
          refine va_iast (f := (kt_st (kt_st σ 15 ((kt_ix y4)) y11) 20 ((kt_ix y7)) y14) 8) hx hb hK X.1 X.2.1 X.2.2 6 0 (kt_A8 rfl) rfl b17 dX0_walkTree_102 (fun H locs hP hD hS => ?_)
          have X : kt_X dC dI (kt_W h0 ad d1 (kt_st (kt_st (kt_st σ 15 ((kt_ix y4)) y11) 20 ((kt_ix y7)) y14) 8 ((kt_ix x2)) y7)) A s H locs := kt_XA8 hP hD hS
          refine lv_iinc (v := x2 + 1) (lv' := [(2, .int (x2 + 1)), (1, .int (x1 + 1)), (5, .int y7), (4, .int y4), (0, .ref h0), (3, .int x3)]) hx hb dX0_walkTree_103 hl (k := 4) rfl rfl (by decide) rfl (fun ls hl => ?_)
          refine lv_iinc (v := x3 + 1) (lv' := [(3, .int (x3 + 1)), (2, .int (x2 + 1)), (1, .int (x1 + 1)), (5, .int y7), (4, .int y4), (0, .ref h0)]) hx hb dX0_walkTree_106 hl (k := 5) rfl rfl (by decide) rfl (fun ls hl => ?_)
          refine lv_goto (tgt := 22) hx hb dX0_walkTree_109 (by decide) ?_
          exact ih (x1 + 1) (x2 + 1) (x3 + 1) (kt_st (kt_st (kt_st σ 15 ((kt_ix y4)) y11) 20 ((kt_ix y7)) y14) 8 ((kt_ix x2)) y7) r h H locs X ls (lv_sub hl [5, 2, 1, 0] rfl) kE
        · have h := kt_iff c9 h
          refine lv_aload_n hx hb dX0_walkTree_56 rfl (lv_at hl 2 rfl) ?_
          refine va_get (D := (dC, dI)) (ci := 0) (v := .ref (ad 21)) (C := RX0) (T := TX0) (N := 22) hx hb hts in_X0 hown hK X.1 0 kt_W0 rfl 21 (by decide) (hts _ q49) (fun _ h9 => h9) kt_F21 dX0_walkTree_57 ?_
          refine lv_iload hx hb dX0_walkTree_60 (lv_at hl 1 rfl) ?_
          refine lv_iload_n hx hb dX0_walkTree_62 rfl (lv_at hl 3 rfl) ?_
          obtain ⟨b18, h⟩ := kt_chk_some h
          refine va_iast (f := σ 21) hx hb hK X.1 X.2.1 X.2.2 19 0 (kt_A21 rfl) rfl b18 dX0_walkTree_63 (fun H locs hP hD hS => ?_)
          have X : kt_X dC dI (kt_W h0 ad d1 (kt_st σ 21 ((kt_ix y4)) x1)) A s H locs := kt_XA21 hP hD hS
          refine lv_iinc (v := x2 + (-1)) (lv' := [(2, .int (x2 + (-1))), (5, .int y7), (4, .int y4), (0, .ref h0), (1, .int x1), (3, .int x3)]) hx hb dX0_walkTree_64 hl (k := 4) rfl rfl (by decide) rfl (fun ls hl => ?_)
          refine lv_goto (tgt := 106) hx hb dX0_walkTree_67 (by decide) ?_
          refine lv_iinc (v := x3 + 1) (lv' := [(3, .int (x3 + 1)), (2, .int (x2 + (-1))), (5, .int y7), (4, .int y4), (0, .ref h0), (1, .int x1)]) hx hb dX0_walkTree_106 hl (k := 5) rfl rfl (by decide) rfl (fun ls hl => ?_)
          refine lv_goto (tgt := 22) hx hb dX0_walkTree_109 (by decide) ?_
          exact ih x1 (x2 + (-1)) (x3 + 1) (kt_st σ 21 ((kt_ix y4)) x1) r h H locs X ls (lv_sub hl [4, 5, 1, 0] rfl) kE
set_option maxHeartbeats 4000000 in
set_option maxRecDepth 100000 in
/-- KeepTree.walkTree()V -/
theorem met_k_walkTree (l : Launch) (dC : Nat → ClassId) (dI : Nat → Nat → Nat) (h0 : Nat) (ad : Nat → Nat) (d1 d2 : ClassId) (N : Nat) (σ : KSt) (a : KSt) (h : k_walkTree N σ = some a) : kt_Cv l yX0_walkTree (ws_ yX0_walkTree cX0_walkTree 6 none) ({ frames := 0, cells := 0, slots := 0, locals := 0 } : Room) h0 [] dC dI (kt_T d1 d2) (kt_W h0 ad d1) σ a := by
  refine kt_enter (Qc := fun A => kt_Qv a dC dI (kt_T d1 d2) (kt_W h0 ad d1) A) (by decide) (Nat.le_of_ble_eq_true rfl) ?_
  intro p e s m below meth c A ls K hK hA X hl
  have K : kt_E RX0 p s m meth c cX0_walkTree 6 none _ := K
  obtain ⟨hx, hb, hml, hown, hts, hr, hlocks⟩ := id K
  generalize hs0 : s.heap = H at X ⊢
  generalize hl0 : ([] : List Loc) = locs at X ⊢
  have hl : lv_has ls 6 [(0, .ref h0)] := hl
  rw [k_walkTree] at h
  refine lv_iconst (v := 0) hx hb dX0_walkTree_0 (by decide) ?_
  refine lv_istore_n (lv' := [(1, .int 0), (0, .ref h0)]) hx hb dX0_walkTree_1 rfl hl (by decide) rfl (fun ls hl => ?_)
  refine lv_iconst (v := 1) hx hb dX0_walkTree_2 (by decide) ?_
  refine lv_istore_n (lv' := [(2, .int 1), (1, .int 0), (0, .ref h0)]) hx hb dX0_walkTree_3 rfl hl (by decide) rfl (fun ls hl => ?_)
  refine lv_aload_n hx hb dX0_walkTree_4 rfl (lv_at hl 2 rfl) ?_
  refine va_get (D := (dC, dI)) (ci := 0) (v := .ref (ad 8)) (C := RX0) (T := TX0) (N := 22) hx hb hts in_X0 hown hK X.1 0 kt_W0 rfl 8 (by decide) (hts _ q36) (fun _ h9 => h9) kt_F8 dX0_walkTree_5 ?_
  refine lv_iconst (v := 0) hx hb dX0_walkTree_8 (by decide) ?_
  refine lv_bipush (v := 16) hx hb dX0_walkTree_9 (by decide) ?_
  obtain ⟨b1, h⟩ := kt_chk_some h
  refine va_iast (f := σ 8) hx hb hK X.1 X.2.1 X.2.2 6 0 (kt_A8 rfl) rfl b1 dX0_walkTree_11 (fun H locs hP hD hS => ?_)
  have X : kt_X dC dI (kt_W h0 ad d1 (kt_st σ 8 ((kt_ix 0)) 16)) A s H locs := kt_XA8 hP hD hS
  refine lv_aload_n hx hb dX0_walkTree_12 rfl (lv_at hl 2 rfl) ?_
  refine va_get (D := (dC, dI)) (ci := 0) (v := .ref (ad 20)) (C := RX0) (T := TX0) (N := 22) hx hb hts in_X0 hown hK X.1 0 kt_W0 rfl 20 (by decide) (hts _ q48) (fun _ h9 => h9) kt_F20 dX0_walkTree_13 ?_
  refine lv_bipush (v := 16) hx hb dX0_walkTree_16 (by decide) ?_
  refine lv_iconst (v := 0) hx hb dX0_walkTree_18 (by decide) ?_
  obtain ⟨b2, h⟩ := kt_chk_some h
  refine va_iast (f := (kt_st σ 8 ((kt_ix 0)) 16) 20) hx hb hK X.1 X.2.1 X.2.2 18 0 (kt_A20 rfl) rfl b2 dX0_walkTree_19 (fun H locs hP hD hS => ?_)
  have X : kt_X dC dI (kt_W h0 ad d1 (kt_st (kt_st σ 8 ((kt_ix 0)) 16) 20 ((kt_ix 16)) 0)) A s H locs := kt_XA20 hP hD hS
  refine lv_iconst (v := 0) hx hb dX0_walkTree_20 (by decide) ?_
  refine lv_istore_n (lv' := [(3, .int 0), (2, .int 1), (1, .int 0), (0, .ref h0)]) hx hb dX0_walkTree_21 rfl hl (by decide) rfl (fun ls hl => ?_)
  obtain ⟨a3, e4, h⟩ := kt_bnd h
  refine wl_k_walkTree_22 K hK hA N 0 1 0 (kt_st (kt_st σ 8 ((kt_ix 0)) 16) 20 ((kt_ix 16)) 0) a3 e4 H locs X ls (lv_sub hl [3, 2, 1, 0] rfl) (fun H locs X ls hl => ?_)
  exact kt_vret (WS := kt_W h0 ad d1) (σ := a3.2.2.2) K hK X h dX0_walkTree_112
set_option maxHeartbeats 4000000 in
set_option maxRecDepth 100000 in
theorem wl_k_layOutTree_126 {p : Program} {l : Launch} {e : Env} {R : Room} {s : State} {m : MethodId} {args : Array Value} {below : List Frame} {meth : Method} {c : Code} {Q : State → Prop} {dC : Nat → ClassId} {dI : Nat → Nat → Nat} {d1 d2 : ClassId} {A : Nat → Prop} {h0 : Nat} {ad : Nat → Nat} (K : kt_E RX0 p s m meth c cX0_layOutTree 4 none args) (hK : va_K (dC, dI) vwCl (kt_T d1 d2) s) (hA : ∀ q : Nat, s.heap.size ≤ q → A q) :
    ∀ (n : Nat) (x1 : Int32) (σ : KSt) (r : Int32 × KSt), k_layOutTree_126 n x1 σ = some r → ∀ (H : Heap) (locs : List Loc), kt_X dC dI (kt_W h0 ad d1 σ) A s H locs → ∀ (ls : Array Slot), lv_has ls 4 [(0, .ref h0), (1, .int x1)] → (∀ (H : Heap) (locs : List Loc), kt_X dC dI (kt_W h0 ad d1 r.2) A s H locs → ∀ (ls : Array Slot), lv_has ls 4 [(0, .ref h0), (1, .int r.1)] → W p l e R s m args below meth c H locs 0 0 Q (F0 m 184 ls [])) → W p l e R s m args below meth c H locs 0 0 Q (F0 m 126 ls []) := by
  obtain ⟨hx, hb, hml, hown, hts, hr, hlocks⟩ := id K
  intro n
  induction n with
  | zero =>
    intro _ _ r h
    cases h
  | succ n ih =>
    intro x1 σ r h H locs X ls hl kE
    rw [k_layOutTree_126] at h
    refine lv_iload_n hx hb dX0_layOutTree_126 rfl (lv_at hl 1 rfl) ?_
    refine lv_if_le (tgt := 184) hx hb dX0_layOutTree_127 (by decide) (fun c1 => ?_) (fun c1 => ?_)
    · have h := kt_ift c1 h
      cases h
      exact kE H locs X ls (lv_sub hl [0, 1] rfl)
    · have h := kt_iff c1 h
      refine lv_aload_n hx hb dX0_layOutTree_130 rfl (lv_at hl 0 rfl) ?_
      refine va_get (D := (dC, dI)) (ci := 0) (v := .ref (ad 6)) (C := RX0) (T := TX0) (N := 22) hx hb hts in_X0 hown hK X.1 0 kt_W0 rfl 6 (by decide) (hts _ q34) (fun _ h9 => h9) kt_F6 dX0_layOutTree_131 ?_
      refine lv_iload_n hx hb dX0_layOutTree_134 rfl (lv_at hl 1 rfl) ?_
      obtain ⟨b2, h⟩ := kt_chk_some h
      refine va_iald (f := σ 6) hx hb hK X.1 4 0 (kt_A6 (rfl)) rfl b2 dX0_layOutTree_135 ?_
      refine lv_topi (fun y3 e4 => ?_)
      have h := kt_nm_at e4 h
      refine lv_istore_n (lv' := [(2, .int y3), (0, .ref h0), (1, .int x1)]) hx hb dX0_layOutTree_136 rfl hl (by decide) rfl (fun ls hl => ?_)
      refine lv_aload_n hx hb dX0_layOutTree_137 rfl (lv_at hl 1 rfl) ?_
      refine va_get (D := (dC, dI)) (ci := 0) (v := .ref (ad 17)) (C := RX0) (T := TX0) (N := 22) hx hb hts in_X0 hown hK X.1 0 kt_W0 rfl 17 (by decide) (hts _ q45) (fun _ h9 => h9) kt_F17 dX0_layOutTree_138 ?_
      refine lv_iload_n hx hb dX0_layOutTree_141 rfl (lv_at hl 0 rfl) ?_
      obtain ⟨b5, h⟩ := kt_chk_some h
      refine va_iald (f := σ 17) hx hb hK X.1 15 0 (kt_A17 (rfl)) rfl b5 dX0_layOutTree_142 ?_
      refine lv_topi (fun y6 e7 => ?_)
      have h := kt_nm_at e7 h
      refine lv_istore_n (lv' := [(3, .int y6), (2, .int y3), (0, .ref h0), (1, .int x1)]) hx hb dX0_layOutTree_143 rfl hl (by decide) rfl (fun ls hl => ?_)
      refine lv_aload_n hx hb dX0_layOutTree_144 rfl (lv_at hl 2 rfl) ?_
      refine va_get (D := (dC, dI)) (ci := 0) (v := .ref (ad 19)) (C := RX0) (T := TX0) (N := 22) hx hb hts in_X0 hown hK X.1 0 kt_W0 rfl 19 (by decide) (hts _ q47) (fun _ h9 => h9) kt_F19 dX0_layOutTree_145 ?_
      refine lv_iload_n hx hb dX0_layOutTree_148 rfl (lv_at hl 0 rfl) ?_
      refine lv_dup2_11 hx hb dX0_layOutTree_149 rfl rfl ?_
      obtain ⟨b8, h⟩ := kt_chk_some h
      refine va_iald (f := σ 19) hx hb hK X.1 17 0 (kt_A19 (rfl)) rfl b8 dX0_layOutTree_150 ?_
      refine lv_aload_n hx hb dX0_layOutTree_151 rfl (lv_at hl 2 rfl) ?_
      refine va_get (D := (dC, dI)) (ci := 0) (v := .ref (ad 19)) (C := RX0) (T := TX0) (N := 22) hx hb hts in_X0 hown hK X.1 0 kt_W0 rfl 19 (by decide) (hts _ q47) (fun _ h9 => h9) kt_F19 dX0_layOutTree_152 ?_
      refine lv_iload_n hx hb dX0_layOutTree_155 rfl (lv_at hl 1 rfl) ?_
      obtain ⟨b9, h⟩ := kt_chk_some h
      refine va_iald (f := σ 19) hx hb hK X.1 17 0 (kt_A19 (rfl)) rfl b9 dX0_layOutTree_156 ?_
      refine lv_iadd hx hb dX0_layOutTree_157 ?_
      refine lv_topi (fun y10 e11 => ?_)
      have h := kt_nm_at e11 h
      obtain ⟨b12, h⟩ := kt_chk_some h
      refine va_iast (f := σ 19) hx hb hK X.1 X.2.1 X.2.2 17 0 (kt_A19 rfl) rfl b12 dX0_layOutTree_158 (fun H locs hP hD hS => ?_)
      have X : kt_X dC dI (kt_W h0 ad d1 (kt_st σ 19 ((kt_ix y6)) y10)) A s H locs := kt_XA19 hP hD hS
      refine lv_aload_n hx hb dX0_layOutTree_159 rfl (lv_at hl 2 rfl) ?_
      refine va_get (D := (dC, dI)) (ci := 0) (v := .ref (ad 16)) (C := RX0) (T := TX0) (N := 22) hx hb hts in_X0 hown hK X.1 0 kt_W0 rfl 16 (by decide) (hts _ q44) (fun _ h9 => h9) kt_F16 dX0_layOutTree_160 ?_
      refine lv_iload_n hx hb dX0_layOutTree_163 rfl (lv_at hl 1 rfl) ?_
      refine lv_aload_n hx hb dX0_layOutTree_164 rfl (lv_at hl 2 rfl) ?_
      refine va_get (D := (dC, dI)) (ci := 0) (v := .ref (ad 15)) (C := RX0) (T := TX0) (N := 22) hx hb hts in_X0 hown hK X.1 0 kt_W0 rfl 15 (by decide) (hts _ q43) (fun _ h9 => h9) kt_F15 dX0_layOutTree_165 ?_
      refine lv_iload_n hx hb dX0_layOutTree_168 rfl (lv_at hl 0 rfl) ?_
      obtain ⟨b13, h⟩ := kt_chk_some h
      refine va_iald (f := σ 15) hx hb hK X.1 13 0 (kt_A15 (kt_st_ne rfl)) rfl b13 dX0_layOutTree_169 ?_
      refine lv_topi (fun y14 e15 => ?_)
      have h := kt_nm_at e15 h
      obtain ⟨b16, h⟩ := kt_chk_some h
      refine va_iast (f := (kt_st σ 19 ((kt_ix y6)) y10) 16) hx hb hK X.1 X.2.1 X.2.2 14 0 (kt_A16 rfl) rfl b16 dX0_layOutTree_170 (fun H locs hP hD hS => ?_)
      have X : kt_X dC dI (kt_W h0 ad d1 (kt_st (kt_st σ 19 ((kt_ix y6)) y10) 16 ((kt_ix y3)) y14)) A s H locs := kt_XA16 hP hD hS
      refine lv_aload_n hx hb dX0_layOutTree_171 rfl (lv_at hl 2 rfl) ?_
      refine va_get (D := (dC, dI)) (ci := 0) (v := .ref (ad 15)) (C := RX0) (T := TX0) (N := 22) hx hb hts in_X0 hown hK X.1 0 kt_W0 rfl 15 (by decide) (hts _ q43) (fun _ h9 => h9) kt_F15 dX0_layOutTree_172 ?_
      refine lv_iload_n hx hb dX0_layOutTree_175 rfl (lv_at hl 0 rfl) ?_
      refine lv_iload_n hx hb dX0_layOutTree_176 rfl (lv_at hl 1 rfl) ?_
      obtain ⟨b17, h⟩ := kt_chk_some h
      refine va_iast (f := (kt_st (kt_st σ 19 ((kt_ix y6)) y10) 16 ((kt_ix y3)) y14) 15) hx hb hK X.1 X.2.1 X.2.2 13 0 (kt_A15 rfl) rfl b17 dX0_layOutTree_177 (fun H locs hP hD hS => ?_)
      have X : kt_X dC dI (kt_W h0 ad d1 (kt_st (kt_st (kt_st σ 19 ((kt_ix y6)) y10) 16 ((kt_ix y3)) y14) 15 ((kt_ix y6)) y3)) A s H locs := kt_XA15 hP hD hS
      refine lv_iinc (v := x1 + (-1)) (lv' := [(1, .int (x1 + (-1))), (3, .int y6), (2, .int y3), (0, .ref h0)]) hx hb dX0_layOutTree_178 hl (k := 3) rfl rfl (by decide) rfl (fun ls hl => ?_)
      refine lv_goto (tgt := 126) hx hb dX0_layOutTree_181 (by decide) ?_
      exact ih (x1 + (-1)) (kt_st (kt_st (kt_st σ 19 ((kt_ix y6)) y10) 16 ((kt_ix y3)) y14) 15 ((kt_ix y6)) y3) r h H locs X ls (lv_sub hl [3, 0] rfl) kE
set_option maxHeartbeats 4000000 in
set_option maxRecDepth 100000 in
theorem wl_k_layOutTree_65 {p : Program} {l : Launch} {e : Env} {R : Room} {s : State} {m : MethodId} {args : Array Value} {below : List Frame} {meth : Method} {c : Code} {Q : State → Prop} {dC : Nat → ClassId} {dI : Nat → Nat → Nat} {d1 d2 : ClassId} {A : Nat → Prop} {h0 : Nat} {ad : Nat → Nat} (K : kt_E RX0 p s m meth c cX0_layOutTree 4 none args) (hK : va_K (dC, dI) vwCl (kt_T d1 d2) s) (hA : ∀ q : Nat, s.heap.size ≤ q → A q) :
    ∀ (n : Nat) (x1 : Int32) (σ : KSt) (r : Int32 × KSt), k_layOutTree_65 n x1 σ = some r → ∀ (H : Heap) (locs : List Loc), kt_X dC dI (kt_W h0 ad d1 σ) A s H locs → ∀ (ls : Array Slot), lv_has ls 4 [(0, .ref h0), (1, .int x1)] → (∀ (H : Heap) (locs : List Loc), kt_X dC dI (kt_W h0 ad d1 r.2) A s H locs → ∀ (ls : Array Slot), lv_has ls 4 [(0, .ref h0), (1, .int r.1)] → W p l e R s m args below meth c H locs 0 0 Q (F0 m 119 ls [])) → W p l e R s m args below meth c H locs 0 0 Q (F0 m 65 ls []) := by
  obtain ⟨hx, hb, hml, hown, hts, hr, hlocks⟩ := id K
  intro n
  induction n with
  | zero =>
    intro _ _ r h
    cases h
  | succ n ih =>
    intro x1 σ r h H locs X ls hl kE
    rw [k_layOutTree_65] at h
    refine lv_iload_n hx hb dX0_layOutTree_65 rfl (lv_at hl 1 rfl) ?_
    refine lv_aload_n hx hb dX0_layOutTree_66 rfl (lv_at hl 0 rfl) ?_
    refine va_get (D := (dC, dI)) (ci := 0) (v := .int (σ 4 0)) (C := RX0) (T := TX0) (N := 22) hx hb hts in_X0 hown hK X.1 0 kt_W0 rfl 4 (by decide) (hts _ q32) (fun _ h9 => h9) (kt_F4 (rfl)) dX0_layOutTree_67 ?_
    refine lv_icmp_ge (tgt := 119) hx hb dX0_layOutTree_70 (by decide) (fun c1 => ?_) (fun c1 => ?_)
    · have h := kt_ift c1 h
      cases h
      exact kE H locs X ls (lv_sub hl [0, 1] rfl)
    · have h := kt_iff c1 h
      refine lv_aload_n hx hb dX0_layOutTree_73 rfl (lv_at hl 0 rfl) ?_
      refine va_get (D := (dC, dI)) (ci := 0) (v := .ref (ad 6)) (C := RX0) (T := TX0) (N := 22) hx hb hts in_X0 hown hK X.1 0 kt_W0 rfl 6 (by decide) (hts _ q34) (fun _ h9 => h9) kt_F6 dX0_layOutTree_74 ?_
      refine lv_iload_n hx hb dX0_layOutTree_77 rfl (lv_at hl 1 rfl) ?_
      obtain ⟨b2, h⟩ := kt_chk_some h
      refine va_iald (f := σ 6) hx hb hK X.1 4 0 (kt_A6 (rfl)) rfl b2 dX0_layOutTree_78 ?_
      refine lv_topi (fun y3 e4 => ?_)
      have h := kt_nm_at e4 h
      refine lv_istore_n (lv' := [(2, .int y3), (0, .ref h0), (1, .int x1)]) hx hb dX0_layOutTree_79 rfl hl (by decide) rfl (fun ls hl => ?_)
      refine lv_aload_n hx hb dX0_layOutTree_80 rfl (lv_at hl 1 rfl) ?_
      refine va_get (D := (dC, dI)) (ci := 0) (v := .ref (ad 6)) (C := RX0) (T := TX0) (N := 22) hx hb hts in_X0 hown hK X.1 0 kt_W0 rfl 6 (by decide) (hts _ q34) (fun _ h9 => h9) kt_F6 dX0_layOutTree_81 ?_
      refine lv_aload_n hx hb dX0_layOutTree_84 rfl (lv_at hl 1 rfl) ?_
      refine va_get (D := (dC, dI)) (ci := 0) (v := .ref (ad 11)) (C := RX0) (T := TX0) (N := 22) hx hb hts in_X0 hown hK X.1 0 kt_W0 rfl 11 (by decide) (hts _ q39) (fun _ h9 => h9) kt_F11 dX0_layOutTree_85 ?_
      refine lv_iload_n hx hb dX0_layOutTree_88 rfl (lv_at hl 2 rfl) ?_
      obtain ⟨b5, h⟩ := kt_chk_some h
      refine va_iald (f := σ 11) hx hb hK X.1 9 0 (kt_A11 (rfl)) rfl b5 dX0_layOutTree_89 ?_
      obtain ⟨b6, h⟩ := kt_chk_some h
      refine va_iald (f := σ 6) hx hb hK X.1 4 0 (kt_A6 (rfl)) rfl b6 dX0_layOutTree_90 ?_
      refine lv_topi (fun y7 e8 => ?_)
      have h := kt_nm_at e8 h
      refine lv_istore_n (lv' := [(3, .int y7), (2, .int y3), (0, .ref h0), (1, .int x1)]) hx hb dX0_layOutTree_91 rfl hl (by decide) rfl (fun ls hl => ?_)
      refine lv_aload_n hx hb dX0_layOutTree_92 rfl (lv_at hl 2 rfl) ?_
      refine va_get (D := (dC, dI)) (ci := 0) (v := .ref (ad 17)) (C := RX0) (T := TX0) (N := 22) hx hb hts in_X0 hown hK X.1 0 kt_W0 rfl 17 (by decide) (hts _ q45) (fun _ h9 => h9) kt_F17 dX0_layOutTree_93 ?_
      refine lv_iload_n hx hb dX0_layOutTree_96 rfl (lv_at hl 1 rfl) ?_
      refine lv_iload_n hx hb dX0_layOutTree_97 rfl (lv_at hl 0 rfl) ?_
      obtain ⟨b9, h⟩ := kt_chk_some h
      refine va_iast (f := σ 17) hx hb hK X.1 X.2.1 X.2.2 15 0 (kt_A17 rfl) rfl b9 dX0_layOutTree_98 (fun H locs hP hD hS => ?_)
      have X : kt_X dC dI (kt_W h0 ad d1 (kt_st σ 17 ((kt_ix y3)) y7)) A s H locs := kt_XA17 hP hD hS
      refine lv_aload_n hx hb dX0_layOutTree_99 rfl (lv_at hl 2 rfl) ?_
      refine va_get (D := (dC, dI)) (ci := 0) (v := .ref (ad 18)) (C := RX0) (T := TX0) (N := 22) hx hb hts in_X0 hown hK X.1 0 kt_W0 rfl 18 (by decide) (hts _ q46) (fun _ h9 => h9) kt_F18 dX0_layOutTree_100 ?_
      refine lv_iload_n hx hb dX0_layOutTree_103 rfl (lv_at hl 1 rfl) ?_
      refine lv_aload_n hx hb dX0_layOutTree_104 rfl (lv_at hl 2 rfl) ?_
      refine va_get (D := (dC, dI)) (ci := 0) (v := .ref (ad 18)) (C := RX0) (T := TX0) (N := 22) hx hb hts in_X0 hown hK X.1 0 kt_W0 rfl 18 (by decide) (hts _ q46) (fun _ h9 => h9) kt_F18 dX0_layOutTree_105 ?_
      refine lv_iload_n hx hb dX0_layOutTree_108 rfl (lv_at hl 0 rfl) ?_
      obtain ⟨b10, h⟩ := kt_chk_some h
      refine va_iald (f := σ 18) hx hb hK X.1 16 0 (kt_A18 (kt_st_ne rfl)) rfl b10 dX0_layOutTree_109 ?_
      refine lv_iconst (v := 1) hx hb dX0_layOutTree_110 (by decide) ?_
      refine lv_iadd hx hb dX0_layOutTree_111 ?_
      refine lv_topi (fun y11 e12 => ?_)
      have h := kt_nm_at e12 h
      obtain ⟨b13, h⟩ := kt_chk_some h
      refine va_iast (f := (kt_st σ 17 ((kt_ix y3)) y7) 18) hx hb hK X.1 X.2.1 X.2.2 16 0 (kt_A18 rfl) rfl b13 dX0_layOutTree_112 (fun H locs hP hD hS => ?_)
      have X : kt_X dC dI (kt_W h0 ad d1 (kt_st (kt_st σ 17 ((kt_ix y3)) y7) 18 ((kt_ix y3)) y11)) A s H locs := kt_XA18 hP hD hS
      refine lv_iinc (v := x1 + 1) (lv' := [(1, .int (x1 + 1)), (3, .int y7), (2, .int y3), (0, .ref h0)]) hx hb dX0_layOutTree_113 hl (k := 3) rfl rfl (by decide) rfl (fun ls hl => ?_)
      refine lv_goto (tgt := 65) hx hb dX0_layOutTree_116 (by decide) ?_
      exact ih (x1 + 1) (kt_st (kt_st σ 17 ((kt_ix y3)) y7) 18 ((kt_ix y3)) y11) r h H locs X ls (lv_sub hl [3, 0] rfl) kE
set_option maxHeartbeats 4000000 in
set_option maxRecDepth 100000 in
theorem wl_k_layOutTree_19 {p : Program} {l : Launch} {e : Env} {R : Room} {s : State} {m : MethodId} {args : Array Value} {below : List Frame} {meth : Method} {c : Code} {Q : State → Prop} {dC : Nat → ClassId} {dI : Nat → Nat → Nat} {d1 d2 : ClassId} {A : Nat → Prop} {h0 : Nat} {ad : Nat → Nat} (K : kt_E RX0 p s m meth c cX0_layOutTree 4 none args) (hK : va_K (dC, dI) vwCl (kt_T d1 d2) s) (hA : ∀ q : Nat, s.heap.size ≤ q → A q) :
    ∀ (n : Nat) (x1 : Int32) (σ : KSt) (r : Int32 × KSt), k_layOutTree_19 n x1 σ = some r → ∀ (H : Heap) (locs : List Loc), kt_X dC dI (kt_W h0 ad d1 σ) A s H locs → ∀ (ls : Array Slot), lv_has ls 4 [(0, .ref h0), (1, .int x1)] → (∀ (H : Heap) (locs : List Loc), kt_X dC dI (kt_W h0 ad d1 r.2) A s H locs → ∀ (ls : Array Slot), lv_has ls 4 [(0, .ref h0), (1, .int r.1)] → W p l e R s m args below meth c H locs 0 0 Q (F0 m 63 ls [])) → W p l e R s m args below meth c H locs 0 0 Q (F0 m 19 ls []) := by
  obtain ⟨hx, hb, hml, hown, hts, hr, hlocks⟩ := id K
  intro n
  induction n with
  | zero =>
    intro _ _ r h
    cases h
  | succ n ih =>
    intro x1 σ r h H locs X ls hl kE
    rw [k_layOutTree_19] at h
    refine lv_iload_n hx hb dX0_layOutTree_19 rfl (lv_at hl 1 rfl) ?_
    refine lv_bipush (v := 17) hx hb dX0_layOutTree_20 (by decide) ?_
    refine lv_icmp_ge (tgt := 63) hx hb dX0_layOutTree_22 (by decide) (fun c1 => ?_) (fun c1 => ?_)
    · have h := kt_ift c1 h
      cases h
      exact kE H locs X ls (lv_sub hl [0, 1] rfl)
    · have h := kt_iff c1 h
      refine lv_aload_n hx hb dX0_layOutTree_25 rfl (lv_at hl 0 rfl) ?_
      refine va_get (D := (dC, dI)) (ci := 0) (v := .ref (ad 19)) (C := RX0) (T := TX0) (N := 22) hx hb hts in_X0 hown hK X.1 0 kt_W0 rfl 19 (by decide) (hts _ q47) (fun _ h9 => h9) kt_F19 dX0_layOutTree_26 ?_
      refine lv_iload_n hx hb dX0_layOutTree_29 rfl (lv_at hl 1 rfl) ?_
      refine lv_aload_n hx hb dX0_layOutTree_30 rfl (lv_at hl 0 rfl) ?_
      refine va_get (D := (dC, dI)) (ci := 0) (v := .ref (ad 5)) (C := RX0) (T := TX0) (N := 22) hx hb hts in_X0 hown hK X.1 0 kt_W0 rfl 5 (by decide) (hts _ q33) (fun _ h9 => h9) kt_F5 dX0_layOutTree_31 ?_
      refine lv_iload_n hx hb dX0_layOutTree_34 rfl (lv_at hl 1 rfl) ?_
      obtain ⟨b2, h⟩ := kt_chk_some h
      refine va_iald (f := σ 5) hx hb hK X.1 3 0 (kt_A5 (rfl)) rfl b2 dX0_layOutTree_35 ?_
      refine lv_if_lt (tgt := 48) hx hb dX0_layOutTree_36 (by decide) (fun c3 => ?_) (fun c3 => ?_)
      · have h := kt_ift c3 h
        refine lv_iconst (v := 0) hx hb dX0_layOutTree_48 (by decide) ?_
        obtain ⟨b4, h⟩ := kt_chk_some h
        refine va_iast (f := σ 19) hx hb hK X.1 X.2.1 X.2.2 17 0 (kt_A19 rfl) rfl b4 dX0_layOutTree_49 (fun H locs hP hD hS => ?_)
        have X : kt_X dC dI (kt_W h0 ad d1 (kt_st σ 19 ((kt_ix x1)) 0)) A s H locs := kt_XA19 hP hD hS
        refine lv_aload_n hx hb dX0_layOutTree_50 rfl (lv_at hl 0 rfl) ?_
        refine va_get (D := (dC, dI)) (ci := 0) (v := .ref (ad 15)) (C := RX0) (T := TX0) (N := 22) hx hb hts in_X0 hown hK X.1 0 kt_W0 rfl 15 (by decide) (hts _ q43) (fun _ h9 => h9) kt_F15 dX0_layOutTree_51 ?_
        refine lv_iload_n hx hb dX0_layOutTree_54 rfl (lv_at hl 1 rfl) ?_
        refine lv_iconst (v := (-1)) hx hb dX0_layOutTree_55 (by decide) ?_
        obtain ⟨b5, h⟩ := kt_chk_some h
        refine va_iast (f := (kt_st σ 19 ((kt_ix x1)) 0) 15) hx hb hK X.1 X.2.1 X.2.2 13 0 (kt_A15 rfl) rfl b5 dX0_layOutTree_56 (fun H locs hP hD hS => ?_)
        have X : kt_X dC dI (kt_W h0 ad d1 (kt_st (kt_st σ 19 ((kt_ix x1)) 0) 15 ((kt_ix x1)) (-1))) A s H locs := kt_XA15 hP hD hS
        refine lv_iinc (v := x1 + 1) (lv' := [(1, .int (x1 + 1)), (0, .ref h0)]) hx hb dX0_layOutTree_57 hl (k := 1) rfl rfl (by decide) rfl (fun ls hl => ?_)
        refine lv_goto (tgt := 19) hx hb dX0_layOutTree_60 (by decide) ?_
        exact ih (x1 + 1) (kt_st (kt_st σ 19 ((kt_ix x1)) 0) 15 ((kt_ix x1)) (-1)) r h H locs X ls (lv_sub hl [1, 0] rfl) kE
      · have h := kt_iff c3 h
        refine lv_aload_n hx hb dX0_layOutTree_39 rfl (lv_at hl 0 rfl) ?_
        refine va_get (D := (dC, dI)) (ci := 0) (v := .ref (ad 0)) (C := RX0) (T := TX0) (N := 22) hx hb hts in_X0 hown hK X.1 0 kt_W0 rfl 0 (by decide) (hts _ q28) (fun _ h9 => h9) kt_F0 dX0_layOutTree_40 ?_
        refine lv_iload_n hx hb dX0_layOutTree_43 rfl (lv_at hl 1 rfl) ?_
        obtain ⟨b6, h⟩ := kt_chk_some h
        refine va_iald (f := σ 0) hx hb hK X.1 1 0 (kt_A0 (rfl)) rfl b6 dX0_layOutTree_44 ?_
        refine lv_goto (tgt := 49) hx hb dX0_layOutTree_45 (by decide) ?_
        refine lv_topi (fun y7 e8 => ?_)
        have h := kt_nm_at e8 h
        obtain ⟨b9, h⟩ := kt_chk_some h
        refine va_iast (f := σ 19) hx hb hK X.1 X.2.1 X.2.2 17 0 (kt_A19 rfl) rfl b9 dX0_layOutTree_49 (fun H locs hP hD hS => ?_)
        have X : kt_X dC dI (kt_W h0 ad d1 (kt_st σ 19 ((kt_ix x1)) y7)) A s H locs := kt_XA19 hP hD hS
        refine lv_aload_n hx hb dX0_layOutTree_50 rfl (lv_at hl 0 rfl) ?_
        refine va_get (D := (dC, dI)) (ci := 0) (v := .ref (ad 15)) (C := RX0) (T := TX0) (N := 22) hx hb hts in_X0 hown hK X.1 0 kt_W0 rfl 15 (by decide) (hts _ q43) (fun _ h9 => h9) kt_F15 dX0_layOutTree_51 ?_
        refine lv_iload_n hx hb dX0_layOutTree_54 rfl (lv_at hl 1 rfl) ?_
        refine lv_iconst (v := (-1)) hx hb dX0_layOutTree_55 (by decide) ?_
        obtain ⟨b10, h⟩ := kt_chk_some h
        refine va_iast (f := (kt_st σ 19 ((kt_ix x1)) y7) 15) hx hb hK X.1 X.2.1 X.2.2 13 0 (kt_A15 rfl) rfl b10 dX0_layOutTree_56 (fun H locs hP hD hS => ?_)
        have X : kt_X dC dI (kt_W h0 ad d1 (kt_st (kt_st σ 19 ((kt_ix x1)) y7) 15 ((kt_ix x1)) (-1))) A s H locs := kt_XA15 hP hD hS
        refine lv_iinc (v := x1 + 1) (lv' := [(1, .int (x1 + 1)), (0, .ref h0)]) hx hb dX0_layOutTree_57 hl (k := 1) rfl rfl (by decide) rfl (fun ls hl => ?_)
        refine lv_goto (tgt := 19) hx hb dX0_layOutTree_60 (by decide) ?_
        exact ih (x1 + 1) (kt_st (kt_st σ 19 ((kt_ix x1)) y7) 15 ((kt_ix x1)) (-1)) r h H locs X ls (lv_sub hl [1, 0] rfl) kE
set_option maxHeartbeats 4000000 in
set_option maxRecDepth 100000 in
/-- KeepTree.layOutTree()V -/
theorem met_k_layOutTree (l : Launch) (dC : Nat → ClassId) (dI : Nat → Nat → Nat) (h0 : Nat) (ad : Nat → Nat) (d1 d2 : ClassId) (N : Nat) (σ : KSt) (a : KSt) (h : k_layOutTree N σ = some a) : kt_Cv l yX0_layOutTree (ws_ yX0_layOutTree cX0_layOutTree 4 none) ({ frames := 1, cells := 0, slots := 0, locals := 25 } : Room) h0 [] dC dI (kt_T d1 d2) (kt_W h0 ad d1) σ a := by
  refine kt_enter (Qc := fun A => kt_Qv a dC dI (kt_T d1 d2) (kt_W h0 ad d1) A) (by decide) (Nat.le_of_ble_eq_true rfl) ?_
  intro p e s m below meth c A ls K hK hA X hl
  have K : kt_E RX0 p s m meth c cX0_layOutTree 4 none _ := K
  obtain ⟨hx, hb, hml, hown, hts, hr, hlocks⟩ := id K
  generalize hs0 : s.heap = H at X ⊢
  generalize hl0 : ([] : List Loc) = locs at X ⊢
  have hRf : 1 ≤ (({ frames := 1, cells := 0, slots := 0, locals := 25 } : Room)).frames := Nat.le_refl _
  have hRl : 25 ≤ (({ frames := 1, cells := 0, slots := 0, locals := 25 } : Room)).locals := Nat.le_refl _
  have hl : lv_has ls 4 [(0, .ref h0)] := hl
  rw [k_layOutTree] at h
  refine lv_aload_n hx hb dX0_layOutTree_0 rfl (lv_at hl 0 rfl) ?_
  refine va_get (D := (dC, dI)) (ci := 0) (v := .ref (ad 17)) (C := RX0) (T := TX0) (N := 22) hx hb hts in_X0 hown hK X.1 0 kt_W0 rfl 17 (by decide) (hts _ q45) (fun _ h9 => h9) kt_F17 dX0_layOutTree_1 ?_
  refine lv_bipush (v := 16) hx hb dX0_layOutTree_4 (by decide) ?_
  refine lv_bipush (v := 16) hx hb dX0_layOutTree_6 (by decide) ?_
  obtain ⟨b1, h⟩ := kt_chk_some h
  refine va_iast (f := σ 17) hx hb hK X.1 X.2.1 X.2.2 15 0 (kt_A17 rfl) rfl b1 dX0_layOutTree_8 (fun H locs hP hD hS => ?_)
  have X : kt_X dC dI (kt_W h0 ad d1 (kt_st σ 17 ((kt_ix 16)) 16)) A s H locs := kt_XA17 hP hD hS
  refine lv_aload_n hx hb dX0_layOutTree_9 rfl (lv_at hl 0 rfl) ?_
  refine va_get (D := (dC, dI)) (ci := 0) (v := .ref (ad 18)) (C := RX0) (T := TX0) (N := 22) hx hb hts in_X0 hown hK X.1 0 kt_W0 rfl 18 (by decide) (hts _ q46) (fun _ h9 => h9) kt_F18 dX0_layOutTree_10 ?_
  refine lv_bipush (v := 16) hx hb dX0_layOutTree_13 (by decide) ?_
  refine lv_iconst (v := 0) hx hb dX0_layOutTree_15 (by decide) ?_
  obtain ⟨b2, h⟩ := kt_chk_some h
  refine va_iast (f := (kt_st σ 17 ((kt_ix 16)) 16) 18) hx hb hK X.1 X.2.1 X.2.2 16 0 (kt_A18 rfl) rfl b2 dX0_layOutTree_16 (fun H locs hP hD hS => ?_)
  have X : kt_X dC dI (kt_W h0 ad d1 (kt_st (kt_st σ 17 ((kt_ix 16)) 16) 18 ((kt_ix 16)) 0)) A s H locs := kt_XA18 hP hD hS
  refine lv_iconst (v := 0) hx hb dX0_layOutTree_17 (by decide) ?_
  refine lv_istore_n (lv' := [(1, .int 0), (0, .ref h0)]) hx hb dX0_layOutTree_18 rfl hl (by decide) rfl (fun ls hl => ?_)
  obtain ⟨a3, e4, h⟩ := kt_bnd h
  refine wl_k_layOutTree_19 K hK hA N 0 (kt_st (kt_st σ 17 ((kt_ix 16)) 16) 18 ((kt_ix 16)) 0) a3 e4 H locs X ls (lv_sub hl [1, 0] rfl) (fun H locs X ls hl => ?_)
  refine lv_iconst (v := 1) hx hb dX0_layOutTree_63 (by decide) ?_
  refine lv_istore_n (lv' := [(1, .int 1), (0, .ref h0)]) hx hb dX0_layOutTree_64 rfl hl (by decide) rfl (fun ls hl => ?_)
  obtain ⟨a5, e6, h⟩ := kt_bnd h
  refine wl_k_layOutTree_65 K hK hA N 1 a3.2 a5 e6 H locs X ls (lv_sub hl [1, 0] rfl) (fun H locs X ls hl => ?_)
  refine lv_aload_n hx hb dX0_layOutTree_119 rfl (lv_at hl 0 rfl) ?_
  refine va_get (D := (dC, dI)) (ci := 0) (v := .int (a5.2 4 0)) (C := RX0) (T := TX0) (N := 22) hx hb hts in_X0 hown hK X.1 0 kt_W0 rfl 4 (by decide) (hts _ q32) (fun _ h9 => h9) (kt_F4 (rfl)) dX0_layOutTree_120 ?_
  refine lv_iconst (v := 1) hx hb dX0_layOutTree_123 (by decide) ?_
  refine lv_isub hx hb dX0_layOutTree_124 ?_
  refine lv_topi (fun y7 e8 => ?_)
  have h := kt_nm_at e8 h
  refine lv_istore_n (lv' := [(1, .int y7), (0, .ref h0)]) hx hb dX0_layOutTree_125 rfl hl (by decide) rfl (fun ls hl => ?_)
  obtain ⟨a9, e10, h⟩ := kt_bnd h
  refine wl_k_layOutTree_126 K hK hA N y7 a5.2 a9 e10 H locs X ls (lv_sub hl [1, 0] rfl) (fun H locs X ls hl => ?_)
  refine lv_aload_n hx hb dX0_layOutTree_184 rfl (lv_at hl 0 rfl) ?_
  obtain ⟨a11, e12, h⟩ := kt_bnd h
  refine kt_callv (WS := kt_W h0 ad d1) (σ := a9.2) (As := []) (rest := []) K hK hA (met_k_walkTree l dC dI h0 ad d1 d2 N a9.2 a11 e12) (cwV 0 hts (lw_V q150 q152 qs8 q18 q153) rfl rfl rfl (by decide +kernel) ⟨Nat.le_trans (Nat.le_of_ble_eq_true rfl) hRf, Nat.le_trans (Nat.le_of_ble_eq_true rfl) hRl⟩) (va_recv hK X.1 (ci := 0) (q0 := 0) rfl kt_W0) rfl hl.1 rfl (Nat.le_of_ble_eq_true rfl) dX0_layOutTree_185 X (fun H locs X => ?_)
  exact kt_vret (WS := kt_W h0 ad d1) (σ := a11) K hK X h dX0_layOutTree_188
set_option maxHeartbeats 4000000 in
set_option maxRecDepth 100000 in
/-- KeepTree.prepare()V -/
theorem met_k_prepare (l : Launch) (dC : Nat → ClassId) (dI : Nat → Nat → Nat) (h0 : Nat) (ad : Nat → Nat) (d1 d2 : ClassId) (N : Nat) (σ : KSt) (a : KSt) (h : k_prepare N σ = some a) : kt_Cv l yX0_prepare (ws_ yX0_prepare cX0_prepare 1 none) ({ frames := 3, cells := 0, slots := 0, locals := 71 } : Room) h0 [] dC dI (kt_T d1 d2) (kt_W h0 ad d1) σ a := by
  refine kt_enter (Qc := fun A => kt_Qv a dC dI (kt_T d1 d2) (kt_W h0 ad d1) A) (by decide) (Nat.le_of_ble_eq_true rfl) ?_
  intro p e s m below meth c A ls K hK hA X hl
  have K : kt_E RX0 p s m meth c cX0_prepare 1 none _ := K
  obtain ⟨hx, hb, hml, hown, hts, hr, hlocks⟩ := id K
  generalize hs0 : s.heap = H at X ⊢
  generalize hl0 : ([] : List Loc) = locs at X ⊢
  have hRf : 3 ≤ (({ frames := 3, cells := 0, slots := 0, locals := 71 } : Room)).frames := Nat.le_refl _
  have hRl : 71 ≤ (({ frames := 3, cells := 0, slots := 0, locals := 71 } : Room)).locals := Nat.le_refl _
  have hl : lv_has ls 1 [(0, .ref h0)] := hl
  rw [k_prepare] at h
  refine lv_aload_n hx hb dX0_prepare_0 rfl (lv_at hl 0 rfl) ?_
  refine va_get (D := (dC, dI)) (ci := 0) (v := .int (σ 3 0)) (C := RX0) (T := TX0) (N := 22) hx hb hts in_X0 hown hK X.1 0 kt_W0 rfl 3 (by decide) (hts _ q31) (fun _ h9 => h9) (kt_F3 (rfl)) dX0_prepare_1 ?_
  refine lv_if_eq (tgt := 8) hx hb dX0_prepare_4 (by decide) (fun c1 => ?_) (fun c1 => ?_)
  · have h := kt_ift c1 h
    refine lv_aload_n hx hb dX0_prepare_8 rfl (lv_at hl 0 rfl) ?_
    refine lv_iconst (v := 1) hx hb dX0_prepare_9 (by decide) ?_
    refine va_put (D := (dC, dI)) (ci := 0) (v := .int 1) (ty := .boolean) (C := RX0) (T := TX0) (N := 22) hx hb hts in_X0 tyX0 tyX0_ok nmX0 hown hK X.1 X.2.1 X.2.2 0 kt_W0 rfl 3 (by decide) (hts _ q31) (fun _ h9 => h9) rfl (by decide +kernel) rfl rfl kt_FL3 dX0_prepare_10 (fun H locs hP hD hS => ?_)
    have X : kt_X dC dI (kt_W h0 ad d1 (kt_st σ 3 0 1)) A s H locs := kt_XF3 hP hD hS
    refine lv_aload_n hx hb dX0_prepare_13 rfl (lv_at hl 0 rfl) ?_
    refine va_get (D := (dC, dI)) (ci := 0) (v := .ref (ad 1)) (C := RX0) (T := TX0) (N := 22) hx hb hts in_X0 hown hK X.1 0 kt_W0 rfl 1 (by decide) (hts _ q29) (fun _ h9 => h9) kt_F1 dX0_prepare_14 ?_
    refine lv_bipush (v := 16) hx hb dX0_prepare_17 (by decide) ?_
    refine lv_aload_n hx hb dX0_prepare_19 rfl (lv_at hl 0 rfl) ?_
    refine va_get (D := (dC, dI)) (ci := 0) (v := .int (σ 2 0)) (C := RX0) (T := TX0) (N := 22) hx hb hts in_X0 hown hK X.1 0 kt_W0 rfl 2 (by decide) (hts _ q30) (fun _ h9 => h9) (kt_F2 (congrFun (kt_st_ne rfl) 0)) dX0_prepare_20 ?_
    refine lv_topi (fun y2 e3 => ?_)
    have h := kt_nm_at e3 h
    obtain ⟨b4, h⟩ := kt_chk_some h
    refine va_iast (f := (kt_st σ 3 0 1) 1) hx hb hK X.1 X.2.1 X.2.2 2 0 (kt_A1 rfl) rfl b4 dX0_prepare_23 (fun H locs hP hD hS => ?_)
    have X : kt_X dC dI (kt_W h0 ad d1 (kt_st (kt_st σ 3 0 1) 1 ((kt_ix 16)) y2)) A s H locs := kt_XA1 hP hD hS
    refine lv_aload_n hx hb dX0_prepare_24 rfl (lv_at hl 0 rfl) ?_
    obtain ⟨a5, e6, h⟩ := kt_bnd h
    refine kt_callv (WS := kt_W h0 ad d1) (σ := kt_st (kt_st σ 3 0 1) 1 ((kt_ix 16)) y2) (As := []) (rest := []) K hK hA (met_k_numberVertices l dC dI h0 ad d1 d2 N (kt_st (kt_st σ 3 0 1) 1 ((kt_ix 16)) y2) a5 e6) (cwV 0 hts (lw_V q119 q121 qs1 q18 q122) rfl rfl rfl (by decide +kernel) ⟨Nat.le_trans (Nat.le_of_ble_eq_true rfl) hRf, Nat.le_trans (Nat.le_of_ble_eq_true rfl) hRl⟩) (va_recv hK X.1 (ci := 0) (q0 := 0) rfl kt_W0) rfl hl.1 rfl (Nat.le_of_ble_eq_true rfl) dX0_prepare_25 X (fun H locs X => ?_)
    refine lv_aload_n hx hb dX0_prepare_28 rfl (lv_at hl 0 rfl) ?_
    obtain ⟨a7, e8, h⟩ := kt_bnd h
    refine kt_callv (WS := kt_W h0 ad d1) (σ := a5) (As := []) (rest := []) K hK hA (met_k_findDominators l dC dI h0 ad d1 d2 N a5 a7 e8) (cwV 0 hts (lw_V q130 q132 qs3 q18 q133) rfl rfl rfl (by decide +kernel) ⟨Nat.le_trans (Nat.le_of_ble_eq_true rfl) hRf, Nat.le_trans (Nat.le_of_ble_eq_true rfl) hRl⟩) (va_recv hK X.1 (ci := 0) (q0 := 0) rfl kt_W0) rfl hl.1 rfl (Nat.le_of_ble_eq_true rfl) dX0_prepare_29 X (fun H locs X => ?_)
    refine lv_aload_n hx hb dX0_prepare_32 rfl (lv_at hl 0 rfl) ?_
    obtain ⟨a9, e10, h⟩ := kt_bnd h
    refine kt_callv (WS := kt_W h0 ad d1) (σ := a7) (As := []) (rest := []) K hK hA (met_k_layOutTree l dC dI h0 ad d1 d2 N a7 a9 e10) (cwV 0 hts (lw_V q146 q148 qs7 q18 q149) rfl rfl rfl (by decide +kernel) ⟨Nat.le_trans (Nat.le_of_ble_eq_true rfl) hRf, Nat.le_trans (Nat.le_of_ble_eq_true rfl) hRl⟩) (va_recv hK X.1 (ci := 0) (q0 := 0) rfl kt_W0) rfl hl.1 rfl (Nat.le_of_ble_eq_true rfl) dX0_prepare_33 X (fun H locs X => ?_)
    exact kt_vret (WS := kt_W h0 ad d1) (σ := a9) K hK X h dX0_prepare_36
  · have h := kt_iff c1 h
    exact kt_vret (WS := kt_W h0 ad d1) (σ := σ) K hK X h dX0_prepare_7
end
section
set_option maxHeartbeats 4000000 in
set_option maxRecDepth 100000 in
/-- KeepTree.alive(I)I -/
theorem met_k_alive (l : Launch) (dC : Nat → ClassId) (dI : Nat → Nat → Nat) (h0 : Nat) (ad : Nat → Nat) (d1 d2 : ClassId) (N : Nat) (σ : KSt) (x1 : Int32) (a : Int32 × KSt) (h : k_alive N σ x1 = some a) : kt_Ci l yX0_alive (ws_ yX0_alive cX0_alive 2 (some .int)) ({ frames := 4, cells := 0, slots := 0, locals := 91 } : Room) h0 [.int x1] dC dI (kt_T d1 d2) (kt_W h0 ad d1) σ a := by
  refine kt_enter (Qc := fun A => kt_Qi a dC dI (kt_T d1 d2) (kt_W h0 ad d1) A) (by decide) (Nat.le_of_ble_eq_true rfl) ?_
  intro p e s m below meth c A ls K hK hA X hl
  have K : kt_E RX0 p s m meth c cX0_alive 2 (some .int) _ := K
  obtain ⟨hx, hb, hml, hown, hts, hr, hlocks⟩ := id K
  generalize hs0 : s.heap = H at X ⊢
  generalize hl0 : ([] : List Loc) = locs at X ⊢
  have hRf : 4 ≤ (({ frames := 4, cells := 0, slots := 0, locals := 91 } : Room)).frames := Nat.le_refl _
  have hRl : 91 ≤ (({ frames := 4, cells := 0, slots := 0, locals := 91 } : Room)).locals := Nat.le_refl _
  have hl : lv_has ls 2 [(0, .ref h0), (1, .int x1)] := hl
  rw [k_alive] at h
  refine lv_iload_n hx hb dX0_alive_0 rfl (lv_at hl 1 rfl) ?_
  obtain ⟨a1, e2, h⟩ := kt_bnd h
  refine kt_calls (As := [.int x1]) (rest := []) K (met_k_isObject l x1 a1 e2) (va_cwS 1 hts (lw_S q100 q101 q18 q102) rfl rfl rfl (by decide +kernel) ⟨Nat.le_trans (Nat.le_of_ble_eq_true rfl) hRf, Nat.le_trans (Nat.le_of_ble_eq_true rfl) hRl⟩) rfl hl.1 rfl (Nat.le_of_ble_eq_true rfl) dX0_alive_1 X (fun H locs X => ?_)
  refine lv_if_ne (tgt := 10) hx hb dX0_alive_4 (by decide) (fun c3 => ?_) (fun c3 => ?_)
  · have h := kt_iff c3 h
    refine lv_aload_n hx hb dX0_alive_10 rfl (lv_at hl 0 rfl) ?_
    obtain ⟨a4, e5, h⟩ := kt_bnd h
    refine kt_callv (WS := kt_W h0 ad d1) (σ := σ) (As := []) (rest := []) K hK hA (met_k_prepare l dC dI h0 ad d1 d2 N σ a4 e5) (cwV 0 hts (lw_V q115 q117 qs0 q18 q118) rfl rfl rfl (by decide +kernel) ⟨Nat.le_trans (Nat.le_of_ble_eq_true rfl) hRf, Nat.le_trans (Nat.le_of_ble_eq_true rfl) hRl⟩) (va_recv hK X.1 (ci := 0) (q0 := 0) rfl kt_W0) rfl hl.1 rfl (Nat.le_of_ble_eq_true rfl) dX0_alive_11 X (fun H locs X => ?_)
    refine lv_aload_n hx hb dX0_alive_14 rfl (lv_at hl 0 rfl) ?_
    refine va_get (D := (dC, dI)) (ci := 0) (v := .ref (ad 5)) (C := RX0) (T := TX0) (N := 22) hx hb hts in_X0 hown hK X.1 0 kt_W0 rfl 5 (by decide) (hts _ q33) (fun _ h9 => h9) kt_F5 dX0_alive_15 ?_
    refine lv_iload_n hx hb dX0_alive_18 rfl (lv_at hl 1 rfl) ?_
    obtain ⟨b6, h⟩ := kt_chk_some h
    refine va_iald (f := a4 5) hx hb hK X.1 3 0 (kt_A5 (rfl)) rfl b6 dX0_alive_19 ?_
    refine lv_if_lt (tgt := 27) hx hb dX0_alive_20 (by decide) (fun c7 => ?_) (fun c7 => ?_)
    · have h := kt_ift c7 h
      refine lv_iconst (v := 0) hx hb dX0_alive_27 (by decide) ?_
      exact kt_iret (v := 0) (WS := kt_W h0 ad d1) (σ := a4) K hK X h dX0_alive_28
    · have h := kt_iff c7 h
      refine lv_iconst (v := 1) hx hb dX0_alive_23 (by decide) ?_
      refine lv_goto (tgt := 28) hx hb dX0_alive_24 (by decide) ?_
      exact kt_iret (v := 1) (WS := kt_W h0 ad d1) (σ := a4) K hK X h dX0_alive_28
  · have h := kt_ift c3 h
    refine lv_bipush (v := (-2)) hx hb dX0_alive_7 (by decide) ?_
    exact kt_iret (v := (-2)) (WS := kt_W h0 ad d1) (σ := σ) K hK X h dX0_alive_9
set_option maxHeartbeats 4000000 in
set_option maxRecDepth 100000 in
/-- KeepTree.keeper(I)I -/
theorem met_k_keeper (l : Launch) (dC : Nat → ClassId) (dI : Nat → Nat → Nat) (h0 : Nat) (ad : Nat → Nat) (d1 d2 : ClassId) (N : Nat) (σ : KSt) (x1 : Int32) (a : Int32 × KSt) (h : k_keeper N σ x1 = some a) : kt_Ci l yX0_keeper (ws_ yX0_keeper cX0_keeper 2 (some .int)) ({ frames := 4, cells := 0, slots := 0, locals := 91 } : Room) h0 [.int x1] dC dI (kt_T d1 d2) (kt_W h0 ad d1) σ a := by
  refine kt_enter (Qc := fun A => kt_Qi a dC dI (kt_T d1 d2) (kt_W h0 ad d1) A) (by decide) (Nat.le_of_ble_eq_true rfl) ?_
  intro p e s m below meth c A ls K hK hA X hl
  have K : kt_E RX0 p s m meth c cX0_keeper 2 (some .int) _ := K
  obtain ⟨hx, hb, hml, hown, hts, hr, hlocks⟩ := id K
  generalize hs0 : s.heap = H at X ⊢
  generalize hl0 : ([] : List Loc) = locs at X ⊢
  have hRf : 4 ≤ (({ frames := 4, cells := 0, slots := 0, locals := 91 } : Room)).frames := Nat.le_refl _
  have hRl : 91 ≤ (({ frames := 4, cells := 0, slots := 0, locals := 91 } : Room)).locals := Nat.le_refl _
  have hl : lv_has ls 2 [(0, .ref h0), (1, .int x1)] := hl
  rw [k_keeper] at h
  refine lv_iload_n hx hb dX0_keeper_0 rfl (lv_at hl 1 rfl) ?_
  obtain ⟨a1, e2, h⟩ := kt_bnd h
  refine kt_calls (As := [.int x1]) (rest := []) K (met_k_isObject l x1 a1 e2) (va_cwS 1 hts (lw_S q100 q101 q18 q102) rfl rfl rfl (by decide +kernel) ⟨Nat.le_trans (Nat.le_of_ble_eq_true rfl) hRf, Nat.le_trans (Nat.le_of_ble_eq_true rfl) hRl⟩) rfl hl.1 rfl (Nat.le_of_ble_eq_true rfl) dX0_keeper_1 X (fun H locs X => ?_)
  refine lv_if_ne (tgt := 10) hx hb dX0_keeper_4 (by decide) (fun c3 => ?_) (fun c3 => ?_)
  · have h := kt_iff c3 h
    refine lv_aload_n hx hb dX0_keeper_10 rfl (lv_at hl 0 rfl) ?_
    obtain ⟨a4, e5, h⟩ := kt_bnd h
    refine kt_callv (WS := kt_W h0 ad d1) (σ := σ) (As := []) (rest := []) K hK hA (met_k_prepare l dC dI h0 ad d1 d2 N σ a4 e5) (cwV 0 hts (lw_V q115 q117 qs0 q18 q118) rfl rfl rfl (by decide +kernel) ⟨Nat.le_trans (Nat.le_of_ble_eq_true rfl) hRf, Nat.le_trans (Nat.le_of_ble_eq_true rfl) hRl⟩) (va_recv hK X.1 (ci := 0) (q0 := 0) rfl kt_W0) rfl hl.1 rfl (Nat.le_of_ble_eq_true rfl) dX0_keeper_11 X (fun H locs X => ?_)
    refine lv_aload_n hx hb dX0_keeper_14 rfl (lv_at hl 0 rfl) ?_
    refine va_get (D := (dC, dI)) (ci := 0) (v := .ref (ad 5)) (C := RX0) (T := TX0) (N := 22) hx hb hts in_X0 hown hK X.1 0 kt_W0 rfl 5 (by decide) (hts _ q33) (fun _ h9 => h9) kt_F5 dX0_keeper_15 ?_
    refine lv_iload_n hx hb dX0_keeper_18 rfl (lv_at hl 1 rfl) ?_
    obtain ⟨b6, h⟩ := kt_chk_some h
    refine va_iald (f := a4 5) hx hb hK X.1 3 0 (kt_A5 (rfl)) rfl b6 dX0_keeper_19 ?_
    refine lv_if_lt (tgt := 35) hx hb dX0_keeper_20 (by decide) (fun c7 => ?_) (fun c7 => ?_)
    · have h := kt_ift c7 h
      refine lv_iconst (v := (-1)) hx hb dX0_keeper_35 (by decide) ?_
      exact kt_iret (v := (-1)) (WS := kt_W h0 ad d1) (σ := a4) K hK X h dX0_keeper_36
    · have h := kt_iff c7 h
      refine lv_aload_n hx hb dX0_keeper_23 rfl (lv_at hl 0 rfl) ?_
      refine va_get (D := (dC, dI)) (ci := 0) (v := .ref (ad 17)) (C := RX0) (T := TX0) (N := 22) hx hb hts in_X0 hown hK X.1 0 kt_W0 rfl 17 (by decide) (hts _ q45) (fun _ h9 => h9) kt_F17 dX0_keeper_24 ?_
      refine lv_iload_n hx hb dX0_keeper_27 rfl (lv_at hl 1 rfl) ?_
      obtain ⟨b8, h⟩ := kt_chk_some h
      refine va_iald (f := a4 17) hx hb hK X.1 15 0 (kt_A17 (rfl)) rfl b8 dX0_keeper_28 ?_
      obtain ⟨a9, e10, h⟩ := kt_bnd h
      refine kt_calls (As := [.int (a4 17 (kt_ix x1))]) (rest := []) K (met_k_visible l (a4 17 (kt_ix x1)) a9 e10) (va_cwS 1 hts (lw_S q158 q159 q18 q160) rfl rfl rfl (by decide +kernel) ⟨Nat.le_trans (Nat.le_of_ble_eq_true rfl) hRf, Nat.le_trans (Nat.le_of_ble_eq_true rfl) hRl⟩) rfl hl.1 rfl (Nat.le_of_ble_eq_true rfl) dX0_keeper_29 X (fun H locs X => ?_)
      refine lv_goto (tgt := 36) hx hb dX0_keeper_32 (by decide) ?_
      exact kt_iret (v := a9) (WS := kt_W h0 ad d1) (σ := a4) K hK X h dX0_keeper_36
  · have h := kt_ift c3 h
    refine lv_bipush (v := (-2)) hx hb dX0_keeper_7 (by decide) ?_
    exact kt_iret (v := (-2)) (WS := kt_W h0 ad d1) (σ := σ) K hK X h dX0_keeper_9
set_option maxHeartbeats 4000000 in
set_option maxRecDepth 100000 in
/-- KeepTree.held(I)I -/
theorem met_k_held (l : Launch) (dC : Nat → ClassId) (dI : Nat → Nat → Nat) (h0 : Nat) (ad : Nat → Nat) (d1 d2 : ClassId) (N : Nat) (σ : KSt) (x1 : Int32) (a : Int32 × KSt) (h : k_held N σ x1 = some a) : kt_Ci l yX0_held (ws_ yX0_held cX0_held 2 (some .int)) ({ frames := 4, cells := 0, slots := 0, locals := 91 } : Room) h0 [.int x1] dC dI (kt_T d1 d2) (kt_W h0 ad d1) σ a := by
  refine kt_enter (Qc := fun A => kt_Qi a dC dI (kt_T d1 d2) (kt_W h0 ad d1) A) (by decide) (Nat.le_of_ble_eq_true rfl) ?_
  intro p e s m below meth c A ls K hK hA X hl
  have K : kt_E RX0 p s m meth c cX0_held 2 (some .int) _ := K
  obtain ⟨hx, hb, hml, hown, hts, hr, hlocks⟩ := id K
  generalize hs0 : s.heap = H at X ⊢
  generalize hl0 : ([] : List Loc) = locs at X ⊢
  have hRf : 4 ≤ (({ frames := 4, cells := 0, slots := 0, locals := 91 } : Room)).frames := Nat.le_refl _
  have hRl : 91 ≤ (({ frames := 4, cells := 0, slots := 0, locals := 91 } : Room)).locals := Nat.le_refl _
  have hl : lv_has ls 2 [(0, .ref h0), (1, .int x1)] := hl
  rw [k_held] at h
  refine lv_iload_n hx hb dX0_held_0 rfl (lv_at hl 1 rfl) ?_
  obtain ⟨a1, e2, h⟩ := kt_bnd h
  refine kt_calls (As := [.int x1]) (rest := []) K (met_k_isObject l x1 a1 e2) (va_cwS 1 hts (lw_S q100 q101 q18 q102) rfl rfl rfl (by decide +kernel) ⟨Nat.le_trans (Nat.le_of_ble_eq_true rfl) hRf, Nat.le_trans (Nat.le_of_ble_eq_true rfl) hRl⟩) rfl hl.1 rfl (Nat.le_of_ble_eq_true rfl) dX0_held_1 X (fun H locs X => ?_)
  refine lv_if_ne (tgt := 10) hx hb dX0_held_4 (by decide) (fun c3 => ?_) (fun c3 => ?_)
  · have h := kt_iff c3 h
    refine lv_aload_n hx hb dX0_held_10 rfl (lv_at hl 0 rfl) ?_
    obtain ⟨a4, e5, h⟩ := kt_bnd h
    refine kt_callv (WS := kt_W h0 ad d1) (σ := σ) (As := []) (rest := []) K hK hA (met_k_prepare l dC dI h0 ad d1 d2 N σ a4 e5) (cwV 0 hts (lw_V q115 q117 qs0 q18 q118) rfl rfl rfl (by decide +kernel) ⟨Nat.le_trans (Nat.le_of_ble_eq_true rfl) hRf, Nat.le_trans (Nat.le_of_ble_eq_true rfl) hRl⟩) (va_recv hK X.1 (ci := 0) (q0 := 0) rfl kt_W0) rfl hl.1 rfl (Nat.le_of_ble_eq_true rfl) dX0_held_11 X (fun H locs X => ?_)
    refine lv_aload_n hx hb dX0_held_14 rfl (lv_at hl 0 rfl) ?_
    refine va_get (D := (dC, dI)) (ci := 0) (v := .ref (ad 5)) (C := RX0) (T := TX0) (N := 22) hx hb hts in_X0 hown hK X.1 0 kt_W0 rfl 5 (by decide) (hts _ q33) (fun _ h9 => h9) kt_F5 dX0_held_15 ?_
    refine lv_iload_n hx hb dX0_held_18 rfl (lv_at hl 1 rfl) ?_
    obtain ⟨b6, h⟩ := kt_chk_some h
    refine va_iald (f := a4 5) hx hb hK X.1 3 0 (kt_A5 (rfl)) rfl b6 dX0_held_19 ?_
    refine lv_if_lt (tgt := 32) hx hb dX0_held_20 (by decide) (fun c7 => ?_) (fun c7 => ?_)
    · have h := kt_ift c7 h
      refine lv_iconst (v := 0) hx hb dX0_held_32 (by decide) ?_
      exact kt_iret (v := 0) (WS := kt_W h0 ad d1) (σ := a4) K hK X h dX0_held_33
    · have h := kt_iff c7 h
      refine lv_aload_n hx hb dX0_held_23 rfl (lv_at hl 0 rfl) ?_
      refine va_get (D := (dC, dI)) (ci := 0) (v := .ref (ad 19)) (C := RX0) (T := TX0) (N := 22) hx hb hts in_X0 hown hK X.1 0 kt_W0 rfl 19 (by decide) (hts _ q47) (fun _ h9 => h9) kt_F19 dX0_held_24 ?_
      refine lv_iload_n hx hb dX0_held_27 rfl (lv_at hl 1 rfl) ?_
      obtain ⟨b8, h⟩ := kt_chk_some h
      refine va_iald (f := a4 19) hx hb hK X.1 17 0 (kt_A19 (rfl)) rfl b8 dX0_held_28 ?_
      refine lv_goto (tgt := 33) hx hb dX0_held_29 (by decide) ?_
      exact kt_iret (v := a4 19 (kt_ix x1)) (WS := kt_W h0 ad d1) (σ := a4) K hK X h dX0_held_33
  · have h := kt_ift c3 h
    refine lv_bipush (v := (-2)) hx hb dX0_held_7 (by decide) ?_
    exact kt_iret (v := (-2)) (WS := kt_W h0 ad d1) (σ := σ) K hK X h dX0_held_9
set_option maxHeartbeats 4000000 in
set_option maxRecDepth 100000 in
/-- KeepTree.guards(II)I -/
theorem met_k_guards (l : Launch) (dC : Nat → ClassId) (dI : Nat → Nat → Nat) (h0 : Nat) (ad : Nat → Nat) (d1 d2 : ClassId) (N : Nat) (σ : KSt) (x1 x2 : Int32) (a : Int32 × KSt) (h : k_guards N σ x1 x2 = some a) : kt_Ci l yX0_guards (ws_ yX0_guards cX0_guards 3 (some .int)) ({ frames := 4, cells := 0, slots := 0, locals := 91 } : Room) h0 [.int x1, .int x2] dC dI (kt_T d1 d2) (kt_W h0 ad d1) σ a := by
  refine kt_enter (Qc := fun A => kt_Qi a dC dI (kt_T d1 d2) (kt_W h0 ad d1) A) (by decide) (Nat.le_of_ble_eq_true rfl) ?_
  intro p e s m below meth c A ls K hK hA X hl
  have K : kt_E RX0 p s m meth c cX0_guards 3 (some .int) _ := K
  obtain ⟨hx, hb, hml, hown, hts, hr, hlocks⟩ := id K
  generalize hs0 : s.heap = H at X ⊢
  generalize hl0 : ([] : List Loc) = locs at X ⊢
  have hRf : 4 ≤ (({ frames := 4, cells := 0, slots := 0, locals := 91 } : Room)).frames := Nat.le_refl _
  have hRl : 91 ≤ (({ frames := 4, cells := 0, slots := 0, locals := 91 } : Room)).locals := Nat.le_refl _
  have hl : lv_has ls 3 [(0, .ref h0), (1, .int x1), (2, .int x2)] := hl
  rw [k_guards] at h
  refine lv_iload_n hx hb dX0_guards_0 rfl (lv_at hl 1 rfl) ?_
  obtain ⟨a1, e2, h⟩ := kt_bnd h
  refine kt_calls (As := [.int x1]) (rest := []) K (met_k_isObject l x1 a1 e2) (va_cwS 1 hts (lw_S q100 q101 q18 q102) rfl rfl rfl (by decide +kernel) ⟨Nat.le_trans (Nat.le_of_ble_eq_true rfl) hRf, Nat.le_trans (Nat.le_of_ble_eq_true rfl) hRl⟩) rfl hl.1 rfl (Nat.le_of_ble_eq_true rfl) dX0_guards_1 X (fun H locs X => ?_)
  refine lv_if_eq (tgt := 14) hx hb dX0_guards_4 (by decide) (fun c3 => ?_) (fun c3 => ?_)
  · have h := kt_ift c3 h
    refine lv_bipush (v := (-2)) hx hb dX0_guards_14 (by decide) ?_
    exact kt_iret (v := (-2)) (WS := kt_W h0 ad d1) (σ := σ) K hK X h dX0_guards_16
  · have h := kt_iff c3 h
    refine lv_iload_n hx hb dX0_guards_7 rfl (lv_at hl 2 rfl) ?_
    obtain ⟨a4, e5, h⟩ := kt_bnd h
    refine kt_calls (As := [.int x2]) (rest := []) K (met_k_isObject l x2 a4 e5) (va_cwS 1 hts (lw_S q100 q101 q18 q102) rfl rfl rfl (by decide +kernel) ⟨Nat.le_trans (Nat.le_of_ble_eq_true rfl) hRf, Nat.le_trans (Nat.le_of_ble_eq_true rfl) hRl⟩) rfl hl.1 rfl (Nat.le_of_ble_eq_true rfl) dX0_guards_8 X (fun H locs X => ?_)
    refine lv_if_ne (tgt := 17) hx hb dX0_guards_11 (by decide) (fun c6 => ?_) (fun c6 => ?_)
    · have h := kt_iff c6 h
      refine lv_aload_n hx hb dX0_guards_17 rfl (lv_at hl 0 rfl) ?_
      obtain ⟨a7, e8, h⟩ := kt_bnd h
      refine kt_callv (WS := kt_W h0 ad d1) (σ := σ) (As := []) (rest := []) K hK hA (met_k_prepare l dC dI h0 ad d1 d2 N σ a7 e8) (cwV 0 hts (lw_V q115 q117 qs0 q18 q118) rfl rfl rfl (by decide +kernel) ⟨Nat.le_trans (Nat.le_of_ble_eq_true rfl) hRf, Nat.le_trans (Nat.le_of_ble_eq_true rfl) hRl⟩) (va_recv hK X.1 (ci := 0) (q0 := 0) rfl kt_W0) rfl hl.1 rfl (Nat.le_of_ble_eq_true rfl) dX0_guards_18 X (fun H locs X => ?_)
      refine lv_aload_n hx hb dX0_guards_21 rfl (lv_at hl 0 rfl) ?_
      refine lv_iload_n hx hb dX0_guards_22 rfl (lv_at hl 1 rfl) ?_
      refine lv_iload_n hx hb dX0_guards_23 rfl (lv_at hl 2 rfl) ?_
      obtain ⟨a9, e10, h⟩ := kt_bnd h
      refine kt_calli (WS := kt_W h0 ad d1) (σ := a7) (As := [.int x1, .int x2]) (rest := []) K hK hA (met_k_holds l dC dI h0 ad d1 d2 a7 x1 x2 a9 e10) (cwV 2 hts (lw_V q169 q171 qs9 q18 q172) rfl rfl rfl (by decide +kernel) ⟨Nat.le_trans (Nat.le_of_ble_eq_true rfl) hRf, Nat.le_trans (Nat.le_of_ble_eq_true rfl) hRl⟩) (va_recv hK X.1 (ci := 0) (q0 := 0) rfl kt_W0) rfl hl.1 rfl (Nat.le_of_ble_eq_true rfl) dX0_guards_24 X (fun H locs X => ?_)
      refine lv_if_eq (tgt := 34) hx hb dX0_guards_27 (by decide) (fun c11 => ?_) (fun c11 => ?_)
      · have h := kt_ift c11 h
        refine lv_iconst (v := 0) hx hb dX0_guards_34 (by decide) ?_
        exact kt_iret (v := 0) (WS := kt_W h0 ad d1) (σ := a7) K hK X h dX0_guards_35
      · have h := kt_iff c11 h
        refine lv_iconst (v := 1) hx hb dX0_guards_30 (by decide) ?_
        refine lv_goto (tgt := 35) hx hb dX0_guards_31 (by decide) ?_
        exact kt_iret (v := 1) (WS := kt_W h0 ad d1) (σ := a7) K hK X h dX0_guards_35
    · have h := kt_ift c6 h
      refine lv_bipush (v := (-2)) hx hb dX0_guards_14 (by decide) ?_
      exact kt_iret (v := (-2)) (WS := kt_W h0 ad d1) (σ := σ) K hK X h dX0_guards_16
set_option maxHeartbeats 4000000 in
set_option maxRecDepth 100000 in
/-- KeepTree.depth(I)I -/
theorem met_k_depth (l : Launch) (dC : Nat → ClassId) (dI : Nat → Nat → Nat) (h0 : Nat) (ad : Nat → Nat) (d1 d2 : ClassId) (N : Nat) (σ : KSt) (x1 : Int32) (a : Int32 × KSt) (h : k_depth N σ x1 = some a) : kt_Ci l yX0_depth (ws_ yX0_depth cX0_depth 2 (some .int)) ({ frames := 4, cells := 0, slots := 0, locals := 91 } : Room) h0 [.int x1] dC dI (kt_T d1 d2) (kt_W h0 ad d1) σ a := by
  refine kt_enter (Qc := fun A => kt_Qi a dC dI (kt_T d1 d2) (kt_W h0 ad d1) A) (by decide) (Nat.le_of_ble_eq_true rfl) ?_
  intro p e s m below meth c A ls K hK hA X hl
  have K : kt_E RX0 p s m meth c cX0_depth 2 (some .int) _ := K
  obtain ⟨hx, hb, hml, hown, hts, hr, hlocks⟩ := id K
  generalize hs0 : s.heap = H at X ⊢
  generalize hl0 : ([] : List Loc) = locs at X ⊢
  have hRf : 4 ≤ (({ frames := 4, cells := 0, slots := 0, locals := 91 } : Room)).frames := Nat.le_refl _
  have hRl : 91 ≤ (({ frames := 4, cells := 0, slots := 0, locals := 91 } : Room)).locals := Nat.le_refl _
  have hl : lv_has ls 2 [(0, .ref h0), (1, .int x1)] := hl
  rw [k_depth] at h
  refine lv_iload_n hx hb dX0_depth_0 rfl (lv_at hl 1 rfl) ?_
  obtain ⟨a1, e2, h⟩ := kt_bnd h
  refine kt_calls (As := [.int x1]) (rest := []) K (met_k_isObject l x1 a1 e2) (va_cwS 1 hts (lw_S q100 q101 q18 q102) rfl rfl rfl (by decide +kernel) ⟨Nat.le_trans (Nat.le_of_ble_eq_true rfl) hRf, Nat.le_trans (Nat.le_of_ble_eq_true rfl) hRl⟩) rfl hl.1 rfl (Nat.le_of_ble_eq_true rfl) dX0_depth_1 X (fun H locs X => ?_)
  refine lv_if_ne (tgt := 10) hx hb dX0_depth_4 (by decide) (fun c3 => ?_) (fun c3 => ?_)
  · have h := kt_iff c3 h
    refine lv_aload_n hx hb dX0_depth_10 rfl (lv_at hl 0 rfl) ?_
    obtain ⟨a4, e5, h⟩ := kt_bnd h
    refine kt_callv (WS := kt_W h0 ad d1) (σ := σ) (As := []) (rest := []) K hK hA (met_k_prepare l dC dI h0 ad d1 d2 N σ a4 e5) (cwV 0 hts (lw_V q115 q117 qs0 q18 q118) rfl rfl rfl (by decide +kernel) ⟨Nat.le_trans (Nat.le_of_ble_eq_true rfl) hRf, Nat.le_trans (Nat.le_of_ble_eq_true rfl) hRl⟩) (va_recv hK X.1 (ci := 0) (q0 := 0) rfl kt_W0) rfl hl.1 rfl (Nat.le_of_ble_eq_true rfl) dX0_depth_11 X (fun H locs X => ?_)
    refine lv_aload_n hx hb dX0_depth_14 rfl (lv_at hl 0 rfl) ?_
    refine va_get (D := (dC, dI)) (ci := 0) (v := .ref (ad 5)) (C := RX0) (T := TX0) (N := 22) hx hb hts in_X0 hown hK X.1 0 kt_W0 rfl 5 (by decide) (hts _ q33) (fun _ h9 => h9) kt_F5 dX0_depth_15 ?_
    refine lv_iload_n hx hb dX0_depth_18 rfl (lv_at hl 1 rfl) ?_
    obtain ⟨b6, h⟩ := kt_chk_some h
    refine va_iald (f := a4 5) hx hb hK X.1 3 0 (kt_A5 (rfl)) rfl b6 dX0_depth_19 ?_
    refine lv_if_lt (tgt := 32) hx hb dX0_depth_20 (by decide) (fun c7 => ?_) (fun c7 => ?_)
    · have h := kt_ift c7 h
      refine lv_iconst (v := 0) hx hb dX0_depth_32 (by decide) ?_
      exact kt_iret (v := 0) (WS := kt_W h0 ad d1) (σ := a4) K hK X h dX0_depth_33
    · have h := kt_iff c7 h
      refine lv_aload_n hx hb dX0_depth_23 rfl (lv_at hl 0 rfl) ?_
      refine va_get (D := (dC, dI)) (ci := 0) (v := .ref (ad 18)) (C := RX0) (T := TX0) (N := 22) hx hb hts in_X0 hown hK X.1 0 kt_W0 rfl 18 (by decide) (hts _ q46) (fun _ h9 => h9) kt_F18 dX0_depth_24 ?_
      refine lv_iload_n hx hb dX0_depth_27 rfl (lv_at hl 1 rfl) ?_
      obtain ⟨b8, h⟩ := kt_chk_some h
      refine va_iald (f := a4 18) hx hb hK X.1 16 0 (kt_A18 (rfl)) rfl b8 dX0_depth_28 ?_
      refine lv_goto (tgt := 33) hx hb dX0_depth_29 (by decide) ?_
      exact kt_iret (v := a4 18 (kt_ix x1)) (WS := kt_W h0 ad d1) (σ := a4) K hK X h dX0_depth_33
  · have h := kt_ift c3 h
    refine lv_bipush (v := (-2)) hx hb dX0_depth_7 (by decide) ?_
    exact kt_iret (v := (-2)) (WS := kt_W h0 ad d1) (σ := σ) K hK X h dX0_depth_9
set_option maxHeartbeats 4000000 in
set_option maxRecDepth 100000 in
theorem wl_k_common_49 {p : Program} {l : Launch} {e : Env} {R : Room} {s : State} {m : MethodId} {args : Array Value} {below : List Frame} {meth : Method} {c : Code} {Q : State → Prop} {dC : Nat → ClassId} {dI : Nat → Nat → Nat} {d1 d2 : ClassId} {A : Nat → Prop} {h0 : Nat} {ad : Nat → Nat} (K : kt_E RX0 p s m meth c cX0_common 6 (some .int) args) (hK : va_K (dC, dI) vwCl (kt_T d1 d2) s) (hA : ∀ q : Nat, s.heap.size ≤ q → A q) (σ : KSt) :
    ∀ (n : Nat) (x3 x4 x5 : Int32) (r : Int32 × Int32 × Int32), k_common_49 σ n x3 x4 x5 = some r → ∀ (H : Heap) (locs : List Loc), kt_X dC dI (kt_W h0 ad d1 σ) A s H locs → ∀ (ls : Array Slot), lv_has ls 6 [(0, .ref h0), (3, .int x3), (4, .int x4), (5, .int x5)] → (∀ (H : Heap) (locs : List Loc), kt_X dC dI (kt_W h0 ad d1 σ) A s H locs → ∀ (ls : Array Slot), lv_has ls 6 [(0, .ref h0), (3, .int r.1), (4, .int r.2.1), (5, .int r.2.2)] → W p l e R s m args below meth c H locs 0 0 Q (F0 m 103 ls [])) → W p l e R s m args below meth c H locs 0 0 Q (F0 m 49 ls []) := by
  obtain ⟨hx, hb, hml, hown, hts, hr, hlocks⟩ := id K
  intro n
  induction n with
  | zero =>
    intro _ _ _ r h
    cases h
  | succ n ih =>
    intro x3 x4 x5 r h H locs X ls hl kE
    rw [k_common_49] at h
    refine lv_iload hx hb dX0_common_49 (lv_at hl 3 rfl) ?_
    refine lv_bipush (v := 34) hx hb dX0_common_51 (by decide) ?_
    refine lv_icmp_ge (tgt := 103) hx hb dX0_common_53 (by decide) (fun c1 => ?_) (fun c1 => ?_)
    · have h := kt_ift c1 h
      cases h
      exact kE H locs X ls (lv_sub hl [0, 1, 2, 3] rfl)
    · have h := kt_iff c1 h
      refine lv_iload_n hx hb dX0_common_56 rfl (lv_at hl 1 rfl) ?_
      refine lv_iload hx hb dX0_common_57 (lv_at hl 2 rfl) ?_
      refine lv_icmp_eq (tgt := 103) hx hb dX0_common_59 (by decide) (fun c2 => ?_) (fun c2 => ?_)
      · have h := kt_ift c2 h
        cases h
        exact kE H locs X ls (lv_sub hl [0, 1, 2, 3] rfl)
      · have h := kt_iff c2 h
        refine lv_aload_n hx hb dX0_common_62 rfl (lv_at hl 0 rfl) ?_
        refine va_get (D := (dC, dI)) (ci := 0) (v := .ref (ad 18)) (C := RX0) (T := TX0) (N := 22) hx hb hts in_X0 hown hK X.1 0 kt_W0 rfl 18 (by decide) (hts _ q46) (fun _ h9 => h9) kt_F18 dX0_common_63 ?_
        refine lv_iload_n hx hb dX0_common_66 rfl (lv_at hl 1 rfl) ?_
        obtain ⟨b3, h⟩ := kt_chk_some h
        refine va_iald (f := σ 18) hx hb hK X.1 16 0 (kt_A18 (rfl)) rfl b3 dX0_common_67 ?_
        refine lv_aload_n hx hb dX0_common_68 rfl (lv_at hl 0 rfl) ?_
        refine va_get (D := (dC, dI)) (ci := 0) (v := .ref (ad 18)) (C := RX0) (T := TX0) (N := 22) hx hb hts in_X0 hown hK X.1 0 kt_W0 rfl 18 (by decide) (hts _ q46) (fun _ h9 => h9) kt_F18 dX0_common_69 ?_
        refine lv_iload hx hb dX0_common_72 (lv_at hl 2 rfl) ?_
        obtain ⟨b4, h⟩ := kt_chk_some h
        refine va_iald (f := σ 18) hx hb hK X.1 16 0 (kt_A18 (rfl)) rfl b4 dX0_common_74 ?_
        refine lv_icmp_lt (tgt := 88) hx hb dX0_common_75 (by decide) (fun c5 => ?_) (fun c5 => ?_)
        · have h := kt_ift c5 h
          refine lv_aload_n hx hb dX0_common_88 rfl (lv_at hl 0 rfl) ?_
          refine va_get (D := (dC, dI)) (ci := 0) (v := .ref (ad 17)) (C := RX0) (T := TX0) (N := 22) hx hb hts in_X0 hown hK X.1 0 kt_W0 rfl 17 (by decide) (hts _ q45) (fun _ h9 => h9) kt_F17 dX0_common_89 ?_
          refine lv_iload hx hb dX0_common_92 (lv_at hl 2 rfl) ?_
          obtain ⟨b6, h⟩ := kt_chk_some h
          refine va_iald (f := σ 17) hx hb hK X.1 15 0 (kt_A17 (rfl)) rfl b6 dX0_common_94 ?_
          refine lv_topi (fun y7 e8 => ?_)
          have h := kt_nm_at e8 h
          refine lv_istore (lv' := [(4, .int y7), (0, .ref h0), (3, .int x3), (5, .int x5)]) hx hb dX0_common_95 hl (by decide) rfl (fun ls hl => ?_)
          refine lv_iinc (v := x5 + 1) (lv' := [(5, .int (x5 + 1)), (4, .int y7), (0, .ref h0), (3, .int x3)]) hx hb dX0_common_97 hl (k := 3) rfl rfl (by decide) rfl (fun ls hl => ?_)
          refine lv_goto (tgt := 49) hx hb dX0_common_100 (by decide) ?_
          exact ih x3 y7 (x5 + 1) r h H locs X ls (lv_sub hl [2, 3, 1, 0] rfl) kE
        · have h := kt_iff c5 h
          refine lv_aload_n hx hb dX0_common_78 rfl (lv_at hl 0 rfl) ?_
          refine va_get (D := (dC, dI)) (ci := 0) (v := .ref (ad 17)) (C := RX0) (T := TX0) (N := 22) hx hb hts in_X0 hown hK X.1 0 kt_W0 rfl 17 (by decide) (hts _ q45) (fun _ h9 => h9) kt_F17 dX0_common_79 ?_
          refine lv_iload_n hx hb dX0_common_82 rfl (lv_at hl 1 rfl) ?_
          obtain ⟨b9, h⟩ := kt_chk_some h
          refine va_iald (f := σ 17) hx hb hK X.1 15 0 (kt_A17 (rfl)) rfl b9 dX0_common_83 ?_
          refine lv_topi (fun y10 e11 => ?_)
          have h := kt_nm_at e11 h
          refine lv_istore_n (lv' := [(3, .int y10), (0, .ref h0), (4, .int x4), (5, .int x5)]) hx hb dX0_common_84 rfl hl (by decide) rfl (fun ls hl => ?_)
          refine lv_goto (tgt := 97) hx hb dX0_common_85 (by decide) ?_
          refine lv_iinc (v := x5 + 1) (lv' := [(5, .int (x5 + 1)), (3, .int y10), (0, .ref h0), (4, .int x4)]) hx hb dX0_common_97 hl (k := 3) rfl rfl (by decide) rfl (fun ls hl => ?_)
          refine lv_goto (tgt := 49) hx hb dX0_common_100 (by decide) ?_
          exact ih y10 x4 (x5 + 1) r h H locs X ls (lv_sub hl [2, 1, 3, 0] rfl) kE
set_option maxHeartbeats 4000000 in
set_option maxRecDepth 100000 in
/-- KeepTree.common(II)I -/
theorem met_k_common (l : Launch) (dC : Nat → ClassId) (dI : Nat → Nat → Nat) (h0 : Nat) (ad : Nat → Nat) (d1 d2 : ClassId) (N : Nat) (σ : KSt) (x1 x2 : Int32) (a : Int32 × KSt) (h : k_common N σ x1 x2 = some a) : kt_Ci l yX0_common (ws_ yX0_common cX0_common 6 (some .int)) ({ frames := 4, cells := 0, slots := 0, locals := 91 } : Room) h0 [.int x1, .int x2] dC dI (kt_T d1 d2) (kt_W h0 ad d1) σ a := by
  refine kt_enter (Qc := fun A => kt_Qi a dC dI (kt_T d1 d2) (kt_W h0 ad d1) A) (by decide) (Nat.le_of_ble_eq_true rfl) ?_
  intro p e s m below meth c A ls K hK hA X hl
  have K : kt_E RX0 p s m meth c cX0_common 6 (some .int) _ := K
  obtain ⟨hx, hb, hml, hown, hts, hr, hlocks⟩ := id K
  generalize hs0 : s.heap = H at X ⊢
  generalize hl0 : ([] : List Loc) = locs at X ⊢
  have hRf : 4 ≤ (({ frames := 4, cells := 0, slots := 0, locals := 91 } : Room)).frames := Nat.le_refl _
  have hRl : 91 ≤ (({ frames := 4, cells := 0, slots := 0, locals := 91 } : Room)).locals := Nat.le_refl _
  have hl : lv_has ls 6 [(0, .ref h0), (1, .int x1), (2, .int x2)] := hl
  rw [k_common] at h
  refine lv_iload_n hx hb dX0_common_0 rfl (lv_at hl 1 rfl) ?_
  obtain ⟨a1, e2, h⟩ := kt_bnd h
  refine kt_calls (As := [.int x1]) (rest := []) K (met_k_isObject l x1 a1 e2) (va_cwS 1 hts (lw_S q100 q101 q18 q102) rfl rfl rfl (by decide +kernel) ⟨Nat.le_trans (Nat.le_of_ble_eq_true rfl) hRf, Nat.le_trans (Nat.le_of_ble_eq_true rfl) hRl⟩) rfl hl.1 rfl (Nat.le_of_ble_eq_true rfl) dX0_common_1 X (fun H locs X => ?_)
  refine lv_if_eq (tgt := 14) hx hb dX0_common_4 (by decide) (fun c3 => ?_) (fun c3 => ?_)
  · have h := kt_ift c3 h
    refine lv_bipush (v := (-2)) hx hb dX0_common_14 (by decide) ?_
    exact kt_iret (v := (-2)) (WS := kt_W h0 ad d1) (σ := σ) K hK X h dX0_common_16
  · have h := kt_iff c3 h
    refine lv_iload_n hx hb dX0_common_7 rfl (lv_at hl 2 rfl) ?_
    obtain ⟨a4, e5, h⟩ := kt_bnd h
    refine kt_calls (As := [.int x2]) (rest := []) K (met_k_isObject l x2 a4 e5) (va_cwS 1 hts (lw_S q100 q101 q18 q102) rfl rfl rfl (by decide +kernel) ⟨Nat.le_trans (Nat.le_of_ble_eq_true rfl) hRf, Nat.le_trans (Nat.le_of_ble_eq_true rfl) hRl⟩) rfl hl.1 rfl (Nat.le_of_ble_eq_true rfl) dX0_common_8 X (fun H locs X => ?_)
    refine lv_if_ne (tgt := 17) hx hb dX0_common_11 (by decide) (fun c6 => ?_) (fun c6 => ?_)
    · have h := kt_iff c6 h
      refine lv_aload_n hx hb dX0_common_17 rfl (lv_at hl 0 rfl) ?_
      obtain ⟨a7, e8, h⟩ := kt_bnd h
      refine kt_callv (WS := kt_W h0 ad d1) (σ := σ) (As := []) (rest := []) K hK hA (met_k_prepare l dC dI h0 ad d1 d2 N σ a7 e8) (cwV 0 hts (lw_V q115 q117 qs0 q18 q118) rfl rfl rfl (by decide +kernel) ⟨Nat.le_trans (Nat.le_of_ble_eq_true rfl) hRf, Nat.le_trans (Nat.le_of_ble_eq_true rfl) hRl⟩) (va_recv hK X.1 (ci := 0) (q0 := 0) rfl kt_W0) rfl hl.1 rfl (Nat.le_of_ble_eq_true rfl) dX0_common_18 X (fun H locs X => ?_)
      refine lv_aload_n hx hb dX0_common_21 rfl (lv_at hl 0 rfl) ?_
      refine va_get (D := (dC, dI)) (ci := 0) (v := .ref (ad 5)) (C := RX0) (T := TX0) (N := 22) hx hb hts in_X0 hown hK X.1 0 kt_W0 rfl 5 (by decide) (hts _ q33) (fun _ h9 => h9) kt_F5 dX0_common_22 ?_
      refine lv_iload_n hx hb dX0_common_25 rfl (lv_at hl 1 rfl) ?_
      obtain ⟨b9, h⟩ := kt_chk_some h
      refine va_iald (f := a7 5) hx hb hK X.1 3 0 (kt_A5 (rfl)) rfl b9 dX0_common_26 ?_
      refine lv_if_lt (tgt := 39) hx hb dX0_common_27 (by decide) (fun c10 => ?_) (fun c10 => ?_)
      · have h := kt_ift c10 h
        refine lv_iconst (v := (-1)) hx hb dX0_common_39 (by decide) ?_
        exact kt_iret (v := (-1)) (WS := kt_W h0 ad d1) (σ := a7) K hK X h dX0_common_40
      · have h := kt_iff c10 h
        refine lv_aload_n hx hb dX0_common_30 rfl (lv_at hl 0 rfl) ?_
        refine va_get (D := (dC, dI)) (ci := 0) (v := .ref (ad 5)) (C := RX0) (T := TX0) (N := 22) hx hb hts in_X0 hown hK X.1 0 kt_W0 rfl 5 (by decide) (hts _ q33) (fun _ h9 => h9) kt_F5 dX0_common_31 ?_
        refine lv_iload_n hx hb dX0_common_34 rfl (lv_at hl 2 rfl) ?_
        obtain ⟨b11, h⟩ := kt_chk_some h
        refine va_iald (f := a7 5) hx hb hK X.1 3 0 (kt_A5 (rfl)) rfl b11 dX0_common_35 ?_
        refine lv_if_ge (tgt := 41) hx hb dX0_common_36 (by decide) (fun c12 => ?_) (fun c12 => ?_)
        · have h := kt_ift c12 h
          refine lv_iload_n hx hb dX0_common_41 rfl (lv_at hl 1 rfl) ?_
          refine lv_istore_n (lv' := [(3, .int x1), (0, .ref h0), (1, .int x1), (2, .int x2)]) hx hb dX0_common_42 rfl hl (by decide) rfl (fun ls hl => ?_)
          refine lv_iload_n hx hb dX0_common_43 rfl (lv_at hl 3 rfl) ?_
          refine lv_istore (lv' := [(4, .int x2), (3, .int x1), (0, .ref h0), (1, .int x1), (2, .int x2)]) hx hb dX0_common_44 hl (by decide) rfl (fun ls hl => ?_)
          refine lv_iconst (v := 0) hx hb dX0_common_46 (by decide) ?_
          refine lv_istore (lv' := [(5, .int 0), (4, .int x2), (3, .int x1), (0, .ref h0), (1, .int x1), (2, .int x2)]) hx hb dX0_common_47 hl (by decide) rfl (fun ls hl => ?_)
          obtain ⟨a13, e14, h⟩ := kt_bnd h
          refine wl_k_common_49 K hK hA a7 N x1 x2 0 a13 e14 H locs X ls (lv_sub hl [3, 2, 1, 0] rfl) (fun H locs X ls hl => ?_)
          refine lv_iload_n hx hb dX0_common_103 rfl (lv_at hl 1 rfl) ?_
          obtain ⟨a15, e16, h⟩ := kt_bnd h
          refine kt_calls (As := [.int a13.1]) (rest := []) K (met_k_visible l a13.1 a15 e16) (va_cwS 1 hts (lw_S q158 q159 q18 q160) rfl rfl rfl (by decide +kernel) ⟨Nat.le_trans (Nat.le_of_ble_eq_true rfl) hRf, Nat.le_trans (Nat.le_of_ble_eq_true rfl) hRl⟩) rfl hl.1 rfl (Nat.le_of_ble_eq_true rfl) dX0_common_104 X (fun H locs X => ?_)
          exact kt_iret (v := a15) (WS := kt_W h0 ad d1) (σ := a7) K hK X h dX0_common_107
        · have h := kt_iff c12 h
          refine lv_iconst (v := (-1)) hx hb dX0_common_39 (by decide) ?_
          exact kt_iret (v := (-1)) (WS := kt_W h0 ad d1) (σ := a7) K hK X h dX0_common_40
    · have h := kt_ift c6 h
      refine lv_bipush (v := (-2)) hx hb dX0_common_14 (by decide) ?_
      exact kt_iret (v := (-2)) (WS := kt_W h0 ad d1) (σ := σ) K hK X h dX0_common_16
set_option maxHeartbeats 4000000 in
set_option maxRecDepth 100000 in
theorem wl_k_heaviest_8 {p : Program} {l : Launch} {e : Env} {R : Room} {s : State} {m : MethodId} {args : Array Value} {below : List Frame} {meth : Method} {c : Code} {Q : State → Prop} {dC : Nat → ClassId} {dI : Nat → Nat → Nat} {d1 d2 : ClassId} {A : Nat → Prop} {h0 : Nat} {ad : Nat → Nat} (K : kt_E RX0 p s m meth c cX0_heaviest 3 (some .int) args) (hK : va_K (dC, dI) vwCl (kt_T d1 d2) s) (hA : ∀ q : Nat, s.heap.size ≤ q → A q) (σ : KSt) :
    ∀ (n : Nat) (x1 x2 : Int32) (r : Int32 × Int32), k_heaviest_8 σ n x1 x2 = some r → ∀ (H : Heap) (locs : List Loc), kt_X dC dI (kt_W h0 ad d1 σ) A s H locs → ∀ (ls : Array Slot), lv_has ls 3 [(0, .ref h0), (1, .int x1), (2, .int x2)] → (∀ (H : Heap) (locs : List Loc), kt_X dC dI (kt_W h0 ad d1 σ) A s H locs → ∀ (ls : Array Slot), lv_has ls 3 [(0, .ref h0), (1, .int r.1), (2, .int r.2)] → W p l e R s m args below meth c H locs 0 0 Q (F0 m 61 ls [])) → W p l e R s m args below meth c H locs 0 0 Q (F0 m 8 ls []) := by
  obtain ⟨hx, hb, hml, hown, hts, hr, hlocks⟩ := id K
  intro n
  induction n with
  | zero =>
    intro _ _ r h
    cases h
  | succ n ih =>
    intro x1 x2 r h H locs X ls hl kE
    rw [k_heaviest_8] at h
    refine lv_iload_n hx hb dX0_heaviest_8 rfl (lv_at hl 2 rfl) ?_
    refine lv_bipush (v := 16) hx hb dX0_heaviest_9 (by decide) ?_
    refine lv_icmp_ge (tgt := 61) hx hb dX0_heaviest_11 (by decide) (fun c1 => ?_) (fun c1 => ?_)
    · have h := kt_ift c1 h
      cases h
      exact kE H locs X ls (lv_sub hl [0, 1, 2] rfl)
    · have h := kt_iff c1 h
      refine lv_aload_n hx hb dX0_heaviest_14 rfl (lv_at hl 0 rfl) ?_
      refine va_get (D := (dC, dI)) (ci := 0) (v := .ref (ad 5)) (C := RX0) (T := TX0) (N := 22) hx hb hts in_X0 hown hK X.1 0 kt_W0 rfl 5 (by decide) (hts _ q33) (fun _ h9 => h9) kt_F5 dX0_heaviest_15 ?_
      refine lv_iload_n hx hb dX0_heaviest_18 rfl (lv_at hl 2 rfl) ?_
      obtain ⟨b2, h⟩ := kt_chk_some h
      refine va_iald (f := σ 5) hx hb hK X.1 3 0 (kt_A5 (rfl)) rfl b2 dX0_heaviest_19 ?_
      refine lv_if_lt (tgt := 55) hx hb dX0_heaviest_20 (by decide) (fun c3 => ?_) (fun c3 => ?_)
      · have h := kt_ift c3 h
        refine lv_iinc (v := x2 + 1) (lv' := [(2, .int (x2 + 1)), (0, .ref h0), (1, .int x1)]) hx hb dX0_heaviest_55 hl (k := 2) rfl rfl (by decide) rfl (fun ls hl => ?_)
        refine lv_goto (tgt := 8) hx hb dX0_heaviest_58 (by decide) ?_
        exact ih x1 (x2 + 1) r h H locs X ls (lv_sub hl [1, 2, 0] rfl) kE
      · have h := kt_iff c3 h
        refine lv_aload_n hx hb dX0_heaviest_23 rfl (lv_at hl 0 rfl) ?_
        refine va_get (D := (dC, dI)) (ci := 0) (v := .ref (ad 17)) (C := RX0) (T := TX0) (N := 22) hx hb hts in_X0 hown hK X.1 0 kt_W0 rfl 17 (by decide) (hts _ q45) (fun _ h9 => h9) kt_F17 dX0_heaviest_24 ?_
        refine lv_iload_n hx hb dX0_heaviest_27 rfl (lv_at hl 2 rfl) ?_
        obtain ⟨b4, h⟩ := kt_chk_some h
        refine va_iald (f := σ 17) hx hb hK X.1 15 0 (kt_A17 (rfl)) rfl b4 dX0_heaviest_28 ?_
        refine lv_bipush (v := 16) hx hb dX0_heaviest_29 (by decide) ?_
        refine lv_icmp_ne (tgt := 55) hx hb dX0_heaviest_31 (by decide) (fun c5 => ?_) (fun c5 => ?_)
        · have h := kt_iff c5 h
          refine lv_iinc (v := x2 + 1) (lv' := [(2, .int (x2 + 1)), (0, .ref h0), (1, .int x1)]) hx hb dX0_heaviest_55 hl (k := 2) rfl rfl (by decide) rfl (fun ls hl => ?_)
          refine lv_goto (tgt := 8) hx hb dX0_heaviest_58 (by decide) ?_
          exact ih x1 (x2 + 1) r h H locs X ls (lv_sub hl [1, 2, 0] rfl) kE
        · have h := kt_ift c5 h
          refine lv_iload_n hx hb dX0_heaviest_34 rfl (lv_at hl 1 rfl) ?_
          refine lv_if_lt (tgt := 53) hx hb dX0_heaviest_35 (by decide) (fun c6 => ?_) (fun c6 => ?_)
          · have h := kt_ift c6 h
            refine lv_iload_n hx hb dX0_heaviest_53 rfl (lv_at hl 2 rfl) ?_
            refine lv_istore_n (lv' := [(1, .int x2), (0, .ref h0), (2, .int x2)]) hx hb dX0_heaviest_54 rfl hl (by decide) rfl (fun ls hl => ?_)
            refine lv_iinc (v := x2 + 1) (lv' := [(2, .int (x2 + 1)), (1, .int x2), (0, .ref h0)]) hx hb dX0_heaviest_55 hl (k := 2) rfl rfl (by decide) rfl (fun ls hl => ?_)
            refine lv_goto (tgt := 8) hx hb dX0_heaviest_58 (by decide) ?_
            exact ih x2 (x2 + 1) r h H locs X ls (lv_sub hl [2, 1, 0] rfl) kE
          · have h := kt_iff c6 h
            refine lv_aload_n hx hb dX0_heaviest_38 rfl (lv_at hl 0 rfl) ?_
            refine va_get (D := (dC, dI)) (ci := 0) (v := .ref (ad 19)) (C := RX0) (T := TX0) (N := 22) hx hb hts in_X0 hown hK X.1 0 kt_W0 rfl 19 (by decide) (hts _ q47) (fun _ h9 => h9) kt_F19 dX0_heaviest_39 ?_
            refine lv_iload_n hx hb dX0_heaviest_42 rfl (lv_at hl 2 rfl) ?_
            obtain ⟨b7, h⟩ := kt_chk_some h
            refine va_iald (f := σ 19) hx hb hK X.1 17 0 (kt_A19 (rfl)) rfl b7 dX0_heaviest_43 ?_
            refine lv_aload_n hx hb dX0_heaviest_44 rfl (lv_at hl 0 rfl) ?_
            refine va_get (D := (dC, dI)) (ci := 0) (v := .ref (ad 19)) (C := RX0) (T := TX0) (N := 22) hx hb hts in_X0 hown hK X.1 0 kt_W0 rfl 19 (by decide) (hts _ q47) (fun _ h9 => h9) kt_F19 dX0_heaviest_45 ?_
            refine lv_iload_n hx hb dX0_heaviest_48 rfl (lv_at hl 1 rfl) ?_
            obtain ⟨b8, h⟩ := kt_chk_some h
            refine va_iald (f := σ 19) hx hb hK X.1 17 0 (kt_A19 (rfl)) rfl b8 dX0_heaviest_49 ?_
            refine lv_icmp_le (tgt := 55) hx hb dX0_heaviest_50 (by decide) (fun c9 => ?_) (fun c9 => ?_)
            · have h := kt_ift c9 h
              refine lv_iinc (v := x2 + 1) (lv' := [(2, .int (x2 + 1)), (0, .ref h0), (1, .int x1)]) hx hb dX0_heaviest_55 hl (k := 2) rfl rfl (by decide) rfl (fun ls hl => ?_)
              refine lv_goto (tgt := 8) hx hb dX0_heaviest_58 (by decide) ?_
              exact ih x1 (x2 + 1) r h H locs X ls (lv_sub hl [1, 2, 0] rfl) kE
            · have h := kt_iff c9 h
              refine lv_iload_n hx hb dX0_heaviest_53 rfl (lv_at hl 2 rfl) ?_
              refine lv_istore_n (lv' := [(1, .int x2), (0, .ref h0), (2, .int x2)]) hx hb dX0_heaviest_54 rfl hl (by decide) rfl (fun ls hl => ?_)
              refine lv_iinc (v := x2 + 1) (lv' := [(2, .int (x2 + 1)), (1, .int x2), (0, .ref h0)]) hx hb dX0_heaviest_55 hl (k := 2) rfl rfl (by decide) rfl (fun ls hl => ?_)
              refine lv_goto (tgt := 8) hx hb dX0_heaviest_58 (by decide) ?_
              exact ih x2 (x2 + 1) r h H locs X ls (lv_sub hl [2, 1, 0] rfl) kE
set_option maxHeartbeats 4000000 in
set_option maxRecDepth 100000 in
/-- KeepTree.heaviest()I -/
theorem met_k_heaviest (l : Launch) (dC : Nat → ClassId) (dI : Nat → Nat → Nat) (h0 : Nat) (ad : Nat → Nat) (d1 d2 : ClassId) (N : Nat) (σ : KSt) (a : Int32 × KSt) (h : k_heaviest N σ = some a) : kt_Ci l yX0_heaviest (ws_ yX0_heaviest cX0_heaviest 3 (some .int)) ({ frames := 4, cells := 0, slots := 0, locals := 91 } : Room) h0 [] dC dI (kt_T d1 d2) (kt_W h0 ad d1) σ a := by
  refine kt_enter (Qc := fun A => kt_Qi a dC dI (kt_T d1 d2) (kt_W h0 ad d1) A) (by decide) (Nat.le_of_ble_eq_true rfl) ?_
  intro p e s m below meth c A ls K hK hA X hl
  have K : kt_E RX0 p s m meth c cX0_heaviest 3 (some .int) _ := K
  obtain ⟨hx, hb, hml, hown, hts, hr, hlocks⟩ := id K
  generalize hs0 : s.heap = H at X ⊢
  generalize hl0 : ([] : List Loc) = locs at X ⊢
  have hRf : 4 ≤ (({ frames := 4, cells := 0, slots := 0, locals := 91 } : Room)).frames := Nat.le_refl _
  have hRl : 91 ≤ (({ frames := 4, cells := 0, slots := 0, locals := 91 } : Room)).locals := Nat.le_refl _
  have hl : lv_has ls 3 [(0, .ref h0)] := hl
  rw [k_heaviest] at h
  refine lv_aload_n hx hb dX0_heaviest_0 rfl (lv_at hl 0 rfl) ?_
  obtain ⟨a1, e2, h⟩ := kt_bnd h
  refine kt_callv (WS := kt_W h0 ad d1) (σ := σ) (As := []) (rest := []) K hK hA (met_k_prepare l dC dI h0 ad d1 d2 N σ a1 e2) (cwV 0 hts (lw_V q115 q117 qs0 q18 q118) rfl rfl rfl (by decide +kernel) ⟨Nat.le_trans (Nat.le_of_ble_eq_true rfl) hRf, Nat.le_trans (Nat.le_of_ble_eq_true rfl) hRl⟩) (va_recv hK X.1 (ci := 0) (q0 := 0) rfl kt_W0) rfl hl.1 rfl (Nat.le_of_ble_eq_true rfl) dX0_heaviest_1 X (fun H locs X => ?_)
  refine lv_iconst (v := (-1)) hx hb dX0_heaviest_4 (by decide) ?_
  refine lv_istore_n (lv' := [(1, .int (-1)), (0, .ref h0)]) hx hb dX0_heaviest_5 rfl hl (by decide) rfl (fun ls hl => ?_)
  refine lv_iconst (v := 0) hx hb dX0_heaviest_6 (by decide) ?_
  refine lv_istore_n (lv' := [(2, .int 0), (1, .int (-1)), (0, .ref h0)]) hx hb dX0_heaviest_7 rfl hl (by decide) rfl (fun ls hl => ?_)
  obtain ⟨a3, e4, h⟩ := kt_bnd h
  refine wl_k_heaviest_8 K hK hA a1 N (-1) 0 a3 e4 H locs X ls (lv_sub hl [2, 1, 0] rfl) (fun H locs X ls hl => ?_)
  refine lv_iload_n hx hb dX0_heaviest_61 rfl (lv_at hl 1 rfl) ?_
  exact kt_iret (v := a3.1) (WS := kt_W h0 ad d1) (σ := a1) K hK X h dX0_heaviest_62
set_option maxHeartbeats 4000000 in
set_option maxRecDepth 100000 in
/-- KeepTree.total()I -/
theorem met_k_total (l : Launch) (dC : Nat → ClassId) (dI : Nat → Nat → Nat) (h0 : Nat) (ad : Nat → Nat) (d1 d2 : ClassId) (N : Nat) (σ : KSt) (a : Int32 × KSt) (h : k_total N σ = some a) : kt_Ci l yX0_total (ws_ yX0_total cX0_total 1 (some .int)) ({ frames := 4, cells := 0, slots := 0, locals := 91 } : Room) h0 [] dC dI (kt_T d1 d2) (kt_W h0 ad d1) σ a := by
  refine kt_enter (Qc := fun A => kt_Qi a dC dI (kt_T d1 d2) (kt_W h0 ad d1) A) (by decide) (Nat.le_of_ble_eq_true rfl) ?_
  intro p e s m below meth c A ls K hK hA X hl
  have K : kt_E RX0 p s m meth c cX0_total 1 (some .int) _ := K
  obtain ⟨hx, hb, hml, hown, hts, hr, hlocks⟩ := id K
  generalize hs0 : s.heap = H at X ⊢
  generalize hl0 : ([] : List Loc) = locs at X ⊢
  have hRf : 4 ≤ (({ frames := 4, cells := 0, slots := 0, locals := 91 } : Room)).frames := Nat.le_refl _
  have hRl : 91 ≤ (({ frames := 4, cells := 0, slots := 0, locals := 91 } : Room)).locals := Nat.le_refl _
  have hl : lv_has ls 1 [(0, .ref h0)] := hl
  rw [k_total] at h
  refine lv_aload_n hx hb dX0_total_0 rfl (lv_at hl 0 rfl) ?_
  obtain ⟨a1, e2, h⟩ := kt_bnd h
  refine kt_callv (WS := kt_W h0 ad d1) (σ := σ) (As := []) (rest := []) K hK hA (met_k_prepare l dC dI h0 ad d1 d2 N σ a1 e2) (cwV 0 hts (lw_V q115 q117 qs0 q18 q118) rfl rfl rfl (by decide +kernel) ⟨Nat.le_trans (Nat.le_of_ble_eq_true rfl) hRf, Nat.le_trans (Nat.le_of_ble_eq_true rfl) hRl⟩) (va_recv hK X.1 (ci := 0) (q0 := 0) rfl kt_W0) rfl hl.1 rfl (Nat.le_of_ble_eq_true rfl) dX0_total_1 X (fun H locs X => ?_)
  refine lv_aload_n hx hb dX0_total_4 rfl (lv_at hl 0 rfl) ?_
  refine va_get (D := (dC, dI)) (ci := 0) (v := .ref (ad 19)) (C := RX0) (T := TX0) (N := 22) hx hb hts in_X0 hown hK X.1 0 kt_W0 rfl 19 (by decide) (hts _ q47) (fun _ h9 => h9) kt_F19 dX0_total_5 ?_
  refine lv_bipush (v := 16) hx hb dX0_total_8 (by decide) ?_
  obtain ⟨b3, h⟩ := kt_chk_some h
  refine va_iald (f := a1 19) hx hb hK X.1 17 0 (kt_A19 (rfl)) rfl b3 dX0_total_10 ?_
  exact kt_iret (v := a1 19 (kt_ix 16)) (WS := kt_W h0 ad d1) (σ := a1) K hK X h dX0_total_11
end
section
set_option maxHeartbeats 4000000 in
set_option maxRecDepth 100000 in
/-- KeepTreeModel.bad(I)Z -/
theorem met_m_bad (l : Launch) (x0 : Int32) (a : Int32) (h : m_bad x0 = some a) : kt_Cs l yX1_bad (ws_ yX1_bad cX1_bad 1 (some .boolean)) ({ frames := 0, cells := 0, slots := 0, locals := 0 } : Room) [.int x0] a := by
  refine kt_enters (by decide) (Nat.le_of_ble_eq_true rfl) ?_
  intro p e s m below meth c ls K hl
  obtain ⟨hx, hb, hml, hown, hts, hr, hlocks⟩ := id K
  have hl : lv_has ls 1 [(0, .int x0)] := hl
  rw [m_bad] at h
  refine lv_iload_n hx hb dX1_bad_0 rfl (lv_at hl 0 rfl) ?_
  refine lv_if_lt (tgt := 10) hx hb dX1_bad_1 (by decide) (fun c1 => ?_) (fun c1 => ?_)
  · have h := kt_ift c1 h
    refine lv_iconst (v := 1) hx hb dX1_bad_10 (by decide) ?_
    refine lv_goto (tgt := 15) hx hb dX1_bad_11 (by decide) ?_
    exact kt_szret (v := 1) K (by decide) h dX1_bad_15
  · have h := kt_iff c1 h
    refine lv_iload_n hx hb dX1_bad_4 rfl (lv_at hl 0 rfl) ?_
    refine lv_bipush (v := 15) hx hb dX1_bad_5 (by decide) ?_
    refine lv_icmp_le (tgt := 14) hx hb dX1_bad_7 (by decide) (fun c2 => ?_) (fun c2 => ?_)
    · have h := kt_ift c2 h
      refine lv_iconst (v := 0) hx hb dX1_bad_14 (by decide) ?_
      exact kt_szret (v := 0) K (by decide) h dX1_bad_15
    · have h := kt_iff c2 h
      refine lv_iconst (v := 1) hx hb dX1_bad_10 (by decide) ?_
      refine lv_goto (tgt := 15) hx hb dX1_bad_11 (by decide) ?_
      exact kt_szret (v := 1) K (by decide) h dX1_bad_15
set_option maxHeartbeats 4000000 in
set_option maxRecDepth 100000 in
/-- KeepTreeModel.setSize(II)I -/
theorem met_m_setSize (l : Launch) (dC : Nat → ClassId) (dI : Nat → Nat → Nat) (h0 : Nat) (ad : Nat → Nat) (d1 d2 : ClassId) (σ : KSt) (x1 x2 : Int32) (a : Int32 × KSt) (h : m_setSize σ x1 x2 = some a) : kt_Ci l yX1_setSize (ws_ yX1_setSize cX1_setSize 4 (some .int)) ({ frames := 1, cells := 0, slots := 0, locals := 20 } : Room) h0 [.int x1, .int x2] dC dI (kt_T d1 d2) (kt_M h0 ad d1 d2) σ a := by
  refine kt_enter (Qc := fun A => kt_Qi a dC dI (kt_T d1 d2) (kt_M h0 ad d1 d2) A) (by decide) (Nat.le_of_ble_eq_true rfl) ?_
  intro p e s m below meth c A ls K hK hA X hl
  have K : kt_E RX1 p s m meth c cX1_setSize 4 (some .int) _ := K
  obtain ⟨hx, hb, hml, hown, hts, hr, hlocks⟩ := id K
  generalize hs0 : s.heap = H at X ⊢
  generalize hl0 : ([] : List Loc) = locs at X ⊢
  have hRf : 1 ≤ (({ frames := 1, cells := 0, slots := 0, locals := 20 } : Room)).frames := Nat.le_refl _
  have hRl : 20 ≤ (({ frames := 1, cells := 0, slots := 0, locals := 20 } : Room)).locals := Nat.le_refl _
  have hl : lv_has ls 4 [(0, .ref h0), (1, .int x1), (2, .int x2)] := hl
  rw [m_setSize] at h
  refine lv_iload_n hx hb dX1_setSize_0 rfl (lv_at hl 1 rfl) ?_
  obtain ⟨a1, e2, h⟩ := kt_bnd h
  refine kt_calls (As := [.int x1]) (rest := []) K (met_m_bad l x1 a1 e2) (va_cwS 1 hts (lw_S q216 q217 q19 q218) rfl rfl rfl (by decide +kernel) ⟨Nat.le_trans (Nat.le_of_ble_eq_true rfl) hRf, Nat.le_trans (Nat.le_of_ble_eq_true rfl) hRl⟩) rfl hl.1 rfl (Nat.le_of_ble_eq_true rfl) dX1_setSize_1 X (fun H locs X => ?_)
  refine lv_if_eq (tgt := 10) hx hb dX1_setSize_4 (by decide) (fun c3 => ?_) (fun c3 => ?_)
  · have h := kt_ift c3 h
    refine lv_aload_n hx hb dX1_setSize_10 rfl (lv_at hl 0 rfl) ?_
    refine va_get (D := (dC, dI)) (ci := 1) (v := .ref (ad 0)) (C := RX1) (T := TX1) (N := 5) hx hb hts in_X1 hown hK X.1 0 kt_M0 rfl 0 (by decide) (hts _ q195) (fun _ h9 => h9) kt_MF0 dX1_setSize_11 ?_
    refine lv_iload_n hx hb dX1_setSize_14 rfl (lv_at hl 1 rfl) ?_
    obtain ⟨b4, h⟩ := kt_chk_some h
    refine va_iald (f := σ 0) hx hb hK X.1 1 0 (kt_MA0 (rfl)) rfl b4 dX1_setSize_15 ?_
    refine lv_topi (fun y5 e6 => ?_)
    have h := kt_nm_at e6 h
    refine lv_istore_n (lv' := [(3, .int y5), (0, .ref h0), (1, .int x1), (2, .int x2)]) hx hb dX1_setSize_16 rfl hl (by decide) rfl (fun ls hl => ?_)
    refine lv_aload_n hx hb dX1_setSize_17 rfl (lv_at hl 1 rfl) ?_
    refine va_get (D := (dC, dI)) (ci := 1) (v := .ref (ad 0)) (C := RX1) (T := TX1) (N := 5) hx hb hts in_X1 hown hK X.1 0 kt_M0 rfl 0 (by decide) (hts _ q195) (fun _ h9 => h9) kt_MF0 dX1_setSize_18 ?_
    refine lv_iload_n hx hb dX1_setSize_21 rfl (lv_at hl 2 rfl) ?_
    refine lv_iload_n hx hb dX1_setSize_22 rfl (lv_at hl 3 rfl) ?_
    refine lv_if_ge (tgt := 30) hx hb dX1_setSize_23 (by decide) (fun c7 => ?_) (fun c7 => ?_)
    · have h := kt_ift c7 h
      refine lv_iload_n hx hb dX1_setSize_30 rfl (lv_at hl 3 rfl) ?_
      refine lv_sipush (v := 1000) hx hb dX1_setSize_31 (by decide) ?_
      refine lv_icmp_le (tgt := 43) hx hb dX1_setSize_34 (by decide) (fun c8 => ?_) (fun c8 => ?_)
      · have h := kt_ift c8 h
        refine lv_iload_n hx hb dX1_setSize_43 rfl (lv_at hl 3 rfl) ?_
        obtain ⟨b9, h⟩ := kt_chk_some h
        refine va_iast (f := σ 0) hx hb hK X.1 X.2.1 X.2.2 1 0 (kt_MA0 rfl) rfl b9 dX1_setSize_44 (fun H locs hP hD hS => ?_)
        have X : kt_X dC dI (kt_M h0 ad d1 d2 (kt_st σ 0 ((kt_ix x1)) x2)) A s H locs := kt_MXA0 hP hD hS
        refine lv_iload_n hx hb dX1_setSize_45 rfl (lv_at hl 0 rfl) ?_
        exact kt_iret (v := y5) (WS := kt_M h0 ad d1 d2) (σ := kt_st σ 0 ((kt_ix x1)) x2) K hK X h dX1_setSize_46
      · have h := kt_iff c8 h
        refine lv_sipush (v := 1000) hx hb dX1_setSize_37 (by decide) ?_
        refine lv_goto (tgt := 44) hx hb dX1_setSize_40 (by decide) ?_
        obtain ⟨b10, h⟩ := kt_chk_some h
        refine va_iast (f := σ 0) hx hb hK X.1 X.2.1 X.2.2 1 0 (kt_MA0 rfl) rfl b10 dX1_setSize_44 (fun H locs hP hD hS => ?_)
        have X : kt_X dC dI (kt_M h0 ad d1 d2 (kt_st σ 0 ((kt_ix x1)) 1000)) A s H locs := kt_MXA0 hP hD hS
        refine lv_iload_n hx hb dX1_setSize_45 rfl (lv_at hl 0 rfl) ?_
        exact kt_iret (v := y5) (WS := kt_M h0 ad d1 d2) (σ := kt_st σ 0 ((kt_ix x1)) 1000) K hK X h dX1_setSize_46
    · have h := kt_iff c7 h
      refine lv_iconst (v := 0) hx hb dX1_setSize_26 (by decide) ?_
      refine lv_goto (tgt := 44) hx hb dX1_setSize_27 (by decide) ?_
      obtain ⟨b11, h⟩ := kt_chk_some h
      refine va_iast (f := σ 0) hx hb hK X.1 X.2.1 X.2.2 1 0 (kt_MA0 rfl) rfl b11 dX1_setSize_44 (fun H locs hP hD hS => ?_)
      have X : kt_X dC dI (kt_M h0 ad d1 d2 (kt_st σ 0 ((kt_ix x1)) 0)) A s H locs := kt_MXA0 hP hD hS
      refine lv_iload_n hx hb dX1_setSize_45 rfl (lv_at hl 0 rfl) ?_
      exact kt_iret (v := y5) (WS := kt_M h0 ad d1 d2) (σ := kt_st σ 0 ((kt_ix x1)) 0) K hK X h dX1_setSize_46
  · have h := kt_iff c3 h
    refine lv_bipush (v := (-2)) hx hb dX1_setSize_7 (by decide) ?_
    exact kt_iret (v := (-2)) (WS := kt_M h0 ad d1 d2) (σ := σ) K hK X h dX1_setSize_9
set_option maxHeartbeats 4000000 in
set_option maxRecDepth 100000 in
/-- KeepTreeModel.flip(II)I -/
theorem met_m_flip (l : Launch) (dC : Nat → ClassId) (dI : Nat → Nat → Nat) (h0 : Nat) (ad : Nat → Nat) (d1 d2 : ClassId) (σ : KSt) (x1 x2 : Int32) (a : Int32 × KSt) (h : m_flip σ x1 x2 = some a) : kt_Ci l yX1_flip (ws_ yX1_flip cX1_flip 3 (some .int)) ({ frames := 1, cells := 0, slots := 0, locals := 20 } : Room) h0 [.int x1, .int x2] dC dI (kt_T d1 d2) (kt_M h0 ad d1 d2) σ a := by
  refine kt_enter (Qc := fun A => kt_Qi a dC dI (kt_T d1 d2) (kt_M h0 ad d1 d2) A) (by decide) (Nat.le_of_ble_eq_true rfl) ?_
  intro p e s m below meth c A ls K hK hA X hl
  have K : kt_E RX1 p s m meth c cX1_flip 3 (some .int) _ := K
  obtain ⟨hx, hb, hml, hown, hts, hr, hlocks⟩ := id K
  generalize hs0 : s.heap = H at X ⊢
  generalize hl0 : ([] : List Loc) = locs at X ⊢
  have hRf : 1 ≤ (({ frames := 1, cells := 0, slots := 0, locals := 20 } : Room)).frames := Nat.le_refl _
  have hRl : 20 ≤ (({ frames := 1, cells := 0, slots := 0, locals := 20 } : Room)).locals := Nat.le_refl _
  have hl : lv_has ls 3 [(0, .ref h0), (1, .int x1), (2, .int x2)] := hl
  rw [m_flip] at h
  refine lv_iload_n hx hb dX1_flip_0 rfl (lv_at hl 1 rfl) ?_
  obtain ⟨a1, e2, h⟩ := kt_bnd h
  refine kt_calls (As := [.int x1]) (rest := []) K (met_m_bad l x1 a1 e2) (va_cwS 1 hts (lw_S q216 q217 q19 q218) rfl rfl rfl (by decide +kernel) ⟨Nat.le_trans (Nat.le_of_ble_eq_true rfl) hRf, Nat.le_trans (Nat.le_of_ble_eq_true rfl) hRl⟩) rfl hl.1 rfl (Nat.le_of_ble_eq_true rfl) dX1_flip_1 X (fun H locs X => ?_)
  refine lv_if_ne (tgt := 14) hx hb dX1_flip_4 (by decide) (fun c3 => ?_) (fun c3 => ?_)
  · have h := kt_iff c3 h
    refine lv_bipush (v := (-2)) hx hb dX1_flip_14 (by decide) ?_
    exact kt_iret (v := (-2)) (WS := kt_M h0 ad d1 d2) (σ := σ) K hK X h dX1_flip_16
  · have h := kt_ift c3 h
    refine lv_iload_n hx hb dX1_flip_7 rfl (lv_at hl 2 rfl) ?_
    obtain ⟨a4, e5, h⟩ := kt_bnd h
    refine kt_calls (As := [.int x2]) (rest := []) K (met_m_bad l x2 a4 e5) (va_cwS 1 hts (lw_S q216 q217 q19 q218) rfl rfl rfl (by decide +kernel) ⟨Nat.le_trans (Nat.le_of_ble_eq_true rfl) hRf, Nat.le_trans (Nat.le_of_ble_eq_true rfl) hRl⟩) rfl hl.1 rfl (Nat.le_of_ble_eq_true rfl) dX1_flip_8 X (fun H locs X => ?_)
    refine lv_if_eq (tgt := 17) hx hb dX1_flip_11 (by decide) (fun c6 => ?_) (fun c6 => ?_)
    · have h := kt_ift c6 h
      refine lv_aload_n hx hb dX1_flip_17 rfl (lv_at hl 0 rfl) ?_
      refine va_get (D := (dC, dI)) (ci := 1) (v := .ref (ad 2)) (C := RX1) (T := TX1) (N := 5) hx hb hts in_X1 hown hK X.1 0 kt_M0 rfl 2 (by decide) (hts _ q197) (fun _ h9 => h9) kt_MF2 dX1_flip_18 ?_
      refine lv_bipush (v := 16) hx hb dX1_flip_21 (by decide) ?_
      refine lv_iload_n hx hb dX1_flip_23 rfl (lv_at hl 1 rfl) ?_
      refine lv_imul hx hb dX1_flip_24 ?_
      refine lv_iload_n hx hb dX1_flip_25 rfl (lv_at hl 2 rfl) ?_
      refine lv_iadd hx hb dX1_flip_26 ?_
      refine lv_aload_n hx hb dX1_flip_27 rfl (lv_at hl 0 rfl) ?_
      refine va_get (D := (dC, dI)) (ci := 1) (v := .ref (ad 2)) (C := RX1) (T := TX1) (N := 5) hx hb hts in_X1 hown hK X.1 0 kt_M0 rfl 2 (by decide) (hts _ q197) (fun _ h9 => h9) kt_MF2 dX1_flip_28 ?_
      refine lv_bipush (v := 16) hx hb dX1_flip_31 (by decide) ?_
      refine lv_iload_n hx hb dX1_flip_33 rfl (lv_at hl 1 rfl) ?_
      refine lv_imul hx hb dX1_flip_34 ?_
      refine lv_iload_n hx hb dX1_flip_35 rfl (lv_at hl 2 rfl) ?_
      refine lv_iadd hx hb dX1_flip_36 ?_
      obtain ⟨b7, h⟩ := kt_chk_some h
      refine va_zald (f := σ 2) hx hb hK X.1 3 1 (kt_MA2 (rfl)) rfl b7 dX1_flip_37 ?_
      refine lv_if_ne (tgt := 45) hx hb dX1_flip_38 (by decide) (fun c8 => ?_) (fun c8 => ?_)
      · have h := kt_iff c8 h
        refine lv_iconst (v := 0) hx hb dX1_flip_45 (by decide) ?_
        obtain ⟨b9, h⟩ := kt_chk_some h
        refine va_zast (f := σ 2) hx hb hK X.1 X.2.1 X.2.2 3 1 (kt_MA2 rfl) rfl b9 dX1_flip_46 (fun H locs hP hD hS => ?_)
        have X : kt_X dC dI (kt_M h0 ad d1 d2 (kt_st σ 2 ((kt_ix ((16 * x1) + x2))) ((kt_bo 0)))) A s H locs := kt_MXA2 hP hD hS
        refine lv_aload_n hx hb dX1_flip_47 rfl (lv_at hl 0 rfl) ?_
        refine va_get (D := (dC, dI)) (ci := 1) (v := .ref (ad 2)) (C := RX1) (T := TX1) (N := 5) hx hb hts in_X1 hown hK X.1 0 kt_M0 rfl 2 (by decide) (hts _ q197) (fun _ h9 => h9) kt_MF2 dX1_flip_48 ?_
        refine lv_bipush (v := 16) hx hb dX1_flip_51 (by decide) ?_
        refine lv_iload_n hx hb dX1_flip_53 rfl (lv_at hl 1 rfl) ?_
        refine lv_imul hx hb dX1_flip_54 ?_
        refine lv_iload_n hx hb dX1_flip_55 rfl (lv_at hl 2 rfl) ?_
        refine lv_iadd hx hb dX1_flip_56 ?_
        obtain ⟨b10, h⟩ := kt_chk_some h
        refine va_zald (f := (kt_st σ 2 ((kt_ix ((16 * x1) + x2))) ((kt_bo 0))) 2) hx hb hK X.1 3 1 (kt_MA2 (rfl)) rfl b10 dX1_flip_57 ?_
        refine lv_if_eq (tgt := 65) hx hb dX1_flip_58 (by decide) (fun c11 => ?_) (fun c11 => ?_)
        · have h := kt_ift c11 h
          refine lv_iconst (v := 0) hx hb dX1_flip_65 (by decide) ?_
          exact kt_iret (v := 0) (WS := kt_M h0 ad d1 d2) (σ := kt_st σ 2 ((kt_ix ((16 * x1) + x2))) ((kt_bo 0))) K hK X h dX1_flip_66
        · have h := kt_iff c11 h
          refine lv_iconst (v := 1) hx hb dX1_flip_61 (by decide) ?_
          refine lv_goto (tgt := 66) hx hb dX1_flip_62 (by decide) ?_
          exact kt_iret (v := 1) (WS := kt_M h0 ad d1 d2) (σ := kt_st σ 2 ((kt_ix ((16 * x1) + x2))) ((kt_bo 0))) K hK X h dX1_flip_66
      · have h := kt_ift c8 h
        refine lv_iconst (v := 1) hx hb dX1_flip_41 (by decide) ?_
        refine lv_goto (tgt := 46) hx hb dX1_flip_42 (by decide) ?_
        obtain ⟨b12, h⟩ := kt_chk_some h
        refine va_zast (f := σ 2) hx hb hK X.1 X.2.1 X.2.2 3 1 (kt_MA2 rfl) rfl b12 dX1_flip_46 (fun H locs hP hD hS => ?_)
        have X : kt_X dC dI (kt_M h0 ad d1 d2 (kt_st σ 2 ((kt_ix ((16 * x1) + x2))) ((kt_bo 1)))) A s H locs := kt_MXA2 hP hD hS
        refine lv_aload_n hx hb dX1_flip_47 rfl (lv_at hl 0 rfl) ?_
        refine va_get (D := (dC, dI)) (ci := 1) (v := .ref (ad 2)) (C := RX1) (T := TX1) (N := 5) hx hb hts in_X1 hown hK X.1 0 kt_M0 rfl 2 (by decide) (hts _ q197) (fun _ h9 => h9) kt_MF2 dX1_flip_48 ?_
        refine lv_bipush (v := 16) hx hb dX1_flip_51 (by decide) ?_
        refine lv_iload_n hx hb dX1_flip_53 rfl (lv_at hl 1 rfl) ?_
        refine lv_imul hx hb dX1_flip_54 ?_
        refine lv_iload_n hx hb dX1_flip_55 rfl (lv_at hl 2 rfl) ?_
        refine lv_iadd hx hb dX1_flip_56 ?_
        obtain ⟨b13, h⟩ := kt_chk_some h
        refine va_zald (f := (kt_st σ 2 ((kt_ix ((16 * x1) + x2))) ((kt_bo 1))) 2) hx hb hK X.1 3 1 (kt_MA2 (rfl)) rfl b13 dX1_flip_57 ?_
        refine lv_if_eq (tgt := 65) hx hb dX1_flip_58 (by decide) (fun c14 => ?_) (fun c14 => ?_)
        · have h := kt_ift c14 h
          refine lv_iconst (v := 0) hx hb dX1_flip_65 (by decide) ?_
          exact kt_iret (v := 0) (WS := kt_M h0 ad d1 d2) (σ := kt_st σ 2 ((kt_ix ((16 * x1) + x2))) ((kt_bo 1))) K hK X h dX1_flip_66
        · have h := kt_iff c14 h
          refine lv_iconst (v := 1) hx hb dX1_flip_61 (by decide) ?_
          refine lv_goto (tgt := 66) hx hb dX1_flip_62 (by decide) ?_
          exact kt_iret (v := 1) (WS := kt_M h0 ad d1 d2) (σ := kt_st σ 2 ((kt_ix ((16 * x1) + x2))) ((kt_bo 1))) K hK X h dX1_flip_66
    · have h := kt_iff c6 h
      refine lv_bipush (v := (-2)) hx hb dX1_flip_14 (by decide) ?_
      exact kt_iret (v := (-2)) (WS := kt_M h0 ad d1 d2) (σ := σ) K hK X h dX1_flip_16
set_option maxHeartbeats 4000000 in
set_option maxRecDepth 100000 in
/-- KeepTreeModel.setRoot(IZ)I -/
theorem met_m_setRoot (l : Launch) (dC : Nat → ClassId) (dI : Nat → Nat → Nat) (h0 : Nat) (ad : Nat → Nat) (d1 d2 : ClassId) (σ : KSt) (x1 x2 : Int32) (a : Int32 × KSt) (h : m_setRoot σ x1 x2 = some a) : kt_Ci l yX1_setRoot (ws_ yX1_setRoot cX1_setRoot 4 (some .int)) ({ frames := 1, cells := 0, slots := 0, locals := 20 } : Room) h0 [.int x1, .int x2] dC dI (kt_T d1 d2) (kt_M h0 ad d1 d2) σ a := by
  refine kt_enter (Qc := fun A => kt_Qi a dC dI (kt_T d1 d2) (kt_M h0 ad d1 d2) A) (by decide) (Nat.le_of_ble_eq_true rfl) ?_
  intro p e s m below meth c A ls K hK hA X hl
  have K : kt_E RX1 p s m meth c cX1_setRoot 4 (some .int) _ := K
  obtain ⟨hx, hb, hml, hown, hts, hr, hlocks⟩ := id K
  generalize hs0 : s.heap = H at X ⊢
  generalize hl0 : ([] : List Loc) = locs at X ⊢
  have hRf : 1 ≤ (({ frames := 1, cells := 0, slots := 0, locals := 20 } : Room)).frames := Nat.le_refl _
  have hRl : 20 ≤ (({ frames := 1, cells := 0, slots := 0, locals := 20 } : Room)).locals := Nat.le_refl _
  have hl : lv_has ls 4 [(0, .ref h0), (1, .int x1), (2, .int x2)] := hl
  rw [m_setRoot] at h
  refine lv_iload_n hx hb dX1_setRoot_0 rfl (lv_at hl 1 rfl) ?_
  obtain ⟨a1, e2, h⟩ := kt_bnd h
  refine kt_calls (As := [.int x1]) (rest := []) K (met_m_bad l x1 a1 e2) (va_cwS 1 hts (lw_S q216 q217 q19 q218) rfl rfl rfl (by decide +kernel) ⟨Nat.le_trans (Nat.le_of_ble_eq_true rfl) hRf, Nat.le_trans (Nat.le_of_ble_eq_true rfl) hRl⟩) rfl hl.1 rfl (Nat.le_of_ble_eq_true rfl) dX1_setRoot_1 X (fun H locs X => ?_)
  refine lv_if_eq (tgt := 10) hx hb dX1_setRoot_4 (by decide) (fun c3 => ?_) (fun c3 => ?_)
  · have h := kt_ift c3 h
    refine lv_aload_n hx hb dX1_setRoot_10 rfl (lv_at hl 0 rfl) ?_
    refine va_get (D := (dC, dI)) (ci := 1) (v := .ref (ad 1)) (C := RX1) (T := TX1) (N := 5) hx hb hts in_X1 hown hK X.1 0 kt_M0 rfl 1 (by decide) (hts _ q196) (fun _ h9 => h9) kt_MF1 dX1_setRoot_11 ?_
    refine lv_iload_n hx hb dX1_setRoot_14 rfl (lv_at hl 1 rfl) ?_
    obtain ⟨b4, h⟩ := kt_chk_some h
    refine va_zald (f := σ 1) hx hb hK X.1 2 1 (kt_MA1 (rfl)) rfl b4 dX1_setRoot_15 ?_
    refine lv_if_eq (tgt := 23) hx hb dX1_setRoot_16 (by decide) (fun c5 => ?_) (fun c5 => ?_)
    · have h := kt_ift c5 h
      refine lv_iconst (v := 0) hx hb dX1_setRoot_23 (by decide) ?_
      refine lv_istore_n (lv' := [(3, .int 0), (0, .ref h0), (1, .int x1), (2, .int x2)]) hx hb dX1_setRoot_24 rfl hl (by decide) rfl (fun ls hl => ?_)
      refine lv_aload_n hx hb dX1_setRoot_25 rfl (lv_at hl 1 rfl) ?_
      refine va_get (D := (dC, dI)) (ci := 1) (v := .ref (ad 1)) (C := RX1) (T := TX1) (N := 5) hx hb hts in_X1 hown hK X.1 0 kt_M0 rfl 1 (by decide) (hts _ q196) (fun _ h9 => h9) kt_MF1 dX1_setRoot_26 ?_
      refine lv_iload_n hx hb dX1_setRoot_29 rfl (lv_at hl 2 rfl) ?_
      refine lv_iload_n hx hb dX1_setRoot_30 rfl (lv_at hl 3 rfl) ?_
      obtain ⟨b6, h⟩ := kt_chk_some h
      refine va_zast (f := σ 1) hx hb hK X.1 X.2.1 X.2.2 2 1 (kt_MA1 rfl) rfl b6 dX1_setRoot_31 (fun H locs hP hD hS => ?_)
      have X : kt_X dC dI (kt_M h0 ad d1 d2 (kt_st σ 1 ((kt_ix x1)) ((kt_bo x2)))) A s H locs := kt_MXA1 hP hD hS
      refine lv_iload_n hx hb dX1_setRoot_32 rfl (lv_at hl 0 rfl) ?_
      exact kt_iret (v := 0) (WS := kt_M h0 ad d1 d2) (σ := kt_st σ 1 ((kt_ix x1)) ((kt_bo x2))) K hK X h dX1_setRoot_33
    · have h := kt_iff c5 h
      refine lv_iconst (v := 1) hx hb dX1_setRoot_19 (by decide) ?_
      refine lv_goto (tgt := 24) hx hb dX1_setRoot_20 (by decide) ?_
      refine lv_istore_n (lv' := [(3, .int 1), (0, .ref h0), (1, .int x1), (2, .int x2)]) hx hb dX1_setRoot_24 rfl hl (by decide) rfl (fun ls hl => ?_)
      refine lv_aload_n hx hb dX1_setRoot_25 rfl (lv_at hl 1 rfl) ?_
      refine va_get (D := (dC, dI)) (ci := 1) (v := .ref (ad 1)) (C := RX1) (T := TX1) (N := 5) hx hb hts in_X1 hown hK X.1 0 kt_M0 rfl 1 (by decide) (hts _ q196) (fun _ h9 => h9) kt_MF1 dX1_setRoot_26 ?_
      refine lv_iload_n hx hb dX1_setRoot_29 rfl (lv_at hl 2 rfl) ?_
      refine lv_iload_n hx hb dX1_setRoot_30 rfl (lv_at hl 3 rfl) ?_
      obtain ⟨b7, h⟩ := kt_chk_some h
      refine va_zast (f := σ 1) hx hb hK X.1 X.2.1 X.2.2 2 1 (kt_MA1 rfl) rfl b7 dX1_setRoot_31 (fun H locs hP hD hS => ?_)
      have X : kt_X dC dI (kt_M h0 ad d1 d2 (kt_st σ 1 ((kt_ix x1)) ((kt_bo x2)))) A s H locs := kt_MXA1 hP hD hS
      refine lv_iload_n hx hb dX1_setRoot_32 rfl (lv_at hl 0 rfl) ?_
      exact kt_iret (v := 1) (WS := kt_M h0 ad d1 d2) (σ := kt_st σ 1 ((kt_ix x1)) ((kt_bo x2))) K hK X h dX1_setRoot_33
  · have h := kt_iff c3 h
    refine lv_bipush (v := (-2)) hx hb dX1_setRoot_7 (by decide) ?_
    exact kt_iret (v := (-2)) (WS := kt_M h0 ad d1 d2) (σ := σ) K hK X h dX1_setRoot_9
set_option maxHeartbeats 4000000 in
set_option maxRecDepth 100000 in
theorem wl_m_find_58 {p : Program} {l : Launch} {e : Env} {R : Room} {s : State} {m : MethodId} {args : Array Value} {below : List Frame} {meth : Method} {c : Code} {Q : State → Prop} {dC : Nat → ClassId} {dI : Nat → Nat → Nat} {d1 d2 : ClassId} {A : Nat → Prop} {h0 : Nat} {ad : Nat → Nat} (K : kt_E RX1 p s m meth c cX1_find 6 none args) (hK : va_K (dC, dI) vwCl (kt_T d1 d2) s) (hA : ∀ q : Nat, s.heap.size ≤ q → A q) (x1 x3 : Int32) :
    ∀ (n : Nat) (x2 x4 : Int32) (σ : KSt) (r : Int32 × Int32 × KSt), m_find_58 x1 x3 n x2 x4 σ = some r → ∀ (H : Heap) (locs : List Loc), kt_X dC dI (kt_M h0 ad d1 d2 σ) A s H locs → ∀ (ls : Array Slot), lv_has ls 6 [(0, .ref h0), (1, .int x1), (2, .int x2), (3, .int x3), (4, .int x4)] → (∀ (H : Heap) (locs : List Loc), kt_X dC dI (kt_M h0 ad d1 d2 r.2.2) A s H locs → ∀ (ls : Array Slot), lv_has ls 6 [(0, .ref h0), (1, .int x1), (2, .int r.1), (3, .int x3), (4, .int r.2.1)] → W p l e R s m args below meth c H locs 0 0 Q (F0 m 128 ls [])) → W p l e R s m args below meth c H locs 0 0 Q (F0 m 58 ls []) := by
  obtain ⟨hx, hb, hml, hown, hts, hr, hlocks⟩ := id K
  intro n
  induction n with
  | zero =>
    intro _ _ _ r h
    cases h
  | succ n ih =>
    intro x2 x4 σ r h H locs X ls hl kE
    rw [m_find_58] at h
    refine lv_iload hx hb dX1_find_58 (lv_at hl 4 rfl) ?_
    refine lv_sipush (v := 256) hx hb dX1_find_60 (by decide) ?_
    refine lv_icmp_ge (tgt := 128) hx hb dX1_find_63 (by decide) (fun c1 => ?_) (fun c1 => ?_)
    · have h := kt_ift c1 h
      cases h
      exact kE H locs X ls (lv_sub hl [0, 1, 2, 3, 4] rfl)
    · have h := kt_iff c1 h
      refine lv_iload hx hb dX1_find_66 (lv_at hl 4 rfl) ?_
      refine lv_bipush (v := 16) hx hb dX1_find_68 (by decide) ?_
      refine lv_irem hx hb dX1_find_70 (by decide) ?_
      refine lv_topi (fun y2 e3 => ?_)
      have h := kt_nm_at e3 h
      refine lv_istore (lv' := [(5, .int y2), (0, .ref h0), (1, .int x1), (2, .int x2), (3, .int x3), (4, .int x4)]) hx hb dX1_find_71 hl (by decide) rfl (fun ls hl => ?_)
      refine lv_aload_n hx hb dX1_find_73 rfl (lv_at hl 1 rfl) ?_
      refine va_get (D := (dC, dI)) (ci := 1) (v := .ref (ad 2)) (C := RX1) (T := TX1) (N := 5) hx hb hts in_X1 hown hK X.1 0 kt_M0 rfl 2 (by decide) (hts _ q197) (fun _ h9 => h9) kt_MF2 dX1_find_74 ?_
      refine lv_iload hx hb dX1_find_77 (lv_at hl 5 rfl) ?_
      obtain ⟨b4, h⟩ := kt_chk_some h
      refine va_zald (f := σ 2) hx hb hK X.1 3 1 (kt_MA2 (rfl)) rfl b4 dX1_find_79 ?_
      refine lv_if_eq (tgt := 122) hx hb dX1_find_80 (by decide) (fun c5 => ?_) (fun c5 => ?_)
      · have h := kt_ift c5 h
        refine lv_iinc (v := x4 + 1) (lv' := [(4, .int (x4 + 1)), (5, .int y2), (0, .ref h0), (1, .int x1), (2, .int x2), (3, .int x3)]) hx hb dX1_find_122 hl (k := 5) rfl rfl (by decide) rfl (fun ls hl => ?_)
        refine lv_goto (tgt := 58) hx hb dX1_find_125 (by decide) ?_
        exact ih x2 (x4 + 1) σ r h H locs X ls (lv_sub hl [2, 3, 4, 5, 0] rfl) kE
      · have h := kt_iff c5 h
        refine lv_aload_n hx hb dX1_find_83 rfl (lv_at hl 1 rfl) ?_
        refine va_get (D := (dC, dI)) (ci := 1) (v := .ref (ad 3)) (C := RX1) (T := TX1) (N := 5) hx hb hts in_X1 hown hK X.1 0 kt_M0 rfl 3 (by decide) (hts _ q198) (fun _ h9 => h9) kt_MF3 dX1_find_84 ?_
        refine lv_iload hx hb dX1_find_87 (lv_at hl 5 rfl) ?_
        refine lv_bipush (v := 16) hx hb dX1_find_89 (by decide) ?_
        refine lv_idiv hx hb dX1_find_91 (by decide) ?_
        obtain ⟨b6, h⟩ := kt_chk_some h
        refine va_zald (f := σ 3) hx hb hK X.1 4 1 (kt_MA3 (rfl)) rfl b6 dX1_find_92 ?_
        refine lv_if_eq (tgt := 122) hx hb dX1_find_93 (by decide) (fun c7 => ?_) (fun c7 => ?_)
        · have h := kt_ift c7 h
          refine lv_iinc (v := x4 + 1) (lv' := [(4, .int (x4 + 1)), (5, .int y2), (0, .ref h0), (1, .int x1), (2, .int x2), (3, .int x3)]) hx hb dX1_find_122 hl (k := 5) rfl rfl (by decide) rfl (fun ls hl => ?_)
          refine lv_goto (tgt := 58) hx hb dX1_find_125 (by decide) ?_
          exact ih x2 (x4 + 1) σ r h H locs X ls (lv_sub hl [2, 3, 4, 5, 0] rfl) kE
        · have h := kt_iff c7 h
          refine lv_aload_n hx hb dX1_find_96 rfl (lv_at hl 1 rfl) ?_
          refine va_get (D := (dC, dI)) (ci := 1) (v := .ref (ad 3)) (C := RX1) (T := TX1) (N := 5) hx hb hts in_X1 hown hK X.1 0 kt_M0 rfl 3 (by decide) (hts _ q198) (fun _ h9 => h9) kt_MF3 dX1_find_97 ?_
          refine lv_iload hx hb dX1_find_100 (lv_at hl 0 rfl) ?_
          obtain ⟨b8, h⟩ := kt_chk_some h
          refine va_zald (f := σ 3) hx hb hK X.1 4 1 (kt_MA3 (rfl)) rfl b8 dX1_find_102 ?_
          refine lv_if_ne (tgt := 122) hx hb dX1_find_103 (by decide) (fun c9 => ?_) (fun c9 => ?_)
          · have h := kt_iff c9 h
            refine lv_iinc (v := x4 + 1) (lv' := [(4, .int (x4 + 1)), (5, .int y2), (0, .ref h0), (1, .int x1), (2, .int x2), (3, .int x3)]) hx hb dX1_find_122 hl (k := 5) rfl rfl (by decide) rfl (fun ls hl => ?_)
            refine lv_goto (tgt := 58) hx hb dX1_find_125 (by decide) ?_
            exact ih x2 (x4 + 1) σ r h H locs X ls (lv_sub hl [2, 3, 4, 5, 0] rfl) kE
          · have h := kt_ift c9 h
            refine lv_iload hx hb dX1_find_106 (lv_at hl 0 rfl) ?_
            refine lv_iload_n hx hb dX1_find_108 rfl (lv_at hl 2 rfl) ?_
            refine lv_icmp_eq (tgt := 122) hx hb dX1_find_109 (by decide) (fun c10 => ?_) (fun c10 => ?_)
            · have h := kt_ift c10 h
              refine lv_iinc (v := x4 + 1) (lv' := [(4, .int (x4 + 1)), (5, .int y2), (0, .ref h0), (1, .int x1), (2, .int x2), (3, .int x3)]) hx hb dX1_find_122 hl (k := 5) rfl rfl (by decide) rfl (fun ls hl => ?_)
              refine lv_goto (tgt := 58) hx hb dX1_find_125 (by decide) ?_
              exact ih x2 (x4 + 1) σ r h H locs X ls (lv_sub hl [2, 3, 4, 5, 0] rfl) kE
            · have h := kt_iff c10 h
              refine lv_aload_n hx hb dX1_find_112 rfl (lv_at hl 1 rfl) ?_
              refine va_get (D := (dC, dI)) (ci := 1) (v := .ref (ad 3)) (C := RX1) (T := TX1) (N := 5) hx hb hts in_X1 hown hK X.1 0 kt_M0 rfl 3 (by decide) (hts _ q198) (fun _ h9 => h9) kt_MF3 dX1_find_113 ?_
              refine lv_iload hx hb dX1_find_116 (lv_at hl 0 rfl) ?_
              refine lv_iconst (v := 1) hx hb dX1_find_118 (by decide) ?_
              obtain ⟨b11, h⟩ := kt_chk_some h
              refine va_zast (f := σ 3) hx hb hK X.1 X.2.1 X.2.2 4 1 (kt_MA3 rfl) rfl b11 dX1_find_119 (fun H locs hP hD hS => ?_)
              have X : kt_X dC dI (kt_M h0 ad d1 d2 (kt_st σ 3 ((kt_ix y2)) ((kt_bo 1)))) A s H locs := kt_MXA3 hP hD hS
              refine lv_iconst (v := 1) hx hb dX1_find_120 (by decide) ?_
              refine lv_istore_n (lv' := [(2, .int 1), (5, .int y2), (0, .ref h0), (1, .int x1), (3, .int x3), (4, .int x4)]) hx hb dX1_find_121 rfl hl (by decide) rfl (fun ls hl => ?_)
              refine lv_iinc (v := x4 + 1) (lv' := [(4, .int (x4 + 1)), (2, .int 1), (5, .int y2), (0, .ref h0), (1, .int x1), (3, .int x3)]) hx hb dX1_find_122 hl (k := 5) rfl rfl (by decide) rfl (fun ls hl => ?_)
              refine lv_goto (tgt := 58) hx hb dX1_find_125 (by decide) ?_
              exact ih 1 (x4 + 1) (kt_st σ 3 ((kt_ix y2)) ((kt_bo 1))) r h H locs X ls (lv_sub hl [3, 4, 1, 5, 0] rfl) kE
set_option maxHeartbeats 4000000 in
set_option maxRecDepth 100000 in
theorem wl_m_find_43 {p : Program} {l : Launch} {e : Env} {R : Room} {s : State} {m : MethodId} {args : Array Value} {below : List Frame} {meth : Method} {c : Code} {Q : State → Prop} {dC : Nat → ClassId} {dI : Nat → Nat → Nat} {d1 d2 : ClassId} {A : Nat → Prop} {h0 : Nat} {ad : Nat → Nat} (K : kt_E RX1 p s m meth c cX1_find 6 none args) (hK : va_K (dC, dI) vwCl (kt_T d1 d2) s) (hA : ∀ q : Nat, s.heap.size ≤ q → A q) (N : Nat) (x1 : Int32) :
    ∀ (n : Nat) (x2 x3 : Int32) (σ : KSt) (r : Int32 × Int32 × KSt), m_find_43 N x1 n x2 x3 σ = some r → ∀ (H : Heap) (locs : List Loc), kt_X dC dI (kt_M h0 ad d1 d2 σ) A s H locs → ∀ (ls : Array Slot), lv_has ls 6 [(0, .ref h0), (1, .int x1), (2, .int x2), (3, .int x3)] → (∀ (H : Heap) (locs : List Loc), kt_X dC dI (kt_M h0 ad d1 d2 r.2.2) A s H locs → ∀ (ls : Array Slot), lv_has ls 6 [(0, .ref h0), (1, .int x1), (2, .int r.1), (3, .int r.2.1)] → W p l e R s m args below meth c H locs 0 0 Q (F0 m 134 ls [])) → W p l e R s m args below meth c H locs 0 0 Q (F0 m 43 ls []) := by
  obtain ⟨hx, hb, hml, hown, hts, hr, hlocks⟩ := id K
  intro n
  induction n with
  | zero =>
    intro _ _ _ r h
    cases h
  | succ n ih =>
    intro x2 x3 σ r h H locs X ls hl kE
    rw [m_find_43] at h
    refine lv_iload_n hx hb dX1_find_43 rfl (lv_at hl 3 rfl) ?_
    refine lv_bipush (v := 16) hx hb dX1_find_44 (by decide) ?_
    refine lv_icmp_ge (tgt := 134) hx hb dX1_find_46 (by decide) (fun c1 => ?_) (fun c1 => ?_)
    · have h := kt_ift c1 h
      cases h
      exact kE H locs X ls (lv_sub hl [0, 1, 2, 3] rfl)
    · have h := kt_iff c1 h
      refine lv_iload_n hx hb dX1_find_49 rfl (lv_at hl 2 rfl) ?_
      refine lv_if_eq (tgt := 134) hx hb dX1_find_50 (by decide) (fun c2 => ?_) (fun c2 => ?_)
      · have h := kt_ift c2 h
        cases h
        exact kE H locs X ls (lv_sub hl [0, 1, 2, 3] rfl)
      · have h := kt_iff c2 h
        refine lv_iconst (v := 0) hx hb dX1_find_53 (by decide) ?_
        refine lv_istore_n (lv' := [(2, .int 0), (0, .ref h0), (1, .int x1), (3, .int x3)]) hx hb dX1_find_54 rfl hl (by decide) rfl (fun ls hl => ?_)
        refine lv_iconst (v := 0) hx hb dX1_find_55 (by decide) ?_
        refine lv_istore (lv' := [(4, .int 0), (2, .int 0), (0, .ref h0), (1, .int x1), (3, .int x3)]) hx hb dX1_find_56 hl (by decide) rfl (fun ls hl => ?_)
        obtain ⟨a3, e4, h⟩ := kt_bnd h
        refine wl_m_find_58 K hK hA x1 x3 N 0 0 σ a3 e4 H locs X ls (lv_sub hl [2, 3, 1, 4, 0] rfl) (fun H locs X ls hl => ?_)
        refine lv_iinc (v := x3 + 1) (lv' := [(3, .int (x3 + 1)), (0, .ref h0), (1, .int x1), (2, .int a3.1), (4, .int a3.2.1)]) hx hb dX1_find_128 hl (k := 3) rfl rfl (by decide) rfl (fun ls hl => ?_)
        refine lv_goto (tgt := 43) hx hb dX1_find_131 (by decide) ?_
        exact ih a3.1 (x3 + 1) a3.2.2 r h H locs X ls (lv_sub hl [1, 2, 3, 0] rfl) kE
set_option maxHeartbeats 4000000 in
set_option maxRecDepth 100000 in
theorem wl_m_find_2 {p : Program} {l : Launch} {e : Env} {R : Room} {s : State} {m : MethodId} {args : Array Value} {below : List Frame} {meth : Method} {c : Code} {Q : State → Prop} {dC : Nat → ClassId} {dI : Nat → Nat → Nat} {d1 d2 : ClassId} {A : Nat → Prop} {h0 : Nat} {ad : Nat → Nat} (K : kt_E RX1 p s m meth c cX1_find 6 none args) (hK : va_K (dC, dI) vwCl (kt_T d1 d2) s) (hA : ∀ q : Nat, s.heap.size ≤ q → A q) (x1 : Int32) :
    ∀ (n : Nat) (x2 : Int32) (σ : KSt) (r : Int32 × KSt), m_find_2 x1 n x2 σ = some r → ∀ (H : Heap) (locs : List Loc), kt_X dC dI (kt_M h0 ad d1 d2 σ) A s H locs → ∀ (ls : Array Slot), lv_has ls 6 [(0, .ref h0), (1, .int x1), (2, .int x2)] → (∀ (H : Heap) (locs : List Loc), kt_X dC dI (kt_M h0 ad d1 d2 r.2) A s H locs → ∀ (ls : Array Slot), lv_has ls 6 [(0, .ref h0), (1, .int x1), (2, .int r.1)] → W p l e R s m args below meth c H locs 0 0 Q (F0 m 39 ls [])) → W p l e R s m args below meth c H locs 0 0 Q (F0 m 2 ls []) := by
  obtain ⟨hx, hb, hml, hown, hts, hr, hlocks⟩ := id K
  intro n
  induction n with
  | zero =>
    intro _ _ r h
    cases h
  | succ n ih =>
    intro x2 σ r h H locs X ls hl kE
    rw [m_find_2] at h
    refine lv_iload_n hx hb dX1_find_2 rfl (lv_at hl 2 rfl) ?_
    refine lv_bipush (v := 16) hx hb dX1_find_3 (by decide) ?_
    refine lv_icmp_ge (tgt := 39) hx hb dX1_find_5 (by decide) (fun c1 => ?_) (fun c1 => ?_)
    · have h := kt_ift c1 h
      cases h
      exact kE H locs X ls (lv_sub hl [0, 1, 2] rfl)
    · have h := kt_iff c1 h
      refine lv_aload_n hx hb dX1_find_8 rfl (lv_at hl 0 rfl) ?_
      refine va_get (D := (dC, dI)) (ci := 1) (v := .ref (ad 3)) (C := RX1) (T := TX1) (N := 5) hx hb hts in_X1 hown hK X.1 0 kt_M0 rfl 3 (by decide) (hts _ q198) (fun _ h9 => h9) kt_MF3 dX1_find_9 ?_
      refine lv_iload_n hx hb dX1_find_12 rfl (lv_at hl 2 rfl) ?_
      refine lv_aload_n hx hb dX1_find_13 rfl (lv_at hl 0 rfl) ?_
      refine va_get (D := (dC, dI)) (ci := 1) (v := .ref (ad 1)) (C := RX1) (T := TX1) (N := 5) hx hb hts in_X1 hown hK X.1 0 kt_M0 rfl 1 (by decide) (hts _ q196) (fun _ h9 => h9) kt_MF1 dX1_find_14 ?_
      refine lv_iload_n hx hb dX1_find_17 rfl (lv_at hl 2 rfl) ?_
      obtain ⟨b2, h⟩ := kt_chk_some h
      refine va_zald (f := σ 1) hx hb hK X.1 2 1 (kt_MA1 (rfl)) rfl b2 dX1_find_18 ?_
      refine lv_if_eq (tgt := 31) hx hb dX1_find_19 (by decide) (fun c3 => ?_) (fun c3 => ?_)
      · have h := kt_ift c3 h
        refine lv_iconst (v := 0) hx hb dX1_find_31 (by decide) ?_
        obtain ⟨b4, h⟩ := kt_chk_some h
        refine va_zast (f := σ 3) hx hb hK X.1 X.2.1 X.2.2 4 1 (kt_MA3 rfl) rfl b4 dX1_find_32 (fun H locs hP hD hS => ?_)
        have X : kt_X dC dI (kt_M h0 ad d1 d2 (kt_st σ 3 ((kt_ix x2)) ((kt_bo 0)))) A s H locs := kt_MXA3 hP hD hS
        refine lv_iinc (v := x2 + 1) (lv' := [(2, .int (x2 + 1)), (0, .ref h0), (1, .int x1)]) hx hb dX1_find_33 hl (k := 2) rfl rfl (by decide) rfl (fun ls hl => ?_)
        refine lv_goto (tgt := 2) hx hb dX1_find_36 (by decide) ?_
        exact ih (x2 + 1) (kt_st σ 3 ((kt_ix x2)) ((kt_bo 0))) r h H locs X ls (lv_sub hl [1, 2, 0] rfl) kE
      · have h := kt_iff c3 h
        refine lv_iload_n hx hb dX1_find_22 rfl (lv_at hl 2 rfl) ?_
        refine lv_iload_n hx hb dX1_find_23 rfl (lv_at hl 1 rfl) ?_
        refine lv_icmp_eq (tgt := 31) hx hb dX1_find_24 (by decide) (fun c5 => ?_) (fun c5 => ?_)
        · have h := kt_ift c5 h
          refine lv_iconst (v := 0) hx hb dX1_find_31 (by decide) ?_
          obtain ⟨b6, h⟩ := kt_chk_some h
          refine va_zast (f := σ 3) hx hb hK X.1 X.2.1 X.2.2 4 1 (kt_MA3 rfl) rfl b6 dX1_find_32 (fun H locs hP hD hS => ?_)
          have X : kt_X dC dI (kt_M h0 ad d1 d2 (kt_st σ 3 ((kt_ix x2)) ((kt_bo 0)))) A s H locs := kt_MXA3 hP hD hS
          refine lv_iinc (v := x2 + 1) (lv' := [(2, .int (x2 + 1)), (0, .ref h0), (1, .int x1)]) hx hb dX1_find_33 hl (k := 2) rfl rfl (by decide) rfl (fun ls hl => ?_)
          refine lv_goto (tgt := 2) hx hb dX1_find_36 (by decide) ?_
          exact ih (x2 + 1) (kt_st σ 3 ((kt_ix x2)) ((kt_bo 0))) r h H locs X ls (lv_sub hl [1, 2, 0] rfl) kE
        · have h := kt_iff c5 h
          refine lv_iconst (v := 1) hx hb dX1_find_27 (by decide) ?_
          refine lv_goto (tgt := 32) hx hb dX1_find_28 (by decide) ?_
          obtain ⟨b7, h⟩ := kt_chk_some h
          refine va_zast (f := σ 3) hx hb hK X.1 X.2.1 X.2.2 4 1 (kt_MA3 rfl) rfl b7 dX1_find_32 (fun H locs hP hD hS => ?_)
          have X : kt_X dC dI (kt_M h0 ad d1 d2 (kt_st σ 3 ((kt_ix x2)) ((kt_bo 1)))) A s H locs := kt_MXA3 hP hD hS
          refine lv_iinc (v := x2 + 1) (lv' := [(2, .int (x2 + 1)), (0, .ref h0), (1, .int x1)]) hx hb dX1_find_33 hl (k := 2) rfl rfl (by decide) rfl (fun ls hl => ?_)
          refine lv_goto (tgt := 2) hx hb dX1_find_36 (by decide) ?_
          exact ih (x2 + 1) (kt_st σ 3 ((kt_ix x2)) ((kt_bo 1))) r h H locs X ls (lv_sub hl [1, 2, 0] rfl) kE
set_option maxHeartbeats 4000000 in
set_option maxRecDepth 100000 in
/-- KeepTreeModel.find(I)V -/
theorem met_m_find (l : Launch) (dC : Nat → ClassId) (dI : Nat → Nat → Nat) (h0 : Nat) (ad : Nat → Nat) (d1 d2 : ClassId) (N : Nat) (σ : KSt) (x1 : Int32) (a : KSt) (h : m_find N σ x1 = some a) : kt_Cv l yX1_find (ws_ yX1_find cX1_find 6 none) ({ frames := 0, cells := 0, slots := 0, locals := 0 } : Room) h0 [.int x1] dC dI (kt_T d1 d2) (kt_M h0 ad d1 d2) σ a := by
  refine kt_enter (Qc := fun A => kt_Qv a dC dI (kt_T d1 d2) (kt_M h0 ad d1 d2) A) (by decide) (Nat.le_of_ble_eq_true rfl) ?_
  intro p e s m below meth c A ls K hK hA X hl
  have K : kt_E RX1 p s m meth c cX1_find 6 none _ := K
  obtain ⟨hx, hb, hml, hown, hts, hr, hlocks⟩ := id K
  generalize hs0 : s.heap = H at X ⊢
  generalize hl0 : ([] : List Loc) = locs at X ⊢
  have hl : lv_has ls 6 [(0, .ref h0), (1, .int x1)] := hl
  rw [m_find] at h
  refine lv_iconst (v := 0) hx hb dX1_find_0 (by decide) ?_
  refine lv_istore_n (lv' := [(2, .int 0), (0, .ref h0), (1, .int x1)]) hx hb dX1_find_1 rfl hl (by decide) rfl (fun ls hl => ?_)
  obtain ⟨a1, e2, h⟩ := kt_bnd h
  refine wl_m_find_2 K hK hA x1 N 0 σ a1 e2 H locs X ls (lv_sub hl [1, 2, 0] rfl) (fun H locs X ls hl => ?_)
  refine lv_iconst (v := 1) hx hb dX1_find_39 (by decide) ?_
  refine lv_istore_n (lv' := [(2, .int 1), (0, .ref h0), (1, .int x1)]) hx hb dX1_find_40 rfl hl (by decide) rfl (fun ls hl => ?_)
  refine lv_iconst (v := 0) hx hb dX1_find_41 (by decide) ?_
  refine lv_istore_n (lv' := [(3, .int 0), (2, .int 1), (0, .ref h0), (1, .int x1)]) hx hb dX1_find_42 rfl hl (by decide) rfl (fun ls hl => ?_)
  obtain ⟨a3, e4, h⟩ := kt_bnd h
  refine wl_m_find_43 K hK hA N x1 N 1 0 a1.2 a3 e4 H locs X ls (lv_sub hl [2, 3, 1, 0] rfl) (fun H locs X ls hl => ?_)
  exact kt_vret (WS := kt_M h0 ad d1 d2) (σ := a3.2.2) K hK X h dX1_find_134
set_option maxHeartbeats 4000000 in
set_option maxRecDepth 100000 in
/-- KeepTreeModel.isAlive(I)Z -/
theorem met_m_isAlive (l : Launch) (dC : Nat → ClassId) (dI : Nat → Nat → Nat) (h0 : Nat) (ad : Nat → Nat) (d1 d2 : ClassId) (N : Nat) (σ : KSt) (x1 : Int32) (a : Int32 × KSt) (h : m_isAlive N σ x1 = some a) : kt_Ci l yX1_isAlive (ws_ yX1_isAlive cX1_isAlive 2 (some .boolean)) ({ frames := 1, cells := 0, slots := 0, locals := 25 } : Room) h0 [.int x1] dC dI (kt_T d1 d2) (kt_M h0 ad d1 d2) σ a := by
  refine kt_enter (Qc := fun A => kt_Qi a dC dI (kt_T d1 d2) (kt_M h0 ad d1 d2) A) (by decide) (Nat.le_of_ble_eq_true rfl) ?_
  intro p e s m below meth c A ls K hK hA X hl
  have K : kt_E RX1 p s m meth c cX1_isAlive 2 (some .boolean) _ := K
  obtain ⟨hx, hb, hml, hown, hts, hr, hlocks⟩ := id K
  generalize hs0 : s.heap = H at X ⊢
  generalize hl0 : ([] : List Loc) = locs at X ⊢
  have hRf : 1 ≤ (({ frames := 1, cells := 0, slots := 0, locals := 25 } : Room)).frames := Nat.le_refl _
  have hRl : 25 ≤ (({ frames := 1, cells := 0, slots := 0, locals := 25 } : Room)).locals := Nat.le_refl _
  have hl : lv_has ls 2 [(0, .ref h0), (1, .int x1)] := hl
  rw [m_isAlive] at h
  refine lv_aload_n hx hb dX1_isAlive_0 rfl (lv_at hl 0 rfl) ?_
  refine lv_iconst (v := (-1)) hx hb dX1_isAlive_1 (by decide) ?_
  obtain ⟨a1, e2, h⟩ := kt_bnd h
  refine kt_callv (WS := kt_M h0 ad d1 d2) (σ := σ) (As := [.int (-1)]) (rest := []) K hK hA (met_m_find l dC dI h0 ad d1 d2 N σ (-1) a1 e2) (cwV 1 hts (lw_V q235 q237 qs11 q19 q238) rfl rfl rfl (by decide +kernel) ⟨Nat.le_trans (Nat.le_of_ble_eq_true rfl) hRf, Nat.le_trans (Nat.le_of_ble_eq_true rfl) hRl⟩) (va_recv hK X.1 (ci := 1) (q0 := 0) rfl kt_M0) rfl hl.1 rfl (Nat.le_of_ble_eq_true rfl) dX1_isAlive_2 X (fun H locs X => ?_)
  refine lv_aload_n hx hb dX1_isAlive_5 rfl (lv_at hl 0 rfl) ?_
  refine va_get (D := (dC, dI)) (ci := 1) (v := .ref (ad 3)) (C := RX1) (T := TX1) (N := 5) hx hb hts in_X1 hown hK X.1 0 kt_M0 rfl 3 (by decide) (hts _ q198) (fun _ h9 => h9) kt_MF3 dX1_isAlive_6 ?_
  refine lv_iload_n hx hb dX1_isAlive_9 rfl (lv_at hl 1 rfl) ?_
  obtain ⟨b3, h⟩ := kt_chk_some h
  refine va_zald (f := a1 3) hx hb hK X.1 4 1 (kt_MA3 (rfl)) rfl b3 dX1_isAlive_10 ?_
  obtain ⟨b4, h⟩ := kt_chkB_some h
  exact kt_zret (v := a1 3 (kt_ix x1)) (WS := kt_M h0 ad d1 d2) (σ := a1) K b4 hK X h dX1_isAlive_11
set_option maxHeartbeats 4000000 in
set_option maxRecDepth 100000 in
/-- KeepTreeModel.alive(I)I -/
theorem met_m_alive (l : Launch) (dC : Nat → ClassId) (dI : Nat → Nat → Nat) (h0 : Nat) (ad : Nat → Nat) (d1 d2 : ClassId) (N : Nat) (σ : KSt) (x1 : Int32) (a : Int32 × KSt) (h : m_alive N σ x1 = some a) : kt_Ci l yX1_alive (ws_ yX1_alive cX1_alive 2 (some .int)) ({ frames := 2, cells := 0, slots := 0, locals := 46 } : Room) h0 [.int x1] dC dI (kt_T d1 d2) (kt_M h0 ad d1 d2) σ a := by
  refine kt_enter (Qc := fun A => kt_Qi a dC dI (kt_T d1 d2) (kt_M h0 ad d1 d2) A) (by decide) (Nat.le_of_ble_eq_true rfl) ?_
  intro p e s m below meth c A ls K hK hA X hl
  have K : kt_E RX1 p s m meth c cX1_alive 2 (some .int) _ := K
  obtain ⟨hx, hb, hml, hown, hts, hr, hlocks⟩ := id K
  generalize hs0 : s.heap = H at X ⊢
  generalize hl0 : ([] : List Loc) = locs at X ⊢
  have hRf : 2 ≤ (({ frames := 2, cells := 0, slots := 0, locals := 46 } : Room)).frames := Nat.le_refl _
  have hRl : 46 ≤ (({ frames := 2, cells := 0, slots := 0, locals := 46 } : Room)).locals := Nat.le_refl _
  have hl : lv_has ls 2 [(0, .ref h0), (1, .int x1)] := hl
  rw [m_alive] at h
  refine lv_iload_n hx hb dX1_alive_0 rfl (lv_at hl 1 rfl) ?_
  obtain ⟨a1, e2, h⟩ := kt_bnd h
  refine kt_calls (As := [.int x1]) (rest := []) K (met_m_bad l x1 a1 e2) (va_cwS 1 hts (lw_S q216 q217 q19 q218) rfl rfl rfl (by decide +kernel) ⟨Nat.le_trans (Nat.le_of_ble_eq_true rfl) hRf, Nat.le_trans (Nat.le_of_ble_eq_true rfl) hRl⟩) rfl hl.1 rfl (Nat.le_of_ble_eq_true rfl) dX1_alive_1 X (fun H locs X => ?_)
  refine lv_if_eq (tgt := 10) hx hb dX1_alive_4 (by decide) (fun c3 => ?_) (fun c3 => ?_)
  · have h := kt_ift c3 h
    refine lv_aload_n hx hb dX1_alive_10 rfl (lv_at hl 0 rfl) ?_
    refine lv_iload_n hx hb dX1_alive_11 rfl (lv_at hl 1 rfl) ?_
    obtain ⟨a4, e5, h⟩ := kt_bnd h
    refine kt_calli (WS := kt_M h0 ad d1 d2) (σ := σ) (As := [.int x1]) (rest := []) K hK hA (met_m_isAlive l dC dI h0 ad d1 d2 N σ x1 a4 e5) (cwV 1 hts (lw_V q231 q233 qs10 q19 q234) rfl rfl rfl (by decide +kernel) ⟨Nat.le_trans (Nat.le_of_ble_eq_true rfl) hRf, Nat.le_trans (Nat.le_of_ble_eq_true rfl) hRl⟩) (va_recv hK X.1 (ci := 1) (q0 := 0) rfl kt_M0) rfl hl.1 rfl (Nat.le_of_ble_eq_true rfl) dX1_alive_12 X (fun H locs X => ?_)
    refine lv_if_eq (tgt := 22) hx hb dX1_alive_15 (by decide) (fun c6 => ?_) (fun c6 => ?_)
    · have h := kt_ift c6 h
      refine lv_iconst (v := 0) hx hb dX1_alive_22 (by decide) ?_
      exact kt_iret (v := 0) (WS := kt_M h0 ad d1 d2) (σ := a4.2) K hK X h dX1_alive_23
    · have h := kt_iff c6 h
      refine lv_iconst (v := 1) hx hb dX1_alive_18 (by decide) ?_
      refine lv_goto (tgt := 23) hx hb dX1_alive_19 (by decide) ?_
      exact kt_iret (v := 1) (WS := kt_M h0 ad d1 d2) (σ := a4.2) K hK X h dX1_alive_23
  · have h := kt_iff c3 h
    refine lv_bipush (v := (-2)) hx hb dX1_alive_7 (by decide) ?_
    exact kt_iret (v := (-2)) (WS := kt_M h0 ad d1 d2) (σ := σ) K hK X h dX1_alive_9
set_option maxHeartbeats 4000000 in
set_option maxRecDepth 100000 in
theorem wl_m_gather_65 {p : Program} {l : Launch} {e : Env} {R : Room} {s : State} {m : MethodId} {args : Array Value} {below : List Frame} {meth : Method} {c : Code} {Q : State → Prop} {dC : Nat → ClassId} {dI : Nat → Nat → Nat} {d1 d2 : ClassId} {A : Nat → Prop} {h0 : Nat} {ad : Nat → Nat} (K : kt_E RX1 p s m meth c cX1_gather 3 none args) (hK : va_K (dC, dI) vwCl (kt_T d1 d2) s) (hA : ∀ q : Nat, s.heap.size ≤ q → A q) :
    ∀ (n : Nat) (x1 : Int32) (σ : KSt) (r : Int32 × KSt), m_gather_65 n x1 σ = some r → ∀ (H : Heap) (locs : List Loc), kt_X dC dI (kt_M h0 ad d1 d2 σ) A s H locs → ∀ (ls : Array Slot), lv_has ls 3 [(0, .ref h0), (1, .int x1)] → (∀ (H : Heap) (locs : List Loc), kt_X dC dI (kt_M h0 ad d1 d2 r.2) A s H locs → ∀ (ls : Array Slot), lv_has ls 3 [(0, .ref h0), (1, .int r.1)] → W p l e R s m args below meth c H locs 0 0 Q (F0 m 110 ls [])) → W p l e R s m args below meth c H locs 0 0 Q (F0 m 65 ls []) := by
  obtain ⟨hx, hb, hml, hown, hts, hr, hlocks⟩ := id K
  intro n
  induction n with
  | zero =>
    intro _ _ r h
    cases h
  | succ n ih =>
    intro x1 σ r h H locs X ls hl kE
    rw [m_gather_65] at h
    refine lv_iload_n hx hb dX1_gather_65 rfl (lv_at hl 1 rfl) ?_
    refine lv_sipush (v := 256) hx hb dX1_gather_66 (by decide) ?_
    refine lv_icmp_ge (tgt := 110) hx hb dX1_gather_69 (by decide) (fun c1 => ?_) (fun c1 => ?_)
    · have h := kt_ift c1 h
      cases h
      exact kE H locs X ls (lv_sub hl [0, 1] rfl)
    · have h := kt_iff c1 h
      refine lv_aload_n hx hb dX1_gather_72 rfl (lv_at hl 0 rfl) ?_
      refine va_get (D := (dC, dI)) (ci := 1) (v := .ref (ad 4)) (C := RX1) (T := TX1) (N := 5) hx hb hts in_X1 hown hK X.1 0 kt_M0 rfl 4 (by decide) (hts _ q199) (fun _ h9 => h9) kt_MF4 dX1_gather_73 ?_
      refine lv_iload_n hx hb dX1_gather_76 rfl (lv_at hl 1 rfl) ?_
      refine lv_aload_n hx hb dX1_gather_77 rfl (lv_at hl 0 rfl) ?_
      refine va_get (D := (dC, dI)) (ci := 1) (v := .ref (ad 4)) (C := RX1) (T := TX1) (N := 5) hx hb hts in_X1 hown hK X.1 0 kt_M0 rfl 4 (by decide) (hts _ q199) (fun _ h9 => h9) kt_MF4 dX1_gather_78 ?_
      refine lv_iload_n hx hb dX1_gather_81 rfl (lv_at hl 1 rfl) ?_
      obtain ⟨b2, h⟩ := kt_chk_some h
      refine va_zald (f := σ 4) hx hb hK X.1 5 1 (kt_MA4 (rfl)) rfl b2 dX1_gather_82 ?_
      refine lv_if_eq (tgt := 102) hx hb dX1_gather_83 (by decide) (fun c3 => ?_) (fun c3 => ?_)
      · have h := kt_ift c3 h
        refine lv_iconst (v := 0) hx hb dX1_gather_102 (by decide) ?_
        obtain ⟨b4, h⟩ := kt_chk_some h
        refine va_zast (f := σ 4) hx hb hK X.1 X.2.1 X.2.2 5 1 (kt_MA4 rfl) rfl b4 dX1_gather_103 (fun H locs hP hD hS => ?_)
        have X : kt_X dC dI (kt_M h0 ad d1 d2 (kt_st σ 4 ((kt_ix x1)) ((kt_bo 0)))) A s H locs := kt_MXA4 hP hD hS
        refine lv_iinc (v := x1 + 1) (lv' := [(1, .int (x1 + 1)), (0, .ref h0)]) hx hb dX1_gather_104 hl (k := 1) rfl rfl (by decide) rfl (fun ls hl => ?_)
        refine lv_goto (tgt := 65) hx hb dX1_gather_107 (by decide) ?_
        exact ih (x1 + 1) (kt_st σ 4 ((kt_ix x1)) ((kt_bo 0))) r h H locs X ls (lv_sub hl [1, 0] rfl) kE
      · have h := kt_iff c3 h
        refine lv_aload_n hx hb dX1_gather_86 rfl (lv_at hl 0 rfl) ?_
        refine va_get (D := (dC, dI)) (ci := 1) (v := .ref (ad 3)) (C := RX1) (T := TX1) (N := 5) hx hb hts in_X1 hown hK X.1 0 kt_M0 rfl 3 (by decide) (hts _ q198) (fun _ h9 => h9) kt_MF3 dX1_gather_87 ?_
        refine lv_iload_n hx hb dX1_gather_90 rfl (lv_at hl 1 rfl) ?_
        refine lv_bipush (v := 16) hx hb dX1_gather_91 (by decide) ?_
        refine lv_irem hx hb dX1_gather_93 (by decide) ?_
        obtain ⟨b5, h⟩ := kt_chk_some h
        refine va_zald (f := σ 3) hx hb hK X.1 4 1 (kt_MA3 (rfl)) rfl b5 dX1_gather_94 ?_
        refine lv_if_eq (tgt := 102) hx hb dX1_gather_95 (by decide) (fun c6 => ?_) (fun c6 => ?_)
        · have h := kt_ift c6 h
          refine lv_iconst (v := 0) hx hb dX1_gather_102 (by decide) ?_
          obtain ⟨b7, h⟩ := kt_chk_some h
          refine va_zast (f := σ 4) hx hb hK X.1 X.2.1 X.2.2 5 1 (kt_MA4 rfl) rfl b7 dX1_gather_103 (fun H locs hP hD hS => ?_)
          have X : kt_X dC dI (kt_M h0 ad d1 d2 (kt_st σ 4 ((kt_ix x1)) ((kt_bo 0)))) A s H locs := kt_MXA4 hP hD hS
          refine lv_iinc (v := x1 + 1) (lv' := [(1, .int (x1 + 1)), (0, .ref h0)]) hx hb dX1_gather_104 hl (k := 1) rfl rfl (by decide) rfl (fun ls hl => ?_)
          refine lv_goto (tgt := 65) hx hb dX1_gather_107 (by decide) ?_
          exact ih (x1 + 1) (kt_st σ 4 ((kt_ix x1)) ((kt_bo 0))) r h H locs X ls (lv_sub hl [1, 0] rfl) kE
        · have h := kt_iff c6 h
          refine lv_iconst (v := 1) hx hb dX1_gather_98 (by decide) ?_
          refine lv_goto (tgt := 103) hx hb dX1_gather_99 (by decide) ?_
          obtain ⟨b8, h⟩ := kt_chk_some h
          refine va_zast (f := σ 4) hx hb hK X.1 X.2.1 X.2.2 5 1 (kt_MA4 rfl) rfl b8 dX1_gather_103 (fun H locs hP hD hS => ?_)
          have X : kt_X dC dI (kt_M h0 ad d1 d2 (kt_st σ 4 ((kt_ix x1)) ((kt_bo 1)))) A s H locs := kt_MXA4 hP hD hS
          refine lv_iinc (v := x1 + 1) (lv' := [(1, .int (x1 + 1)), (0, .ref h0)]) hx hb dX1_gather_104 hl (k := 1) rfl rfl (by decide) rfl (fun ls hl => ?_)
          refine lv_goto (tgt := 65) hx hb dX1_gather_107 (by decide) ?_
          exact ih (x1 + 1) (kt_st σ 4 ((kt_ix x1)) ((kt_bo 1))) r h H locs X ls (lv_sub hl [1, 0] rfl) kE
set_option maxHeartbeats 4000000 in
set_option maxRecDepth 100000 in
theorem wl_m_gather_15 {p : Program} {l : Launch} {e : Env} {R : Room} {s : State} {m : MethodId} {args : Array Value} {below : List Frame} {meth : Method} {c : Code} {Q : State → Prop} {dC : Nat → ClassId} {dI : Nat → Nat → Nat} {d1 d2 : ClassId} {A : Nat → Prop} {h0 : Nat} {ad : Nat → Nat} (K : kt_E RX1 p s m meth c cX1_gather 3 none args) (hK : va_K (dC, dI) vwCl (kt_T d1 d2) s) (hA : ∀ q : Nat, s.heap.size ≤ q → A q) (x1 : Int32) :
    ∀ (n : Nat) (x2 : Int32) (σ : KSt) (r : Int32 × KSt), m_gather_15 x1 n x2 σ = some r → ∀ (H : Heap) (locs : List Loc), kt_X dC dI (kt_M h0 ad d1 d2 σ) A s H locs → ∀ (ls : Array Slot), lv_has ls 3 [(0, .ref h0), (1, .int x1), (2, .int x2)] → (∀ (H : Heap) (locs : List Loc), kt_X dC dI (kt_M h0 ad d1 d2 r.2) A s H locs → ∀ (ls : Array Slot), lv_has ls 3 [(0, .ref h0), (1, .int x1), (2, .int r.1)] → W p l e R s m args below meth c H locs 0 0 Q (F0 m 52 ls [])) → W p l e R s m args below meth c H locs 0 0 Q (F0 m 15 ls []) := by
  obtain ⟨hx, hb, hml, hown, hts, hr, hlocks⟩ := id K
  intro n
  induction n with
  | zero =>
    intro _ _ r h
    cases h
  | succ n ih =>
    intro x2 σ r h H locs X ls hl kE
    rw [m_gather_15] at h
    refine lv_iload_n hx hb dX1_gather_15 rfl (lv_at hl 2 rfl) ?_
    refine lv_bipush (v := 16) hx hb dX1_gather_16 (by decide) ?_
    refine lv_icmp_ge (tgt := 52) hx hb dX1_gather_18 (by decide) (fun c1 => ?_) (fun c1 => ?_)
    · have h := kt_ift c1 h
      cases h
      exact kE H locs X ls (lv_sub hl [0, 1, 2] rfl)
    · have h := kt_iff c1 h
      refine lv_aload_n hx hb dX1_gather_21 rfl (lv_at hl 0 rfl) ?_
      refine va_get (D := (dC, dI)) (ci := 1) (v := .ref (ad 4)) (C := RX1) (T := TX1) (N := 5) hx hb hts in_X1 hown hK X.1 0 kt_M0 rfl 4 (by decide) (hts _ q199) (fun _ h9 => h9) kt_MF4 dX1_gather_22 ?_
      refine lv_bipush (v := 16) hx hb dX1_gather_25 (by decide) ?_
      refine lv_iload_n hx hb dX1_gather_27 rfl (lv_at hl 1 rfl) ?_
      refine lv_imul hx hb dX1_gather_28 ?_
      refine lv_iload_n hx hb dX1_gather_29 rfl (lv_at hl 2 rfl) ?_
      refine lv_iadd hx hb dX1_gather_30 ?_
      refine lv_aload_n hx hb dX1_gather_31 rfl (lv_at hl 0 rfl) ?_
      refine va_get (D := (dC, dI)) (ci := 1) (v := .ref (ad 3)) (C := RX1) (T := TX1) (N := 5) hx hb hts in_X1 hown hK X.1 0 kt_M0 rfl 3 (by decide) (hts _ q198) (fun _ h9 => h9) kt_MF3 dX1_gather_32 ?_
      refine lv_iload_n hx hb dX1_gather_35 rfl (lv_at hl 2 rfl) ?_
      obtain ⟨b2, h⟩ := kt_chk_some h
      refine va_zald (f := σ 3) hx hb hK X.1 4 1 (kt_MA3 (rfl)) rfl b2 dX1_gather_36 ?_
      refine lv_if_ne (tgt := 44) hx hb dX1_gather_37 (by decide) (fun c3 => ?_) (fun c3 => ?_)
      · have h := kt_iff c3 h
        refine lv_iconst (v := 0) hx hb dX1_gather_44 (by decide) ?_
        obtain ⟨b4, h⟩ := kt_chk_some h
        refine va_zast (f := σ 4) hx hb hK X.1 X.2.1 X.2.2 5 1 (kt_MA4 rfl) rfl b4 dX1_gather_45 (fun H locs hP hD hS => ?_)
        have X : kt_X dC dI (kt_M h0 ad d1 d2 (kt_st σ 4 ((kt_ix ((16 * x1) + x2))) ((kt_bo 0)))) A s H locs := kt_MXA4 hP hD hS
        refine lv_iinc (v := x2 + 1) (lv' := [(2, .int (x2 + 1)), (0, .ref h0), (1, .int x1)]) hx hb dX1_gather_46 hl (k := 2) rfl rfl (by decide) rfl (fun ls hl => ?_)
        refine lv_goto (tgt := 15) hx hb dX1_gather_49 (by decide) ?_
        exact ih (x2 + 1) (kt_st σ 4 ((kt_ix ((16 * x1) + x2))) ((kt_bo 0))) r h H locs X ls (lv_sub hl [1, 2, 0] rfl) kE
      · have h := kt_ift c3 h
        refine lv_iconst (v := 1) hx hb dX1_gather_40 (by decide) ?_
        refine lv_goto (tgt := 45) hx hb dX1_gather_41 (by decide) ?_
        obtain ⟨b5, h⟩ := kt_chk_some h
        refine va_zast (f := σ 4) hx hb hK X.1 X.2.1 X.2.2 5 1 (kt_MA4 rfl) rfl b5 dX1_gather_45 (fun H locs hP hD hS => ?_)
        have X : kt_X dC dI (kt_M h0 ad d1 d2 (kt_st σ 4 ((kt_ix ((16 * x1) + x2))) ((kt_bo 1)))) A s H locs := kt_MXA4 hP hD hS
        refine lv_iinc (v := x2 + 1) (lv' := [(2, .int (x2 + 1)), (0, .ref h0), (1, .int x1)]) hx hb dX1_gather_46 hl (k := 2) rfl rfl (by decide) rfl (fun ls hl => ?_)
        refine lv_goto (tgt := 15) hx hb dX1_gather_49 (by decide) ?_
        exact ih (x2 + 1) (kt_st σ 4 ((kt_ix ((16 * x1) + x2))) ((kt_bo 1))) r h H locs X ls (lv_sub hl [1, 2, 0] rfl) kE
set_option maxHeartbeats 4000000 in
set_option maxRecDepth 100000 in
theorem wl_m_gather_2 {p : Program} {l : Launch} {e : Env} {R : Room} {s : State} {m : MethodId} {args : Array Value} {below : List Frame} {meth : Method} {c : Code} {Q : State → Prop} {dC : Nat → ClassId} {dI : Nat → Nat → Nat} {d1 d2 : ClassId} {A : Nat → Prop} {h0 : Nat} {ad : Nat → Nat} (K : kt_E RX1 p s m meth c cX1_gather 3 none args) (hK : va_K (dC, dI) vwCl (kt_T d1 d2) s) (hA : ∀ q : Nat, s.heap.size ≤ q → A q) (hRf : 1 ≤ R.frames) (hRl : 25 ≤ R.locals) (N : Nat) :
    ∀ (n : Nat) (x1 : Int32) (σ : KSt) (r : Int32 × KSt), m_gather_2 N n x1 σ = some r → ∀ (H : Heap) (locs : List Loc), kt_X dC dI (kt_M h0 ad d1 d2 σ) A s H locs → ∀ (ls : Array Slot), lv_has ls 3 [(0, .ref h0), (1, .int x1)] → (∀ (H : Heap) (locs : List Loc), kt_X dC dI (kt_M h0 ad d1 d2 r.2) A s H locs → ∀ (ls : Array Slot), lv_has ls 3 [(0, .ref h0), (1, .int r.1)] → W p l e R s m args below meth c H locs 0 0 Q (F0 m 58 ls [])) → W p l e R s m args below meth c H locs 0 0 Q (F0 m 2 ls []) := by
  obtain ⟨hx, hb, hml, hown, hts, hr, hlocks⟩ := id K
  intro n
  induction n with
  | zero =>
    intro _ _ r h
    cases h
  | succ n ih =>
    intro x1 σ r h H locs X ls hl kE
    rw [m_gather_2] at h
    refine lv_iload_n hx hb dX1_gather_2 rfl (lv_at hl 1 rfl) ?_
    refine lv_bipush (v := 16) hx hb dX1_gather_3 (by decide) ?_
    refine lv_icmp_ge (tgt := 58) hx hb dX1_gather_5 (by decide) (fun c1 => ?_) (fun c1 => ?_)
    · have h := kt_ift c1 h
      cases h
      exact kE H locs X ls (lv_sub hl [0, 1] rfl)
    · have h := kt_iff c1 h
      refine lv_aload_n hx hb dX1_gather_8 rfl (lv_at hl 0 rfl) ?_
      refine lv_iload_n hx hb dX1_gather_9 rfl (lv_at hl 1 rfl) ?_
      obtain ⟨a2, e3, h⟩ := kt_bnd h
      refine kt_callv (WS := kt_M h0 ad d1 d2) (σ := σ) (As := [.int x1]) (rest := []) K hK hA (met_m_find l dC dI h0 ad d1 d2 N σ x1 a2 e3) (cwV 1 hts (lw_V q235 q237 qs11 q19 q238) rfl rfl rfl (by decide +kernel) ⟨Nat.le_trans (Nat.le_of_ble_eq_true rfl) hRf, Nat.le_trans (Nat.le_of_ble_eq_true rfl) hRl⟩) (va_recv hK X.1 (ci := 1) (q0 := 0) rfl kt_M0) rfl hl.1 rfl (Nat.le_of_ble_eq_true rfl) dX1_gather_10 X (fun H locs X => ?_)
      refine lv_iconst (v := 0) hx hb dX1_gather_13 (by decide) ?_
      refine lv_istore_n (lv' := [(2, .int 0), (0, .ref h0), (1, .int x1)]) hx hb dX1_gather_14 rfl hl (by decide) rfl (fun ls hl => ?_)
      obtain ⟨a4, e5, h⟩ := kt_bnd h
      refine wl_m_gather_15 K hK hA x1 N 0 a2 a4 e5 H locs X ls (lv_sub hl [1, 2, 0] rfl) (fun H locs X ls hl => ?_)
      refine lv_iinc (v := x1 + 1) (lv' := [(1, .int (x1 + 1)), (0, .ref h0), (2, .int a4.1)]) hx hb dX1_gather_52 hl (k := 1) rfl rfl (by decide) rfl (fun ls hl => ?_)
      refine lv_goto (tgt := 2) hx hb dX1_gather_55 (by decide) ?_
      exact ih (x1 + 1) a4.2 r h H locs X ls (lv_sub hl [1, 0] rfl) kE
set_option maxHeartbeats 4000000 in
set_option maxRecDepth 100000 in
/-- KeepTreeModel.gather()V -/
theorem met_m_gather (l : Launch) (dC : Nat → ClassId) (dI : Nat → Nat → Nat) (h0 : Nat) (ad : Nat → Nat) (d1 d2 : ClassId) (N : Nat) (σ : KSt) (a : KSt) (h : m_gather N σ = some a) : kt_Cv l yX1_gather (ws_ yX1_gather cX1_gather 3 none) ({ frames := 1, cells := 0, slots := 0, locals := 25 } : Room) h0 [] dC dI (kt_T d1 d2) (kt_M h0 ad d1 d2) σ a := by
  refine kt_enter (Qc := fun A => kt_Qv a dC dI (kt_T d1 d2) (kt_M h0 ad d1 d2) A) (by decide) (Nat.le_of_ble_eq_true rfl) ?_
  intro p e s m below meth c A ls K hK hA X hl
  have K : kt_E RX1 p s m meth c cX1_gather 3 none _ := K
  obtain ⟨hx, hb, hml, hown, hts, hr, hlocks⟩ := id K
  generalize hs0 : s.heap = H at X ⊢
  generalize hl0 : ([] : List Loc) = locs at X ⊢
  have hRf : 1 ≤ (({ frames := 1, cells := 0, slots := 0, locals := 25 } : Room)).frames := Nat.le_refl _
  have hRl : 25 ≤ (({ frames := 1, cells := 0, slots := 0, locals := 25 } : Room)).locals := Nat.le_refl _
  have hl : lv_has ls 3 [(0, .ref h0)] := hl
  rw [m_gather] at h
  refine lv_iconst (v := 0) hx hb dX1_gather_0 (by decide) ?_
  refine lv_istore_n (lv' := [(1, .int 0), (0, .ref h0)]) hx hb dX1_gather_1 rfl hl (by decide) rfl (fun ls hl => ?_)
  obtain ⟨a1, e2, h⟩ := kt_bnd h
  refine wl_m_gather_2 K hK hA hRf hRl N N 0 σ a1 e2 H locs X ls (lv_sub hl [1, 0] rfl) (fun H locs X ls hl => ?_)
  refine lv_aload_n hx hb dX1_gather_58 rfl (lv_at hl 0 rfl) ?_
  refine lv_iconst (v := (-1)) hx hb dX1_gather_59 (by decide) ?_
  obtain ⟨a3, e4, h⟩ := kt_bnd h
  refine kt_callv (WS := kt_M h0 ad d1 d2) (σ := a1.2) (As := [.int (-1)]) (rest := []) K hK hA (met_m_find l dC dI h0 ad d1 d2 N a1.2 (-1) a3 e4) (cwV 1 hts (lw_V q235 q237 qs11 q19 q238) rfl rfl rfl (by decide +kernel) ⟨Nat.le_trans (Nat.le_of_ble_eq_true rfl) hRf, Nat.le_trans (Nat.le_of_ble_eq_true rfl) hRl⟩) (va_recv hK X.1 (ci := 1) (q0 := 0) rfl kt_M0) rfl hl.1 rfl (Nat.le_of_ble_eq_true rfl) dX1_gather_60 X (fun H locs X => ?_)
  refine lv_iconst (v := 0) hx hb dX1_gather_63 (by decide) ?_
  refine lv_istore_n (lv' := [(1, .int 0), (0, .ref h0)]) hx hb dX1_gather_64 rfl hl (by decide) rfl (fun ls hl => ?_)
  obtain ⟨a5, e6, h⟩ := kt_bnd h
  refine wl_m_gather_65 K hK hA N 0 a3 a5 e6 H locs X ls (lv_sub hl [1, 0] rfl) (fun H locs X ls hl => ?_)
  exact kt_vret (WS := kt_M h0 ad d1 d2) (σ := a5.2) K hK X h dX1_gather_110
end
section
set_option maxHeartbeats 4000000 in
set_option maxRecDepth 100000 in
/-- KeepTreeModel.both(IIIZ)Z -/
theorem met_m_both (l : Launch) (dC : Nat → ClassId) (dI : Nat → Nat → Nat) (h0 : Nat) (ad : Nat → Nat) (d1 d2 : ClassId) (σ : KSt) (x1 x2 x3 x4 : Int32) (a : Int32) (h : m_both σ x1 x2 x3 x4 = some a) : kt_Ci l yX1_both (ws_ yX1_both cX1_both 5 (some .boolean)) ({ frames := 0, cells := 0, slots := 0, locals := 0 } : Room) h0 [.int x1, .int x2, .int x3, .int x4] dC dI (kt_T d1 d2) (kt_M h0 ad d1 d2) σ (a, σ) := by
  refine kt_enter (Qc := fun A => kt_Qi (a, σ) dC dI (kt_T d1 d2) (kt_M h0 ad d1 d2) A) (by decide) (Nat.le_of_ble_eq_true rfl) ?_
  intro p e s m below meth c A ls K hK hA X hl
  have K : kt_E RX1 p s m meth c cX1_both 5 (some .boolean) _ := K
  obtain ⟨hx, hb, hml, hown, hts, hr, hlocks⟩ := id K
  generalize hs0 : s.heap = H at X ⊢
  generalize hl0 : ([] : List Loc) = locs at X ⊢
  have hl : lv_has ls 5 [(0, .ref h0), (1, .int x1), (2, .int x2), (3, .int x3), (4, .int x4)] := hl
  rw [m_both] at h
  refine lv_aload_n hx hb dX1_both_0 rfl (lv_at hl 0 rfl) ?_
  refine va_get (D := (dC, dI)) (ci := 1) (v := .ref (ad 4)) (C := RX1) (T := TX1) (N := 5) hx hb hts in_X1 hown hK X.1 0 kt_M0 rfl 4 (by decide) (hts _ q199) (fun _ h9 => h9) kt_MF4 dX1_both_1 ?_
  refine lv_bipush (v := 16) hx hb dX1_both_4 (by decide) ?_
  refine lv_iload_n hx hb dX1_both_6 rfl (lv_at hl 1 rfl) ?_
  refine lv_imul hx hb dX1_both_7 ?_
  refine lv_iload_n hx hb dX1_both_8 rfl (lv_at hl 2 rfl) ?_
  refine lv_iadd hx hb dX1_both_9 ?_
  obtain ⟨b1, h⟩ := kt_chk_some h
  refine va_zald (f := σ 4) hx hb hK X.1 5 1 (kt_MA4 (rfl)) rfl b1 dX1_both_10 ?_
  refine lv_if_eq (tgt := 42) hx hb dX1_both_11 (by decide) (fun c2 => ?_) (fun c2 => ?_)
  · have h := kt_ift c2 h
    refine lv_iconst (v := 0) hx hb dX1_both_42 (by decide) ?_
    exact kt_zret (v := 0) (WS := kt_M h0 ad d1 d2) (σ := σ) K (by decide) hK X (congrArg (fun z => Option.map (fun w => (w, σ)) z) h) dX1_both_43
  · have h := kt_iff c2 h
    refine lv_aload_n hx hb dX1_both_14 rfl (lv_at hl 0 rfl) ?_
    refine va_get (D := (dC, dI)) (ci := 1) (v := .ref (ad 4)) (C := RX1) (T := TX1) (N := 5) hx hb hts in_X1 hown hK X.1 0 kt_M0 rfl 4 (by decide) (hts _ q199) (fun _ h9 => h9) kt_MF4 dX1_both_15 ?_
    refine lv_bipush (v := 16) hx hb dX1_both_18 (by decide) ?_
    refine lv_iload_n hx hb dX1_both_20 rfl (lv_at hl 1 rfl) ?_
    refine lv_imul hx hb dX1_both_21 ?_
    refine lv_iload_n hx hb dX1_both_22 rfl (lv_at hl 3 rfl) ?_
    refine lv_iadd hx hb dX1_both_23 ?_
    obtain ⟨b3, h⟩ := kt_chk_some h
    refine va_zald (f := σ 4) hx hb hK X.1 5 1 (kt_MA4 (rfl)) rfl b3 dX1_both_24 ?_
    refine lv_if_eq (tgt := 42) hx hb dX1_both_25 (by decide) (fun c4 => ?_) (fun c4 => ?_)
    · have h := kt_ift c4 h
      refine lv_iconst (v := 0) hx hb dX1_both_42 (by decide) ?_
      exact kt_zret (v := 0) (WS := kt_M h0 ad d1 d2) (σ := σ) K (by decide) hK X (congrArg (fun z => Option.map (fun w => (w, σ)) z) h) dX1_both_43
    · have h := kt_iff c4 h
      refine lv_iload hx hb dX1_both_28 (lv_at hl 4 rfl) ?_
      refine lv_if_eq (tgt := 38) hx hb dX1_both_30 (by decide) (fun c5 => ?_) (fun c5 => ?_)
      · have h := kt_ift c5 h
        refine lv_iconst (v := 1) hx hb dX1_both_38 (by decide) ?_
        refine lv_goto (tgt := 43) hx hb dX1_both_39 (by decide) ?_
        exact kt_zret (v := 1) (WS := kt_M h0 ad d1 d2) (σ := σ) K (by decide) hK X (congrArg (fun z => Option.map (fun w => (w, σ)) z) h) dX1_both_43
      · have h := kt_iff c5 h
        refine lv_iload_n hx hb dX1_both_33 rfl (lv_at hl 1 rfl) ?_
        refine lv_iload_n hx hb dX1_both_34 rfl (lv_at hl 2 rfl) ?_
        refine lv_icmp_eq (tgt := 42) hx hb dX1_both_35 (by decide) (fun c6 => ?_) (fun c6 => ?_)
        · have h := kt_ift c6 h
          refine lv_iconst (v := 0) hx hb dX1_both_42 (by decide) ?_
          exact kt_zret (v := 0) (WS := kt_M h0 ad d1 d2) (σ := σ) K (by decide) hK X (congrArg (fun z => Option.map (fun w => (w, σ)) z) h) dX1_both_43
        · have h := kt_iff c6 h
          refine lv_iconst (v := 1) hx hb dX1_both_38 (by decide) ?_
          refine lv_goto (tgt := 43) hx hb dX1_both_39 (by decide) ?_
          exact kt_zret (v := 1) (WS := kt_M h0 ad d1 d2) (σ := σ) K (by decide) hK X (congrArg (fun z => Option.map (fun w => (w, σ)) z) h) dX1_both_43
set_option maxHeartbeats 4000000 in
set_option maxRecDepth 100000 in
theorem wl_m_last_24 {p : Program} {l : Launch} {e : Env} {R : Room} {s : State} {m : MethodId} {args : Array Value} {below : List Frame} {meth : Method} {c : Code} {Q : State → Prop} {dC : Nat → ClassId} {dI : Nat → Nat → Nat} {d1 d2 : ClassId} {A : Nat → Prop} {h0 : Nat} {ad : Nat → Nat} (K : kt_E RX1 p s m meth c cX1_last 7 (some .int) args) (hK : va_K (dC, dI) vwCl (kt_T d1 d2) s) (hA : ∀ q : Nat, s.heap.size ≤ q → A q) (hRf : 1 ≤ R.frames) (hRl : 24 ≤ R.locals) (σ : KSt) (x1 x2 x3 x4 : Int32) :
    ∀ (n : Nat) (x5 x6 : Int32) (r : Int32 × Int32), m_last_24 σ x1 x2 x3 x4 n x5 x6 = some r → ∀ (H : Heap) (locs : List Loc), kt_X dC dI (kt_M h0 ad d1 d2 σ) A s H locs → ∀ (ls : Array Slot), lv_has ls 7 [(0, .ref h0), (1, .int x1), (2, .int x2), (3, .int x3), (4, .int x4), (5, .int x5), (6, .int x6)] → (∀ (H : Heap) (locs : List Loc), kt_X dC dI (kt_M h0 ad d1 d2 σ) A s H locs → ∀ (ls : Array Slot), lv_has ls 7 [(0, .ref h0), (1, .int x1), (2, .int x2), (3, .int x3), (4, .int x4), (5, .int r.1), (6, .int r.2)] → W p l e R s m args below meth c H locs 0 0 Q (F0 m 68 ls [])) → W p l e R s m args below meth c H locs 0 0 Q (F0 m 24 ls []) := by
  obtain ⟨hx, hb, hml, hown, hts, hr, hlocks⟩ := id K
  intro n
  induction n with
  | zero =>
    intro _ _ r h
    cases h
  | succ n ih =>
    intro x5 x6 r h H locs X ls hl kE
    rw [m_last_24] at h
    refine lv_iload hx hb dX1_last_24 (lv_at hl 6 rfl) ?_
    refine lv_bipush (v := 16) hx hb dX1_last_26 (by decide) ?_
    refine lv_icmp_ge (tgt := 68) hx hb dX1_last_28 (by decide) (fun c1 => ?_) (fun c1 => ?_)
    · have h := kt_ift c1 h
      cases h
      exact kE H locs X ls (lv_sub hl [0, 1, 2, 3, 4, 5, 6] rfl)
    · have h := kt_iff c1 h
      refine lv_aload_n hx hb dX1_last_31 rfl (lv_at hl 0 rfl) ?_
      refine lv_iload hx hb dX1_last_32 (lv_at hl 6 rfl) ?_
      refine lv_iload_n hx hb dX1_last_34 rfl (lv_at hl 1 rfl) ?_
      refine lv_iload_n hx hb dX1_last_35 rfl (lv_at hl 2 rfl) ?_
      refine lv_iload_n hx hb dX1_last_36 rfl (lv_at hl 3 rfl) ?_
      obtain ⟨a2, e3, h⟩ := kt_bnd h
      refine kt_calli (WS := kt_M h0 ad d1 d2) (σ := σ) (As := [.int x6, .int x1, .int x2, .int x3]) (rest := []) K hK hA (met_m_both l dC dI h0 ad d1 d2 σ x6 x1 x2 x3 a2 e3) (cwV 4 hts (lw_V q251 q253 qs14 q19 q254) rfl rfl rfl (by decide +kernel) ⟨Nat.le_trans (Nat.le_of_ble_eq_true rfl) hRf, Nat.le_trans (Nat.le_of_ble_eq_true rfl) hRl⟩) (va_recv hK X.1 (ci := 1) (q0 := 0) rfl kt_M0) rfl hl.1 rfl (Nat.le_of_ble_eq_true rfl) dX1_last_37 X (fun H locs X => ?_)
      refine lv_if_eq (tgt := 62) hx hb dX1_last_40 (by decide) (fun c4 => ?_) (fun c4 => ?_)
      · have h := kt_ift c4 h
        refine lv_iinc (v := x6 + 1) (lv' := [(6, .int (x6 + 1)), (0, .ref h0), (1, .int x1), (2, .int x2), (3, .int x3), (4, .int x4), (5, .int x5)]) hx hb dX1_last_62 hl (k := 6) rfl rfl (by decide) rfl (fun ls hl => ?_)
        refine lv_goto (tgt := 24) hx hb dX1_last_65 (by decide) ?_
        exact ih x5 (x6 + 1) r h H locs X ls (lv_sub hl [1, 2, 3, 4, 5, 6, 0] rfl) kE
      · have h := kt_iff c4 h
        refine lv_aload_n hx hb dX1_last_43 rfl (lv_at hl 0 rfl) ?_
        refine va_get (D := (dC, dI)) (ci := 1) (v := .ref (ad 4)) (C := RX1) (T := TX1) (N := 5) hx hb hts in_X1 hown hK X.1 0 kt_M0 rfl 4 (by decide) (hts _ q199) (fun _ h9 => h9) kt_MF4 dX1_last_44 ?_
        refine lv_bipush (v := 16) hx hb dX1_last_47 (by decide) ?_
        refine lv_iload hx hb dX1_last_49 (lv_at hl 6 rfl) ?_
        refine lv_imul hx hb dX1_last_51 ?_
        refine lv_iload hx hb dX1_last_52 (lv_at hl 4 rfl) ?_
        refine lv_iadd hx hb dX1_last_54 ?_
        obtain ⟨b5, h⟩ := kt_chk_some h
        refine va_zald (f := σ 4) hx hb hK X.1 5 1 (kt_MA4 (rfl)) rfl b5 dX1_last_55 ?_
        refine lv_if_ne (tgt := 62) hx hb dX1_last_56 (by decide) (fun c6 => ?_) (fun c6 => ?_)
        · have h := kt_iff c6 h
          refine lv_iinc (v := x6 + 1) (lv' := [(6, .int (x6 + 1)), (0, .ref h0), (1, .int x1), (2, .int x2), (3, .int x3), (4, .int x4), (5, .int x5)]) hx hb dX1_last_62 hl (k := 6) rfl rfl (by decide) rfl (fun ls hl => ?_)
          refine lv_goto (tgt := 24) hx hb dX1_last_65 (by decide) ?_
          exact ih x5 (x6 + 1) r h H locs X ls (lv_sub hl [1, 2, 3, 4, 5, 6, 0] rfl) kE
        · have h := kt_ift c6 h
          refine lv_iconst (v := 0) hx hb dX1_last_59 (by decide) ?_
          refine lv_istore (lv' := [(5, .int 0), (0, .ref h0), (1, .int x1), (2, .int x2), (3, .int x3), (4, .int x4), (6, .int x6)]) hx hb dX1_last_60 hl (by decide) rfl (fun ls hl => ?_)
          refine lv_iinc (v := x6 + 1) (lv' := [(6, .int (x6 + 1)), (5, .int 0), (0, .ref h0), (1, .int x1), (2, .int x2), (3, .int x3), (4, .int x4)]) hx hb dX1_last_62 hl (k := 6) rfl rfl (by decide) rfl (fun ls hl => ?_)
          refine lv_goto (tgt := 24) hx hb dX1_last_65 (by decide) ?_
          exact ih 0 (x6 + 1) r h H locs X ls (lv_sub hl [2, 3, 4, 5, 6, 1, 0] rfl) kE
set_option maxHeartbeats 4000000 in
set_option maxRecDepth 100000 in
theorem wl_m_last_3 {p : Program} {l : Launch} {e : Env} {R : Room} {s : State} {m : MethodId} {args : Array Value} {below : List Frame} {meth : Method} {c : Code} {Q : State → Prop} {dC : Nat → ClassId} {dI : Nat → Nat → Nat} {d1 d2 : ClassId} {A : Nat → Prop} {h0 : Nat} {ad : Nat → Nat} (K : kt_E RX1 p s m meth c cX1_last 7 (some .int) args) (hK : va_K (dC, dI) vwCl (kt_T d1 d2) s) (hA : ∀ q : Nat, s.heap.size ≤ q → A q) (hRf : 1 ≤ R.frames) (hRl : 24 ≤ R.locals) (N : Nat) (σ : KSt) (x1 x2 x3 : Int32) :
    ∀ (n : Nat) (x4 : Int32) (r : Int32 ⊕ (Int32)), m_last_3 N σ x1 x2 x3 n x4 = some r → ∀ (H : Heap) (locs : List Loc), kt_X dC dI (kt_M h0 ad d1 d2 σ) A s H locs → ∀ (ls : Array Slot), lv_has ls 7 [(0, .ref h0), (1, .int x1), (2, .int x2), (3, .int x3), (4, .int x4)] → (∀ (z : Int32), r = .inr z → ∀ (H : Heap) (locs : List Loc), kt_X dC dI (kt_M h0 ad d1 d2 σ) A s H locs → ∀ (ls : Array Slot), lv_has ls 7 [(0, .ref h0), (1, .int x1), (2, .int x2), (3, .int x3), (4, .int z)] → W p l e R s m args below meth c H locs 0 0 Q (F0 m 82 ls [])) → (∀ (v : Int32), r = .inl v → ∀ (H : Heap) (locs : List Loc), kt_X dC dI (kt_M h0 ad d1 d2 σ) A s H locs → ∀ (ls : Array Slot), W p l e R s m args below meth c H locs 0 0 Q (F0 m 75 ls [.int v])) → W p l e R s m args below meth c H locs 0 0 Q (F0 m 3 ls []) := by
  obtain ⟨hx, hb, hml, hown, hts, hr, hlocks⟩ := id K
  intro n
  induction n with
  | zero =>
    intro _ r h
    cases h
  | succ n ih =>
    intro x4 r h H locs X ls hl kE kR
    rw [m_last_3] at h
    refine lv_iload hx hb dX1_last_3 (lv_at hl 4 rfl) ?_
    refine lv_bipush (v := 16) hx hb dX1_last_5 (by decide) ?_
    refine lv_icmp_ge (tgt := 82) hx hb dX1_last_7 (by decide) (fun c1 => ?_) (fun c1 => ?_)
    · have h := kt_ift c1 h
      cases h
      exact kE _ rfl H locs X ls (lv_sub hl [0, 1, 2, 3, 4] rfl)
    · have h := kt_iff c1 h
      refine lv_aload_n hx hb dX1_last_10 rfl (lv_at hl 0 rfl) ?_
      refine lv_iload hx hb dX1_last_11 (lv_at hl 4 rfl) ?_
      refine lv_iload_n hx hb dX1_last_13 rfl (lv_at hl 1 rfl) ?_
      refine lv_iload_n hx hb dX1_last_14 rfl (lv_at hl 2 rfl) ?_
      refine lv_iload_n hx hb dX1_last_15 rfl (lv_at hl 3 rfl) ?_
      obtain ⟨a2, e3, h⟩ := kt_bnd h
      refine kt_calli (WS := kt_M h0 ad d1 d2) (σ := σ) (As := [.int x4, .int x1, .int x2, .int x3]) (rest := []) K hK hA (met_m_both l dC dI h0 ad d1 d2 σ x4 x1 x2 x3 a2 e3) (cwV 4 hts (lw_V q251 q253 qs14 q19 q254) rfl rfl rfl (by decide +kernel) ⟨Nat.le_trans (Nat.le_of_ble_eq_true rfl) hRf, Nat.le_trans (Nat.le_of_ble_eq_true rfl) hRl⟩) (va_recv hK X.1 (ci := 1) (q0 := 0) rfl kt_M0) rfl hl.1 rfl (Nat.le_of_ble_eq_true rfl) dX1_last_16 X (fun H locs X => ?_)
      refine lv_istore (lv' := [(5, .int a2), (0, .ref h0), (1, .int x1), (2, .int x2), (3, .int x3), (4, .int x4)]) hx hb dX1_last_19 hl (by decide) rfl (fun ls hl => ?_)
      refine lv_iconst (v := 0) hx hb dX1_last_21 (by decide) ?_
      refine lv_istore (lv' := [(6, .int 0), (5, .int a2), (0, .ref h0), (1, .int x1), (2, .int x2), (3, .int x3), (4, .int x4)]) hx hb dX1_last_22 hl (by decide) rfl (fun ls hl => ?_)
      obtain ⟨a4, e5, h⟩ := kt_bnd h
      refine wl_m_last_24 K hK hA hRf hRl σ x1 x2 x3 x4 N a2 0 a4 e5 H locs X ls (lv_sub hl [2, 3, 4, 5, 6, 1, 0] rfl) (fun H locs X ls hl => ?_)
      refine lv_iload hx hb dX1_last_68 (lv_at hl 5 rfl) ?_
      refine lv_if_eq (tgt := 76) hx hb dX1_last_70 (by decide) (fun c6 => ?_) (fun c6 => ?_)
      · have h := kt_ift c6 h
        refine lv_iinc (v := x4 + 1) (lv' := [(4, .int (x4 + 1)), (0, .ref h0), (1, .int x1), (2, .int x2), (3, .int x3), (5, .int a4.1), (6, .int a4.2)]) hx hb dX1_last_76 hl (k := 4) rfl rfl (by decide) rfl (fun ls hl => ?_)
        refine lv_goto (tgt := 3) hx hb dX1_last_79 (by decide) ?_
        exact ih (x4 + 1) r h H locs X ls (lv_sub hl [1, 2, 3, 4, 0] rfl) kE kR
      · have h := kt_iff c6 h
        refine lv_iload hx hb dX1_last_73 (lv_at hl 4 rfl) ?_
        cases h
        exact kR _ rfl H locs X ls
set_option maxHeartbeats 4000000 in
set_option maxRecDepth 100000 in
/-- KeepTreeModel.last(IIZ)I -/
theorem met_m_last (l : Launch) (dC : Nat → ClassId) (dI : Nat → Nat → Nat) (h0 : Nat) (ad : Nat → Nat) (d1 d2 : ClassId) (N : Nat) (σ : KSt) (x1 x2 x3 : Int32) (a : Int32) (h : m_last N σ x1 x2 x3 = some a) : kt_Ci l yX1_last (ws_ yX1_last cX1_last 7 (some .int)) ({ frames := 1, cells := 0, slots := 0, locals := 24 } : Room) h0 [.int x1, .int x2, .int x3] dC dI (kt_T d1 d2) (kt_M h0 ad d1 d2) σ (a, σ) := by
  refine kt_enter (Qc := fun A => kt_Qi (a, σ) dC dI (kt_T d1 d2) (kt_M h0 ad d1 d2) A) (by decide) (Nat.le_of_ble_eq_true rfl) ?_
  intro p e s m below meth c A ls K hK hA X hl
  have K : kt_E RX1 p s m meth c cX1_last 7 (some .int) _ := K
  obtain ⟨hx, hb, hml, hown, hts, hr, hlocks⟩ := id K
  generalize hs0 : s.heap = H at X ⊢
  generalize hl0 : ([] : List Loc) = locs at X ⊢
  have hRf : 1 ≤ (({ frames := 1, cells := 0, slots := 0, locals := 24 } : Room)).frames := Nat.le_refl _
  have hRl : 24 ≤ (({ frames := 1, cells := 0, slots := 0, locals := 24 } : Room)).locals := Nat.le_refl _
  have hl : lv_has ls 7 [(0, .ref h0), (1, .int x1), (2, .int x2), (3, .int x3)] := hl
  rw [m_last] at h
  refine lv_iconst (v := 0) hx hb dX1_last_0 (by decide) ?_
  refine lv_istore (lv' := [(4, .int 0), (0, .ref h0), (1, .int x1), (2, .int x2), (3, .int x3)]) hx hb dX1_last_1 hl (by decide) rfl (fun ls hl => ?_)
  obtain ⟨a1, e2, h⟩ := kt_bnd h
  refine wl_m_last_3 K hK hA hRf hRl N σ x1 x2 x3 N 0 a1 e2 H locs X ls (lv_sub hl [1, 2, 3, 4, 0] rfl) (fun r3 e0 H locs X ls hl => ?_) (fun rv e0 H locs X ls => ?_)
  · rw [e0] at h
    have h := kt_sel_r h
    refine lv_iconst (v := (-1)) hx hb dX1_last_82 (by decide) ?_
    exact kt_iret (v := (-1)) (WS := kt_M h0 ad d1 d2) (σ := σ) K hK X (congrArg (fun z => Option.map (fun w => (w, σ)) z) h) dX1_last_83
  · rw [e0] at h
    have h := kt_sel_l h
    exact kt_iret (v := rv) (WS := kt_M h0 ad d1 d2) (σ := σ) K hK X (congrArg (fun z => Option.map (fun w => (w, σ)) z) h) dX1_last_75
set_option maxHeartbeats 4000000 in
set_option maxRecDepth 100000 in
/-- KeepTreeModel.keeper(I)I -/
theorem met_m_keeper (l : Launch) (dC : Nat → ClassId) (dI : Nat → Nat → Nat) (h0 : Nat) (ad : Nat → Nat) (d1 d2 : ClassId) (N : Nat) (σ : KSt) (x1 : Int32) (a : Int32 × KSt) (h : m_keeper N σ x1 = some a) : kt_Ci l yX1_keeper (ws_ yX1_keeper cX1_keeper 2 (some .int)) ({ frames := 2, cells := 0, slots := 0, locals := 50 } : Room) h0 [.int x1] dC dI (kt_T d1 d2) (kt_M h0 ad d1 d2) σ a := by
  refine kt_enter (Qc := fun A => kt_Qi a dC dI (kt_T d1 d2) (kt_M h0 ad d1 d2) A) (by decide) (Nat.le_of_ble_eq_true rfl) ?_
  intro p e s m below meth c A ls K hK hA X hl
  have K : kt_E RX1 p s m meth c cX1_keeper 2 (some .int) _ := K
  obtain ⟨hx, hb, hml, hown, hts, hr, hlocks⟩ := id K
  generalize hs0 : s.heap = H at X ⊢
  generalize hl0 : ([] : List Loc) = locs at X ⊢
  have hRf : 2 ≤ (({ frames := 2, cells := 0, slots := 0, locals := 50 } : Room)).frames := Nat.le_refl _
  have hRl : 50 ≤ (({ frames := 2, cells := 0, slots := 0, locals := 50 } : Room)).locals := Nat.le_refl _
  have hl : lv_has ls 2 [(0, .ref h0), (1, .int x1)] := hl
  rw [m_keeper] at h
  refine lv_iload_n hx hb dX1_keeper_0 rfl (lv_at hl 1 rfl) ?_
  obtain ⟨a1, e2, h⟩ := kt_bnd h
  refine kt_calls (As := [.int x1]) (rest := []) K (met_m_bad l x1 a1 e2) (va_cwS 1 hts (lw_S q216 q217 q19 q218) rfl rfl rfl (by decide +kernel) ⟨Nat.le_trans (Nat.le_of_ble_eq_true rfl) hRf, Nat.le_trans (Nat.le_of_ble_eq_true rfl) hRl⟩) rfl hl.1 rfl (Nat.le_of_ble_eq_true rfl) dX1_keeper_1 X (fun H locs X => ?_)
  refine lv_if_eq (tgt := 10) hx hb dX1_keeper_4 (by decide) (fun c3 => ?_) (fun c3 => ?_)
  · have h := kt_ift c3 h
    refine lv_aload_n hx hb dX1_keeper_10 rfl (lv_at hl 0 rfl) ?_
    obtain ⟨a4, e5, h⟩ := kt_bnd h
    refine kt_callv (WS := kt_M h0 ad d1 d2) (σ := σ) (As := []) (rest := []) K hK hA (met_m_gather l dC dI h0 ad d1 d2 N σ a4 e5) (cwV 0 hts (lw_V q243 q245 qs12 q19 q246) rfl rfl rfl (by decide +kernel) ⟨Nat.le_trans (Nat.le_of_ble_eq_true rfl) hRf, Nat.le_trans (Nat.le_of_ble_eq_true rfl) hRl⟩) (va_recv hK X.1 (ci := 1) (q0 := 0) rfl kt_M0) rfl hl.1 rfl (Nat.le_of_ble_eq_true rfl) dX1_keeper_11 X (fun H locs X => ?_)
    refine lv_aload_n hx hb dX1_keeper_14 rfl (lv_at hl 0 rfl) ?_
    refine lv_iload_n hx hb dX1_keeper_15 rfl (lv_at hl 1 rfl) ?_
    refine lv_iload_n hx hb dX1_keeper_16 rfl (lv_at hl 1 rfl) ?_
    refine lv_iconst (v := 1) hx hb dX1_keeper_17 (by decide) ?_
    obtain ⟨a6, e7, h⟩ := kt_bnd h
    refine kt_calli (WS := kt_M h0 ad d1 d2) (σ := a4) (As := [.int x1, .int x1, .int 1]) (rest := []) K hK hA (met_m_last l dC dI h0 ad d1 d2 N a4 x1 x1 1 a6 e7) (cwV 3 hts (lw_V q247 q249 qs13 q19 q250) rfl rfl rfl (by decide +kernel) ⟨Nat.le_trans (Nat.le_of_ble_eq_true rfl) hRf, Nat.le_trans (Nat.le_of_ble_eq_true rfl) hRl⟩) (va_recv hK X.1 (ci := 1) (q0 := 0) rfl kt_M0) rfl hl.1 rfl (Nat.le_of_ble_eq_true rfl) dX1_keeper_18 X (fun H locs X => ?_)
    exact kt_iret (v := a6) (WS := kt_M h0 ad d1 d2) (σ := a4) K hK X h dX1_keeper_21
  · have h := kt_iff c3 h
    refine lv_bipush (v := (-2)) hx hb dX1_keeper_7 (by decide) ?_
    exact kt_iret (v := (-2)) (WS := kt_M h0 ad d1 d2) (σ := σ) K hK X h dX1_keeper_9
set_option maxHeartbeats 4000000 in
set_option maxRecDepth 100000 in
theorem wl_m_heldBy_4 {p : Program} {l : Launch} {e : Env} {R : Room} {s : State} {m : MethodId} {args : Array Value} {below : List Frame} {meth : Method} {c : Code} {Q : State → Prop} {dC : Nat → ClassId} {dI : Nat → Nat → Nat} {d1 d2 : ClassId} {A : Nat → Prop} {h0 : Nat} {ad : Nat → Nat} (K : kt_E RX1 p s m meth c cX1_heldBy 4 (some .int) args) (hK : va_K (dC, dI) vwCl (kt_T d1 d2) s) (hA : ∀ q : Nat, s.heap.size ≤ q → A q) (σ : KSt) (x1 : Int32) :
    ∀ (n : Nat) (x2 x3 : Int32) (r : Int32 × Int32), m_heldBy_4 σ x1 n x2 x3 = some r → ∀ (H : Heap) (locs : List Loc), kt_X dC dI (kt_M h0 ad d1 d2 σ) A s H locs → ∀ (ls : Array Slot), lv_has ls 4 [(0, .ref h0), (1, .int x1), (2, .int x2), (3, .int x3)] → (∀ (H : Heap) (locs : List Loc), kt_X dC dI (kt_M h0 ad d1 d2 σ) A s H locs → ∀ (ls : Array Slot), lv_has ls 4 [(0, .ref h0), (1, .int x1), (2, .int r.1), (3, .int r.2)] → W p l e R s m args below meth c H locs 0 0 Q (F0 m 39 ls [])) → W p l e R s m args below meth c H locs 0 0 Q (F0 m 4 ls []) := by
  obtain ⟨hx, hb, hml, hown, hts, hr, hlocks⟩ := id K
  intro n
  induction n with
  | zero =>
    intro _ _ r h
    cases h
  | succ n ih =>
    intro x2 x3 r h H locs X ls hl kE
    rw [m_heldBy_4] at h
    refine lv_iload_n hx hb dX1_heldBy_4 rfl (lv_at hl 3 rfl) ?_
    refine lv_bipush (v := 16) hx hb dX1_heldBy_5 (by decide) ?_
    refine lv_icmp_ge (tgt := 39) hx hb dX1_heldBy_7 (by decide) (fun c1 => ?_) (fun c1 => ?_)
    · have h := kt_ift c1 h
      cases h
      exact kE H locs X ls (lv_sub hl [0, 1, 2, 3] rfl)
    · have h := kt_iff c1 h
      refine lv_aload_n hx hb dX1_heldBy_10 rfl (lv_at hl 0 rfl) ?_
      refine va_get (D := (dC, dI)) (ci := 1) (v := .ref (ad 4)) (C := RX1) (T := TX1) (N := 5) hx hb hts in_X1 hown hK X.1 0 kt_M0 rfl 4 (by decide) (hts _ q199) (fun _ h9 => h9) kt_MF4 dX1_heldBy_11 ?_
      refine lv_bipush (v := 16) hx hb dX1_heldBy_14 (by decide) ?_
      refine lv_iload_n hx hb dX1_heldBy_16 rfl (lv_at hl 1 rfl) ?_
      refine lv_imul hx hb dX1_heldBy_17 ?_
      refine lv_iload_n hx hb dX1_heldBy_18 rfl (lv_at hl 3 rfl) ?_
      refine lv_iadd hx hb dX1_heldBy_19 ?_
      obtain ⟨b2, h⟩ := kt_chk_some h
      refine va_zald (f := σ 4) hx hb hK X.1 5 1 (kt_MA4 (rfl)) rfl b2 dX1_heldBy_20 ?_
      refine lv_if_eq (tgt := 33) hx hb dX1_heldBy_21 (by decide) (fun c3 => ?_) (fun c3 => ?_)
      · have h := kt_ift c3 h
        refine lv_iinc (v := x3 + 1) (lv' := [(3, .int (x3 + 1)), (0, .ref h0), (1, .int x1), (2, .int x2)]) hx hb dX1_heldBy_33 hl (k := 3) rfl rfl (by decide) rfl (fun ls hl => ?_)
        refine lv_goto (tgt := 4) hx hb dX1_heldBy_36 (by decide) ?_
        exact ih x2 (x3 + 1) r h H locs X ls (lv_sub hl [1, 2, 3, 0] rfl) kE
      · have h := kt_iff c3 h
        refine lv_iload_n hx hb dX1_heldBy_24 rfl (lv_at hl 2 rfl) ?_
        refine lv_aload_n hx hb dX1_heldBy_25 rfl (lv_at hl 0 rfl) ?_
        refine va_get (D := (dC, dI)) (ci := 1) (v := .ref (ad 0)) (C := RX1) (T := TX1) (N := 5) hx hb hts in_X1 hown hK X.1 0 kt_M0 rfl 0 (by decide) (hts _ q195) (fun _ h9 => h9) kt_MF0 dX1_heldBy_26 ?_
        refine lv_iload_n hx hb dX1_heldBy_29 rfl (lv_at hl 3 rfl) ?_
        obtain ⟨b4, h⟩ := kt_chk_some h
        refine va_iald (f := σ 0) hx hb hK X.1 1 0 (kt_MA0 (rfl)) rfl b4 dX1_heldBy_30 ?_
        refine lv_iadd hx hb dX1_heldBy_31 ?_
        refine lv_topi (fun y5 e6 => ?_)
        have h := kt_nm_at e6 h
        refine lv_istore_n (lv' := [(2, .int y5), (0, .ref h0), (1, .int x1), (3, .int x3)]) hx hb dX1_heldBy_32 rfl hl (by decide) rfl (fun ls hl => ?_)
        refine lv_iinc (v := x3 + 1) (lv' := [(3, .int (x3 + 1)), (2, .int y5), (0, .ref h0), (1, .int x1)]) hx hb dX1_heldBy_33 hl (k := 3) rfl rfl (by decide) rfl (fun ls hl => ?_)
        refine lv_goto (tgt := 4) hx hb dX1_heldBy_36 (by decide) ?_
        exact ih y5 (x3 + 1) r h H locs X ls (lv_sub hl [2, 3, 1, 0] rfl) kE
set_option maxHeartbeats 4000000 in
set_option maxRecDepth 100000 in
/-- KeepTreeModel.heldBy(I)I -/
theorem met_m_heldBy (l : Launch) (dC : Nat → ClassId) (dI : Nat → Nat → Nat) (h0 : Nat) (ad : Nat → Nat) (d1 d2 : ClassId) (N : Nat) (σ : KSt) (x1 : Int32) (a : Int32) (h : m_heldBy N σ x1 = some a) : kt_Ci l yX1_heldBy (ws_ yX1_heldBy cX1_heldBy 4 (some .int)) ({ frames := 0, cells := 0, slots := 0, locals := 0 } : Room) h0 [.int x1] dC dI (kt_T d1 d2) (kt_M h0 ad d1 d2) σ (a, σ) := by
  refine kt_enter (Qc := fun A => kt_Qi (a, σ) dC dI (kt_T d1 d2) (kt_M h0 ad d1 d2) A) (by decide) (Nat.le_of_ble_eq_true rfl) ?_
  intro p e s m below meth c A ls K hK hA X hl
  have K : kt_E RX1 p s m meth c cX1_heldBy 4 (some .int) _ := K
  obtain ⟨hx, hb, hml, hown, hts, hr, hlocks⟩ := id K
  generalize hs0 : s.heap = H at X ⊢
  generalize hl0 : ([] : List Loc) = locs at X ⊢
  have hl : lv_has ls 4 [(0, .ref h0), (1, .int x1)] := hl
  rw [m_heldBy] at h
  refine lv_iconst (v := 0) hx hb dX1_heldBy_0 (by decide) ?_
  refine lv_istore_n (lv' := [(2, .int 0), (0, .ref h0), (1, .int x1)]) hx hb dX1_heldBy_1 rfl hl (by decide) rfl (fun ls hl => ?_)
  refine lv_iconst (v := 0) hx hb dX1_heldBy_2 (by decide) ?_
  refine lv_istore_n (lv' := [(3, .int 0), (2, .int 0), (0, .ref h0), (1, .int x1)]) hx hb dX1_heldBy_3 rfl hl (by decide) rfl (fun ls hl => ?_)
  obtain ⟨a1, e2, h⟩ := kt_bnd h
  refine wl_m_heldBy_4 K hK hA σ x1 N 0 0 a1 e2 H locs X ls (lv_sub hl [2, 3, 1, 0] rfl) (fun H locs X ls hl => ?_)
  refine lv_iload_n hx hb dX1_heldBy_39 rfl (lv_at hl 2 rfl) ?_
  exact kt_iret (v := a1.1) (WS := kt_M h0 ad d1 d2) (σ := σ) K hK X (congrArg (fun z => Option.map (fun w => (w, σ)) z) h) dX1_heldBy_40
set_option maxHeartbeats 4000000 in
set_option maxRecDepth 100000 in
/-- KeepTreeModel.held(I)I -/
theorem met_m_held (l : Launch) (dC : Nat → ClassId) (dI : Nat → Nat → Nat) (h0 : Nat) (ad : Nat → Nat) (d1 d2 : ClassId) (N : Nat) (σ : KSt) (x1 : Int32) (a : Int32 × KSt) (h : m_held N σ x1 = some a) : kt_Ci l yX1_held (ws_ yX1_held cX1_held 2 (some .int)) ({ frames := 2, cells := 0, slots := 0, locals := 47 } : Room) h0 [.int x1] dC dI (kt_T d1 d2) (kt_M h0 ad d1 d2) σ a := by
  refine kt_enter (Qc := fun A => kt_Qi a dC dI (kt_T d1 d2) (kt_M h0 ad d1 d2) A) (by decide) (Nat.le_of_ble_eq_true rfl) ?_
  intro p e s m below meth c A ls K hK hA X hl
  have K : kt_E RX1 p s m meth c cX1_held 2 (some .int) _ := K
  obtain ⟨hx, hb, hml, hown, hts, hr, hlocks⟩ := id K
  generalize hs0 : s.heap = H at X ⊢
  generalize hl0 : ([] : List Loc) = locs at X ⊢
  have hRf : 2 ≤ (({ frames := 2, cells := 0, slots := 0, locals := 47 } : Room)).frames := Nat.le_refl _
  have hRl : 47 ≤ (({ frames := 2, cells := 0, slots := 0, locals := 47 } : Room)).locals := Nat.le_refl _
  have hl : lv_has ls 2 [(0, .ref h0), (1, .int x1)] := hl
  rw [m_held] at h
  refine lv_iload_n hx hb dX1_held_0 rfl (lv_at hl 1 rfl) ?_
  obtain ⟨a1, e2, h⟩ := kt_bnd h
  refine kt_calls (As := [.int x1]) (rest := []) K (met_m_bad l x1 a1 e2) (va_cwS 1 hts (lw_S q216 q217 q19 q218) rfl rfl rfl (by decide +kernel) ⟨Nat.le_trans (Nat.le_of_ble_eq_true rfl) hRf, Nat.le_trans (Nat.le_of_ble_eq_true rfl) hRl⟩) rfl hl.1 rfl (Nat.le_of_ble_eq_true rfl) dX1_held_1 X (fun H locs X => ?_)
  refine lv_if_eq (tgt := 10) hx hb dX1_held_4 (by decide) (fun c3 => ?_) (fun c3 => ?_)
  · have h := kt_ift c3 h
    refine lv_aload_n hx hb dX1_held_10 rfl (lv_at hl 0 rfl) ?_
    obtain ⟨a4, e5, h⟩ := kt_bnd h
    refine kt_callv (WS := kt_M h0 ad d1 d2) (σ := σ) (As := []) (rest := []) K hK hA (met_m_gather l dC dI h0 ad d1 d2 N σ a4 e5) (cwV 0 hts (lw_V q243 q245 qs12 q19 q246) rfl rfl rfl (by decide +kernel) ⟨Nat.le_trans (Nat.le_of_ble_eq_true rfl) hRf, Nat.le_trans (Nat.le_of_ble_eq_true rfl) hRl⟩) (va_recv hK X.1 (ci := 1) (q0 := 0) rfl kt_M0) rfl hl.1 rfl (Nat.le_of_ble_eq_true rfl) dX1_held_11 X (fun H locs X => ?_)
    refine lv_aload_n hx hb dX1_held_14 rfl (lv_at hl 0 rfl) ?_
    refine lv_iload_n hx hb dX1_held_15 rfl (lv_at hl 1 rfl) ?_
    obtain ⟨a6, e7, h⟩ := kt_bnd h
    refine kt_calli (WS := kt_M h0 ad d1 d2) (σ := a4) (As := [.int x1]) (rest := []) K hK hA (met_m_heldBy l dC dI h0 ad d1 d2 N a4 x1 a6 e7) (cwV 1 hts (lw_V q259 q261 qs15 q19 q262) rfl rfl rfl (by decide +kernel) ⟨Nat.le_trans (Nat.le_of_ble_eq_true rfl) hRf, Nat.le_trans (Nat.le_of_ble_eq_true rfl) hRl⟩) (va_recv hK X.1 (ci := 1) (q0 := 0) rfl kt_M0) rfl hl.1 rfl (Nat.le_of_ble_eq_true rfl) dX1_held_16 X (fun H locs X => ?_)
    exact kt_iret (v := a6) (WS := kt_M h0 ad d1 d2) (σ := a4) K hK X h dX1_held_19
  · have h := kt_iff c3 h
    refine lv_bipush (v := (-2)) hx hb dX1_held_7 (by decide) ?_
    exact kt_iret (v := (-2)) (WS := kt_M h0 ad d1 d2) (σ := σ) K hK X h dX1_held_9
set_option maxHeartbeats 4000000 in
set_option maxRecDepth 100000 in
/-- KeepTreeModel.isGuard(II)Z -/
theorem met_m_isGuard (l : Launch) (dC : Nat → ClassId) (dI : Nat → Nat → Nat) (h0 : Nat) (ad : Nat → Nat) (d1 d2 : ClassId) (N : Nat) (σ : KSt) (x1 x2 : Int32) (a : Int32 × KSt) (h : m_isGuard N σ x1 x2 = some a) : kt_Ci l yX1_isGuard (ws_ yX1_isGuard cX1_isGuard 4 (some .boolean)) ({ frames := 2, cells := 0, slots := 0, locals := 46 } : Room) h0 [.int x1, .int x2] dC dI (kt_T d1 d2) (kt_M h0 ad d1 d2) σ a := by
  refine kt_enter (Qc := fun A => kt_Qi a dC dI (kt_T d1 d2) (kt_M h0 ad d1 d2) A) (by decide) (Nat.le_of_ble_eq_true rfl) ?_
  intro p e s m below meth c A ls K hK hA X hl
  have K : kt_E RX1 p s m meth c cX1_isGuard 4 (some .boolean) _ := K
  obtain ⟨hx, hb, hml, hown, hts, hr, hlocks⟩ := id K
  generalize hs0 : s.heap = H at X ⊢
  generalize hl0 : ([] : List Loc) = locs at X ⊢
  have hRf : 2 ≤ (({ frames := 2, cells := 0, slots := 0, locals := 46 } : Room)).frames := Nat.le_refl _
  have hRl : 46 ≤ (({ frames := 2, cells := 0, slots := 0, locals := 46 } : Room)).locals := Nat.le_refl _
  have hl : lv_has ls 4 [(0, .ref h0), (1, .int x1), (2, .int x2)] := hl
  rw [m_isGuard] at h
  refine lv_aload_n hx hb dX1_isGuard_0 rfl (lv_at hl 0 rfl) ?_
  refine lv_iload_n hx hb dX1_isGuard_1 rfl (lv_at hl 2 rfl) ?_
  obtain ⟨a1, e2, h⟩ := kt_bnd h
  refine kt_calli (WS := kt_M h0 ad d1 d2) (σ := σ) (As := [.int x2]) (rest := []) K hK hA (met_m_isAlive l dC dI h0 ad d1 d2 N σ x2 a1 e2) (cwV 1 hts (lw_V q231 q233 qs10 q19 q234) rfl rfl rfl (by decide +kernel) ⟨Nat.le_trans (Nat.le_of_ble_eq_true rfl) hRf, Nat.le_trans (Nat.le_of_ble_eq_true rfl) hRl⟩) (va_recv hK X.1 (ci := 1) (q0 := 0) rfl kt_M0) rfl hl.1 rfl (Nat.le_of_ble_eq_true rfl) dX1_isGuard_2 X (fun H locs X => ?_)
  refine lv_istore_n (lv' := [(3, .int a1.1), (0, .ref h0), (1, .int x1), (2, .int x2)]) hx hb dX1_isGuard_5 rfl hl (by decide) rfl (fun ls hl => ?_)
  refine lv_aload_n hx hb dX1_isGuard_6 rfl (lv_at hl 1 rfl) ?_
  refine lv_iload_n hx hb dX1_isGuard_7 rfl (lv_at hl 2 rfl) ?_
  obtain ⟨a3, e4, h⟩ := kt_bnd h
  refine kt_callv (WS := kt_M h0 ad d1 d2) (σ := a1.2) (As := [.int x1]) (rest := []) K hK hA (met_m_find l dC dI h0 ad d1 d2 N a1.2 x1 a3 e4) (cwV 1 hts (lw_V q235 q237 qs11 q19 q238) rfl rfl rfl (by decide +kernel) ⟨Nat.le_trans (Nat.le_of_ble_eq_true rfl) hRf, Nat.le_trans (Nat.le_of_ble_eq_true rfl) hRl⟩) (va_recv hK X.1 (ci := 1) (q0 := 0) rfl kt_M0) rfl hl.1 rfl (Nat.le_of_ble_eq_true rfl) dX1_isGuard_8 X (fun H locs X => ?_)
  refine lv_iload_n hx hb dX1_isGuard_11 rfl (lv_at hl 0 rfl) ?_
  refine lv_if_eq (tgt := 28) hx hb dX1_isGuard_12 (by decide) (fun c5 => ?_) (fun c5 => ?_)
  · have h := kt_ift c5 h
    refine lv_iconst (v := 0) hx hb dX1_isGuard_28 (by decide) ?_
    exact kt_zret (v := 0) (WS := kt_M h0 ad d1 d2) (σ := a3) K (by decide) hK X h dX1_isGuard_29
  · have h := kt_iff c5 h
    refine lv_aload_n hx hb dX1_isGuard_15 rfl (lv_at hl 1 rfl) ?_
    refine va_get (D := (dC, dI)) (ci := 1) (v := .ref (ad 3)) (C := RX1) (T := TX1) (N := 5) hx hb hts in_X1 hown hK X.1 0 kt_M0 rfl 3 (by decide) (hts _ q198) (fun _ h9 => h9) kt_MF3 dX1_isGuard_16 ?_
    refine lv_iload_n hx hb dX1_isGuard_19 rfl (lv_at hl 3 rfl) ?_
    obtain ⟨b6, h⟩ := kt_chk_some h
    refine va_zald (f := a3 3) hx hb hK X.1 4 1 (kt_MA3 (rfl)) rfl b6 dX1_isGuard_20 ?_
    refine lv_if_ne (tgt := 28) hx hb dX1_isGuard_21 (by decide) (fun c7 => ?_) (fun c7 => ?_)
    · have h := kt_iff c7 h
      refine lv_iconst (v := 0) hx hb dX1_isGuard_28 (by decide) ?_
      exact kt_zret (v := 0) (WS := kt_M h0 ad d1 d2) (σ := a3) K (by decide) hK X h dX1_isGuard_29
    · have h := kt_ift c7 h
      refine lv_iconst (v := 1) hx hb dX1_isGuard_24 (by decide) ?_
      refine lv_goto (tgt := 29) hx hb dX1_isGuard_25 (by decide) ?_
      exact kt_zret (v := 1) (WS := kt_M h0 ad d1 d2) (σ := a3) K (by decide) hK X h dX1_isGuard_29
set_option maxHeartbeats 4000000 in
set_option maxRecDepth 100000 in
/-- KeepTreeModel.guards(II)I -/
theorem met_m_guards (l : Launch) (dC : Nat → ClassId) (dI : Nat → Nat → Nat) (h0 : Nat) (ad : Nat → Nat) (d1 d2 : ClassId) (N : Nat) (σ : KSt) (x1 x2 : Int32) (a : Int32 × KSt) (h : m_guards N σ x1 x2 = some a) : kt_Ci l yX1_guards (ws_ yX1_guards cX1_guards 3 (some .int)) ({ frames := 3, cells := 0, slots := 0, locals := 69 } : Room) h0 [.int x1, .int x2] dC dI (kt_T d1 d2) (kt_M h0 ad d1 d2) σ a := by
  refine kt_enter (Qc := fun A => kt_Qi a dC dI (kt_T d1 d2) (kt_M h0 ad d1 d2) A) (by decide) (Nat.le_of_ble_eq_true rfl) ?_
  intro p e s m below meth c A ls K hK hA X hl
  have K : kt_E RX1 p s m meth c cX1_guards 3 (some .int) _ := K
  obtain ⟨hx, hb, hml, hown, hts, hr, hlocks⟩ := id K
  generalize hs0 : s.heap = H at X ⊢
  generalize hl0 : ([] : List Loc) = locs at X ⊢
  have hRf : 3 ≤ (({ frames := 3, cells := 0, slots := 0, locals := 69 } : Room)).frames := Nat.le_refl _
  have hRl : 69 ≤ (({ frames := 3, cells := 0, slots := 0, locals := 69 } : Room)).locals := Nat.le_refl _
  have hl : lv_has ls 3 [(0, .ref h0), (1, .int x1), (2, .int x2)] := hl
  rw [m_guards] at h
  refine lv_iload_n hx hb dX1_guards_0 rfl (lv_at hl 1 rfl) ?_
  obtain ⟨a1, e2, h⟩ := kt_bnd h
  refine kt_calls (As := [.int x1]) (rest := []) K (met_m_bad l x1 a1 e2) (va_cwS 1 hts (lw_S q216 q217 q19 q218) rfl rfl rfl (by decide +kernel) ⟨Nat.le_trans (Nat.le_of_ble_eq_true rfl) hRf, Nat.le_trans (Nat.le_of_ble_eq_true rfl) hRl⟩) rfl hl.1 rfl (Nat.le_of_ble_eq_true rfl) dX1_guards_1 X (fun H locs X => ?_)
  refine lv_if_ne (tgt := 14) hx hb dX1_guards_4 (by decide) (fun c3 => ?_) (fun c3 => ?_)
  · have h := kt_iff c3 h
    refine lv_bipush (v := (-2)) hx hb dX1_guards_14 (by decide) ?_
    exact kt_iret (v := (-2)) (WS := kt_M h0 ad d1 d2) (σ := σ) K hK X h dX1_guards_16
  · have h := kt_ift c3 h
    refine lv_iload_n hx hb dX1_guards_7 rfl (lv_at hl 2 rfl) ?_
    obtain ⟨a4, e5, h⟩ := kt_bnd h
    refine kt_calls (As := [.int x2]) (rest := []) K (met_m_bad l x2 a4 e5) (va_cwS 1 hts (lw_S q216 q217 q19 q218) rfl rfl rfl (by decide +kernel) ⟨Nat.le_trans (Nat.le_of_ble_eq_true rfl) hRf, Nat.le_trans (Nat.le_of_ble_eq_true rfl) hRl⟩) rfl hl.1 rfl (Nat.le_of_ble_eq_true rfl) dX1_guards_8 X (fun H locs X => ?_)
    refine lv_if_eq (tgt := 17) hx hb dX1_guards_11 (by decide) (fun c6 => ?_) (fun c6 => ?_)
    · have h := kt_ift c6 h
      refine lv_aload_n hx hb dX1_guards_17 rfl (lv_at hl 0 rfl) ?_
      refine lv_iload_n hx hb dX1_guards_18 rfl (lv_at hl 1 rfl) ?_
      refine lv_iload_n hx hb dX1_guards_19 rfl (lv_at hl 2 rfl) ?_
      obtain ⟨a7, e8, h⟩ := kt_bnd h
      refine kt_calli (WS := kt_M h0 ad d1 d2) (σ := σ) (As := [.int x1, .int x2]) (rest := []) K hK hA (met_m_isGuard l dC dI h0 ad d1 d2 N σ x1 x2 a7 e8) (cwV 2 hts (lw_V q267 q269 qs16 q19 q270) rfl rfl rfl (by decide +kernel) ⟨Nat.le_trans (Nat.le_of_ble_eq_true rfl) hRf, Nat.le_trans (Nat.le_of_ble_eq_true rfl) hRl⟩) (va_recv hK X.1 (ci := 1) (q0 := 0) rfl kt_M0) rfl hl.1 rfl (Nat.le_of_ble_eq_true rfl) dX1_guards_20 X (fun H locs X => ?_)
      refine lv_if_eq (tgt := 30) hx hb dX1_guards_23 (by decide) (fun c9 => ?_) (fun c9 => ?_)
      · have h := kt_ift c9 h
        refine lv_iconst (v := 0) hx hb dX1_guards_30 (by decide) ?_
        exact kt_iret (v := 0) (WS := kt_M h0 ad d1 d2) (σ := a7.2) K hK X h dX1_guards_31
      · have h := kt_iff c9 h
        refine lv_iconst (v := 1) hx hb dX1_guards_26 (by decide) ?_
        refine lv_goto (tgt := 31) hx hb dX1_guards_27 (by decide) ?_
        exact kt_iret (v := 1) (WS := kt_M h0 ad d1 d2) (σ := a7.2) K hK X h dX1_guards_31
    · have h := kt_iff c6 h
      refine lv_bipush (v := (-2)) hx hb dX1_guards_14 (by decide) ?_
      exact kt_iret (v := (-2)) (WS := kt_M h0 ad d1 d2) (σ := σ) K hK X h dX1_guards_16
set_option maxHeartbeats 4000000 in
set_option maxRecDepth 100000 in
theorem wl_m_depth_18 {p : Program} {l : Launch} {e : Env} {R : Room} {s : State} {m : MethodId} {args : Array Value} {below : List Frame} {meth : Method} {c : Code} {Q : State → Prop} {dC : Nat → ClassId} {dI : Nat → Nat → Nat} {d1 d2 : ClassId} {A : Nat → Prop} {h0 : Nat} {ad : Nat → Nat} (K : kt_E RX1 p s m meth c cX1_depth 4 (some .int) args) (hK : va_K (dC, dI) vwCl (kt_T d1 d2) s) (hA : ∀ q : Nat, s.heap.size ≤ q → A q) (σ : KSt) (x1 : Int32) :
    ∀ (n : Nat) (x2 x3 : Int32) (r : Int32 × Int32), m_depth_18 σ x1 n x2 x3 = some r → ∀ (H : Heap) (locs : List Loc), kt_X dC dI (kt_M h0 ad d1 d2 σ) A s H locs → ∀ (ls : Array Slot), lv_has ls 4 [(0, .ref h0), (1, .int x1), (2, .int x2), (3, .int x3)] → (∀ (H : Heap) (locs : List Loc), kt_X dC dI (kt_M h0 ad d1 d2 σ) A s H locs → ∀ (ls : Array Slot), lv_has ls 4 [(0, .ref h0), (1, .int x1), (2, .int r.1), (3, .int r.2)] → W p l e R s m args below meth c H locs 0 0 Q (F0 m 47 ls [])) → W p l e R s m args below meth c H locs 0 0 Q (F0 m 18 ls []) := by
  obtain ⟨hx, hb, hml, hown, hts, hr, hlocks⟩ := id K
  intro n
  induction n with
  | zero =>
    intro _ _ r h
    cases h
  | succ n ih =>
    intro x2 x3 r h H locs X ls hl kE
    rw [m_depth_18] at h
    refine lv_iload_n hx hb dX1_depth_18 rfl (lv_at hl 3 rfl) ?_
    refine lv_bipush (v := 16) hx hb dX1_depth_19 (by decide) ?_
    refine lv_icmp_ge (tgt := 47) hx hb dX1_depth_21 (by decide) (fun c1 => ?_) (fun c1 => ?_)
    · have h := kt_ift c1 h
      cases h
      exact kE H locs X ls (lv_sub hl [0, 1, 2, 3] rfl)
    · have h := kt_iff c1 h
      refine lv_aload_n hx hb dX1_depth_24 rfl (lv_at hl 0 rfl) ?_
      refine va_get (D := (dC, dI)) (ci := 1) (v := .ref (ad 4)) (C := RX1) (T := TX1) (N := 5) hx hb hts in_X1 hown hK X.1 0 kt_M0 rfl 4 (by decide) (hts _ q199) (fun _ h9 => h9) kt_MF4 dX1_depth_25 ?_
      refine lv_bipush (v := 16) hx hb dX1_depth_28 (by decide) ?_
      refine lv_iload_n hx hb dX1_depth_30 rfl (lv_at hl 3 rfl) ?_
      refine lv_imul hx hb dX1_depth_31 ?_
      refine lv_iload_n hx hb dX1_depth_32 rfl (lv_at hl 1 rfl) ?_
      refine lv_iadd hx hb dX1_depth_33 ?_
      obtain ⟨b2, h⟩ := kt_chk_some h
      refine va_zald (f := σ 4) hx hb hK X.1 5 1 (kt_MA4 (rfl)) rfl b2 dX1_depth_34 ?_
      refine lv_if_eq (tgt := 41) hx hb dX1_depth_35 (by decide) (fun c3 => ?_) (fun c3 => ?_)
      · have h := kt_ift c3 h
        refine lv_iinc (v := x3 + 1) (lv' := [(3, .int (x3 + 1)), (0, .ref h0), (1, .int x1), (2, .int x2)]) hx hb dX1_depth_41 hl (k := 3) rfl rfl (by decide) rfl (fun ls hl => ?_)
        refine lv_goto (tgt := 18) hx hb dX1_depth_44 (by decide) ?_
        exact ih x2 (x3 + 1) r h H locs X ls (lv_sub hl [1, 2, 3, 0] rfl) kE
      · have h := kt_iff c3 h
        refine lv_iinc (v := x2 + 1) (lv' := [(2, .int (x2 + 1)), (0, .ref h0), (1, .int x1), (3, .int x3)]) hx hb dX1_depth_38 hl (k := 2) rfl rfl (by decide) rfl (fun ls hl => ?_)
        refine lv_iinc (v := x3 + 1) (lv' := [(3, .int (x3 + 1)), (2, .int (x2 + 1)), (0, .ref h0), (1, .int x1)]) hx hb dX1_depth_41 hl (k := 3) rfl rfl (by decide) rfl (fun ls hl => ?_)
        refine lv_goto (tgt := 18) hx hb dX1_depth_44 (by decide) ?_
        exact ih (x2 + 1) (x3 + 1) r h H locs X ls (lv_sub hl [2, 3, 1, 0] rfl) kE
set_option maxHeartbeats 4000000 in
set_option maxRecDepth 100000 in
/-- KeepTreeModel.depth(I)I -/
theorem met_m_depth (l : Launch) (dC : Nat → ClassId) (dI : Nat → Nat → Nat) (h0 : Nat) (ad : Nat → Nat) (d1 d2 : ClassId) (N : Nat) (σ : KSt) (x1 : Int32) (a : Int32 × KSt) (h : m_depth N σ x1 = some a) : kt_Ci l yX1_depth (ws_ yX1_depth cX1_depth 4 (some .int)) ({ frames := 2, cells := 0, slots := 0, locals := 47 } : Room) h0 [.int x1] dC dI (kt_T d1 d2) (kt_M h0 ad d1 d2) σ a := by
  refine kt_enter (Qc := fun A => kt_Qi a dC dI (kt_T d1 d2) (kt_M h0 ad d1 d2) A) (by decide) (Nat.le_of_ble_eq_true rfl) ?_
  intro p e s m below meth c A ls K hK hA X hl
  have K : kt_E RX1 p s m meth c cX1_depth 4 (some .int) _ := K
  obtain ⟨hx, hb, hml, hown, hts, hr, hlocks⟩ := id K
  generalize hs0 : s.heap = H at X ⊢
  generalize hl0 : ([] : List Loc) = locs at X ⊢
  have hRf : 2 ≤ (({ frames := 2, cells := 0, slots := 0, locals := 47 } : Room)).frames := Nat.le_refl _
  have hRl : 47 ≤ (({ frames := 2, cells := 0, slots := 0, locals := 47 } : Room)).locals := Nat.le_refl _
  have hl : lv_has ls 4 [(0, .ref h0), (1, .int x1)] := hl
  rw [m_depth] at h
  refine lv_iload_n hx hb dX1_depth_0 rfl (lv_at hl 1 rfl) ?_
  obtain ⟨a1, e2, h⟩ := kt_bnd h
  refine kt_calls (As := [.int x1]) (rest := []) K (met_m_bad l x1 a1 e2) (va_cwS 1 hts (lw_S q216 q217 q19 q218) rfl rfl rfl (by decide +kernel) ⟨Nat.le_trans (Nat.le_of_ble_eq_true rfl) hRf, Nat.le_trans (Nat.le_of_ble_eq_true rfl) hRl⟩) rfl hl.1 rfl (Nat.le_of_ble_eq_true rfl) dX1_depth_1 X (fun H locs X => ?_)
  refine lv_if_eq (tgt := 10) hx hb dX1_depth_4 (by decide) (fun c3 => ?_) (fun c3 => ?_)
  · have h := kt_ift c3 h
    refine lv_aload_n hx hb dX1_depth_10 rfl (lv_at hl 0 rfl) ?_
    obtain ⟨a4, e5, h⟩ := kt_bnd h
    refine kt_callv (WS := kt_M h0 ad d1 d2) (σ := σ) (As := []) (rest := []) K hK hA (met_m_gather l dC dI h0 ad d1 d2 N σ a4 e5) (cwV 0 hts (lw_V q243 q245 qs12 q19 q246) rfl rfl rfl (by decide +kernel) ⟨Nat.le_trans (Nat.le_of_ble_eq_true rfl) hRf, Nat.le_trans (Nat.le_of_ble_eq_true rfl) hRl⟩) (va_recv hK X.1 (ci := 1) (q0 := 0) rfl kt_M0) rfl hl.1 rfl (Nat.le_of_ble_eq_true rfl) dX1_depth_11 X (fun H locs X => ?_)
    refine lv_iconst (v := 0) hx hb dX1_depth_14 (by decide) ?_
    refine lv_istore_n (lv' := [(2, .int 0), (0, .ref h0), (1, .int x1)]) hx hb dX1_depth_15 rfl hl (by decide) rfl (fun ls hl => ?_)
    refine lv_iconst (v := 0) hx hb dX1_depth_16 (by decide) ?_
    refine lv_istore_n (lv' := [(3, .int 0), (2, .int 0), (0, .ref h0), (1, .int x1)]) hx hb dX1_depth_17 rfl hl (by decide) rfl (fun ls hl => ?_)
    obtain ⟨a6, e7, h⟩ := kt_bnd h
    refine wl_m_depth_18 K hK hA a4 x1 N 0 0 a6 e7 H locs X ls (lv_sub hl [2, 3, 1, 0] rfl) (fun H locs X ls hl => ?_)
    refine lv_iload_n hx hb dX1_depth_47 rfl (lv_at hl 2 rfl) ?_
    exact kt_iret (v := a6.1) (WS := kt_M h0 ad d1 d2) (σ := a4) K hK X h dX1_depth_48
  · have h := kt_iff c3 h
    refine lv_bipush (v := (-2)) hx hb dX1_depth_7 (by decide) ?_
    exact kt_iret (v := (-2)) (WS := kt_M h0 ad d1 d2) (σ := σ) K hK X h dX1_depth_9
set_option maxHeartbeats 4000000 in
set_option maxRecDepth 100000 in
/-- KeepTreeModel.common(II)I -/
theorem met_m_common (l : Launch) (dC : Nat → ClassId) (dI : Nat → Nat → Nat) (h0 : Nat) (ad : Nat → Nat) (d1 d2 : ClassId) (N : Nat) (σ : KSt) (x1 x2 : Int32) (a : Int32 × KSt) (h : m_common N σ x1 x2 = some a) : kt_Ci l yX1_common (ws_ yX1_common cX1_common 3 (some .int)) ({ frames := 2, cells := 0, slots := 0, locals := 50 } : Room) h0 [.int x1, .int x2] dC dI (kt_T d1 d2) (kt_M h0 ad d1 d2) σ a := by
  refine kt_enter (Qc := fun A => kt_Qi a dC dI (kt_T d1 d2) (kt_M h0 ad d1 d2) A) (by decide) (Nat.le_of_ble_eq_true rfl) ?_
  intro p e s m below meth c A ls K hK hA X hl
  have K : kt_E RX1 p s m meth c cX1_common 3 (some .int) _ := K
  obtain ⟨hx, hb, hml, hown, hts, hr, hlocks⟩ := id K
  generalize hs0 : s.heap = H at X ⊢
  generalize hl0 : ([] : List Loc) = locs at X ⊢
  have hRf : 2 ≤ (({ frames := 2, cells := 0, slots := 0, locals := 50 } : Room)).frames := Nat.le_refl _
  have hRl : 50 ≤ (({ frames := 2, cells := 0, slots := 0, locals := 50 } : Room)).locals := Nat.le_refl _
  have hl : lv_has ls 3 [(0, .ref h0), (1, .int x1), (2, .int x2)] := hl
  rw [m_common] at h
  refine lv_iload_n hx hb dX1_common_0 rfl (lv_at hl 1 rfl) ?_
  obtain ⟨a1, e2, h⟩ := kt_bnd h
  refine kt_calls (As := [.int x1]) (rest := []) K (met_m_bad l x1 a1 e2) (va_cwS 1 hts (lw_S q216 q217 q19 q218) rfl rfl rfl (by decide +kernel) ⟨Nat.le_trans (Nat.le_of_ble_eq_true rfl) hRf, Nat.le_trans (Nat.le_of_ble_eq_true rfl) hRl⟩) rfl hl.1 rfl (Nat.le_of_ble_eq_true rfl) dX1_common_1 X (fun H locs X => ?_)
  refine lv_if_ne (tgt := 14) hx hb dX1_common_4 (by decide) (fun c3 => ?_) (fun c3 => ?_)
  · have h := kt_iff c3 h
    refine lv_bipush (v := (-2)) hx hb dX1_common_14 (by decide) ?_
    exact kt_iret (v := (-2)) (WS := kt_M h0 ad d1 d2) (σ := σ) K hK X h dX1_common_16
  · have h := kt_ift c3 h
    refine lv_iload_n hx hb dX1_common_7 rfl (lv_at hl 2 rfl) ?_
    obtain ⟨a4, e5, h⟩ := kt_bnd h
    refine kt_calls (As := [.int x2]) (rest := []) K (met_m_bad l x2 a4 e5) (va_cwS 1 hts (lw_S q216 q217 q19 q218) rfl rfl rfl (by decide +kernel) ⟨Nat.le_trans (Nat.le_of_ble_eq_true rfl) hRf, Nat.le_trans (Nat.le_of_ble_eq_true rfl) hRl⟩) rfl hl.1 rfl (Nat.le_of_ble_eq_true rfl) dX1_common_8 X (fun H locs X => ?_)
    refine lv_if_eq (tgt := 17) hx hb dX1_common_11 (by decide) (fun c6 => ?_) (fun c6 => ?_)
    · have h := kt_ift c6 h
      refine lv_aload_n hx hb dX1_common_17 rfl (lv_at hl 0 rfl) ?_
      obtain ⟨a7, e8, h⟩ := kt_bnd h
      refine kt_callv (WS := kt_M h0 ad d1 d2) (σ := σ) (As := []) (rest := []) K hK hA (met_m_gather l dC dI h0 ad d1 d2 N σ a7 e8) (cwV 0 hts (lw_V q243 q245 qs12 q19 q246) rfl rfl rfl (by decide +kernel) ⟨Nat.le_trans (Nat.le_of_ble_eq_true rfl) hRf, Nat.le_trans (Nat.le_of_ble_eq_true rfl) hRl⟩) (va_recv hK X.1 (ci := 1) (q0 := 0) rfl kt_M0) rfl hl.1 rfl (Nat.le_of_ble_eq_true rfl) dX1_common_18 X (fun H locs X => ?_)
      refine lv_aload_n hx hb dX1_common_21 rfl (lv_at hl 0 rfl) ?_
      refine lv_iload_n hx hb dX1_common_22 rfl (lv_at hl 1 rfl) ?_
      refine lv_iload_n hx hb dX1_common_23 rfl (lv_at hl 2 rfl) ?_
      refine lv_iconst (v := 0) hx hb dX1_common_24 (by decide) ?_
      obtain ⟨a9, e10, h⟩ := kt_bnd h
      refine kt_calli (WS := kt_M h0 ad d1 d2) (σ := a7) (As := [.int x1, .int x2, .int 0]) (rest := []) K hK hA (met_m_last l dC dI h0 ad d1 d2 N a7 x1 x2 0 a9 e10) (cwV 3 hts (lw_V q247 q249 qs13 q19 q250) rfl rfl rfl (by decide +kernel) ⟨Nat.le_trans (Nat.le_of_ble_eq_true rfl) hRf, Nat.le_trans (Nat.le_of_ble_eq_true rfl) hRl⟩) (va_recv hK X.1 (ci := 1) (q0 := 0) rfl kt_M0) rfl hl.1 rfl (Nat.le_of_ble_eq_true rfl) dX1_common_25 X (fun H locs X => ?_)
      exact kt_iret (v := a9) (WS := kt_M h0 ad d1 d2) (σ := a7) K hK X h dX1_common_28
    · have h := kt_iff c6 h
      refine lv_bipush (v := (-2)) hx hb dX1_common_14 (by decide) ?_
      exact kt_iret (v := (-2)) (WS := kt_M h0 ad d1 d2) (σ := σ) K hK X h dX1_common_16
set_option maxHeartbeats 4000000 in
set_option maxRecDepth 100000 in
theorem wl_m_heaviest_10 {p : Program} {l : Launch} {e : Env} {R : Room} {s : State} {m : MethodId} {args : Array Value} {below : List Frame} {meth : Method} {c : Code} {Q : State → Prop} {dC : Nat → ClassId} {dI : Nat → Nat → Nat} {d1 d2 : ClassId} {A : Nat → Prop} {h0 : Nat} {ad : Nat → Nat} (K : kt_E RX1 p s m meth c cX1_heaviest 5 (some .int) args) (hK : va_K (dC, dI) vwCl (kt_T d1 d2) s) (hA : ∀ q : Nat, s.heap.size ≤ q → A q) (hRf : 2 ≤ R.frames) (hRl : 50 ≤ R.locals) (N : Nat) (σ : KSt) :
    ∀ (n : Nat) (x1 x2 x3 : Int32) (r : Int32 × Int32 × Int32), m_heaviest_10 N σ n x1 x2 x3 = some r → ∀ (H : Heap) (locs : List Loc), kt_X dC dI (kt_M h0 ad d1 d2 σ) A s H locs → ∀ (ls : Array Slot), lv_has ls 5 [(0, .ref h0), (1, .int x1), (2, .int x2), (3, .int x3)] → (∀ (H : Heap) (locs : List Loc), kt_X dC dI (kt_M h0 ad d1 d2 σ) A s H locs → ∀ (ls : Array Slot), lv_has ls 5 [(0, .ref h0), (1, .int r.1), (2, .int r.2.1), (3, .int r.2.2)] → W p l e R s m args below meth c H locs 0 0 Q (F0 m 75 ls [])) → W p l e R s m args below meth c H locs 0 0 Q (F0 m 10 ls []) := by
  obtain ⟨hx, hb, hml, hown, hts, hr, hlocks⟩ := id K
  intro n
  induction n with
  | zero =>
    intro _ _ _ r h
    cases h
  | succ n ih =>
    intro x1 x2 x3 r h H locs X ls hl kE
    rw [m_heaviest_10] at h
    refine lv_iload_n hx hb dX1_heaviest_10 rfl (lv_at hl 3 rfl) ?_
    refine lv_bipush (v := 16) hx hb dX1_heaviest_11 (by decide) ?_
    refine lv_icmp_ge (tgt := 75) hx hb dX1_heaviest_13 (by decide) (fun c1 => ?_) (fun c1 => ?_)
    · have h := kt_ift c1 h
      cases h
      exact kE H locs X ls (lv_sub hl [0, 1, 2, 3] rfl)
    · have h := kt_iff c1 h
      refine lv_aload_n hx hb dX1_heaviest_16 rfl (lv_at hl 0 rfl) ?_
      refine va_get (D := (dC, dI)) (ci := 1) (v := .ref (ad 4)) (C := RX1) (T := TX1) (N := 5) hx hb hts in_X1 hown hK X.1 0 kt_M0 rfl 4 (by decide) (hts _ q199) (fun _ h9 => h9) kt_MF4 dX1_heaviest_17 ?_
      refine lv_bipush (v := 16) hx hb dX1_heaviest_20 (by decide) ?_
      refine lv_iload_n hx hb dX1_heaviest_22 rfl (lv_at hl 3 rfl) ?_
      refine lv_imul hx hb dX1_heaviest_23 ?_
      refine lv_iload_n hx hb dX1_heaviest_24 rfl (lv_at hl 3 rfl) ?_
      refine lv_iadd hx hb dX1_heaviest_25 ?_
      obtain ⟨b2, h⟩ := kt_chk_some h
      refine va_zald (f := σ 4) hx hb hK X.1 5 1 (kt_MA4 (rfl)) rfl b2 dX1_heaviest_26 ?_
      refine lv_if_eq (tgt := 44) hx hb dX1_heaviest_27 (by decide) (fun c3 => ?_) (fun c3 => ?_)
      · have h := kt_ift c3 h
        refine lv_iconst (v := 0) hx hb dX1_heaviest_44 (by decide) ?_
        refine lv_istore (lv' := [(4, .int 0), (0, .ref h0), (1, .int x1), (2, .int x2), (3, .int x3)]) hx hb dX1_heaviest_45 hl (by decide) rfl (fun ls hl => ?_)
        refine lv_iload hx hb dX1_heaviest_47 (lv_at hl 0 rfl) ?_
        refine lv_if_eq (tgt := 69) hx hb dX1_heaviest_49 (by decide) (fun c4 => ?_) (fun c4 => absurd rfl c4)
        refine lv_iinc (v := x3 + 1) (lv' := [(3, .int (x3 + 1)), (4, .int 0), (0, .ref h0), (1, .int x1), (2, .int x2)]) hx hb dX1_heaviest_69 hl (k := 4) rfl rfl (by decide) rfl (fun ls hl => ?_)
        refine lv_goto (tgt := 10) hx hb dX1_heaviest_72 (by decide) ?_
        exact ih x1 x2 (x3 + 1) r h H locs X ls (lv_sub hl [2, 3, 4, 0] rfl) kE
      · have h := kt_iff c3 h
        refine lv_aload_n hx hb dX1_heaviest_30 rfl (lv_at hl 0 rfl) ?_
        refine lv_iload_n hx hb dX1_heaviest_31 rfl (lv_at hl 3 rfl) ?_
        refine lv_iload_n hx hb dX1_heaviest_32 rfl (lv_at hl 3 rfl) ?_
        refine lv_iconst (v := 1) hx hb dX1_heaviest_33 (by decide) ?_
        obtain ⟨a5, e6, h⟩ := kt_bnd h
        refine kt_calli (WS := kt_M h0 ad d1 d2) (σ := σ) (As := [.int x3, .int x3, .int 1]) (rest := []) K hK hA (met_m_last l dC dI h0 ad d1 d2 N σ x3 x3 1 a5 e6) (cwV 3 hts (lw_V q247 q249 qs13 q19 q250) rfl rfl rfl (by decide +kernel) ⟨Nat.le_trans (Nat.le_of_ble_eq_true rfl) hRf, Nat.le_trans (Nat.le_of_ble_eq_true rfl) hRl⟩) (va_recv hK X.1 (ci := 1) (q0 := 0) rfl kt_M0) rfl hl.1 rfl (Nat.le_of_ble_eq_true rfl) dX1_heaviest_34 X (fun H locs X => ?_)
        refine lv_if_ge (tgt := 44) hx hb dX1_heaviest_37 (by decide) (fun c7 => ?_) (fun c7 => ?_)
        · have h := kt_ift c7 h
          refine lv_iconst (v := 0) hx hb dX1_heaviest_44 (by decide) ?_
          refine lv_istore (lv' := [(4, .int 0), (0, .ref h0), (1, .int x1), (2, .int x2), (3, .int x3)]) hx hb dX1_heaviest_45 hl (by decide) rfl (fun ls hl => ?_)
          refine lv_iload hx hb dX1_heaviest_47 (lv_at hl 0 rfl) ?_
          refine lv_if_eq (tgt := 69) hx hb dX1_heaviest_49 (by decide) (fun c8 => ?_) (fun c8 => absurd rfl c8)
          refine lv_iinc (v := x3 + 1) (lv' := [(3, .int (x3 + 1)), (4, .int 0), (0, .ref h0), (1, .int x1), (2, .int x2)]) hx hb dX1_heaviest_69 hl (k := 4) rfl rfl (by decide) rfl (fun ls hl => ?_)
          refine lv_goto (tgt := 10) hx hb dX1_heaviest_72 (by decide) ?_
          exact ih x1 x2 (x3 + 1) r h H locs X ls (lv_sub hl [2, 3, 4, 0] rfl) kE
        · have h := kt_iff c7 h
          refine lv_iconst (v := 1) hx hb dX1_heaviest_40 (by decide) ?_
          refine lv_goto (tgt := 45) hx hb dX1_heaviest_41 (by decide) ?_
          refine lv_istore (lv' := [(4, .int 1), (0, .ref h0), (1, .int x1), (2, .int x2), (3, .int x3)]) hx hb dX1_heaviest_45 hl (by decide) rfl (fun ls hl => ?_)
          refine lv_iload hx hb dX1_heaviest_47 (lv_at hl 0 rfl) ?_
          refine lv_if_eq (tgt := 69) hx hb dX1_heaviest_49 (by decide) (fun c9 => absurd c9 (by decide)) (fun c9 => ?_)
          refine lv_aload_n hx hb dX1_heaviest_52 rfl (lv_at hl 1 rfl) ?_
          refine lv_iload_n hx hb dX1_heaviest_53 rfl (lv_at hl 4 rfl) ?_
          obtain ⟨a10, e11, h⟩ := kt_bnd h
          refine kt_calli (WS := kt_M h0 ad d1 d2) (σ := σ) (As := [.int x3]) (rest := []) K hK hA (met_m_heldBy l dC dI h0 ad d1 d2 N σ x3 a10 e11) (cwV 1 hts (lw_V q259 q261 qs15 q19 q262) rfl rfl rfl (by decide +kernel) ⟨Nat.le_trans (Nat.le_of_ble_eq_true rfl) hRf, Nat.le_trans (Nat.le_of_ble_eq_true rfl) hRl⟩) (va_recv hK X.1 (ci := 1) (q0 := 0) rfl kt_M0) rfl hl.1 rfl (Nat.le_of_ble_eq_true rfl) dX1_heaviest_54 X (fun H locs X => ?_)
          refine lv_iload_n hx hb dX1_heaviest_57 rfl (lv_at hl 3 rfl) ?_
          refine lv_icmp_le (tgt := 69) hx hb dX1_heaviest_58 (by decide) (fun c12 => ?_) (fun c12 => ?_)
          · have h := kt_ift c12 h
            refine lv_iinc (v := x3 + 1) (lv' := [(3, .int (x3 + 1)), (4, .int 1), (0, .ref h0), (1, .int x1), (2, .int x2)]) hx hb dX1_heaviest_69 hl (k := 4) rfl rfl (by decide) rfl (fun ls hl => ?_)
            refine lv_goto (tgt := 10) hx hb dX1_heaviest_72 (by decide) ?_
            exact ih x1 x2 (x3 + 1) r h H locs X ls (lv_sub hl [2, 3, 4, 0] rfl) kE
          · have h := kt_iff c12 h
            refine lv_iload_n hx hb dX1_heaviest_61 rfl (lv_at hl 4 rfl) ?_
            refine lv_istore_n (lv' := [(1, .int x3), (4, .int 1), (0, .ref h0), (2, .int x2), (3, .int x3)]) hx hb dX1_heaviest_62 rfl hl (by decide) rfl (fun ls hl => ?_)
            refine lv_aload_n hx hb dX1_heaviest_63 rfl (lv_at hl 2 rfl) ?_
            refine lv_iload_n hx hb dX1_heaviest_64 rfl (lv_at hl 4 rfl) ?_
            obtain ⟨a13, e14, h⟩ := kt_bnd h
            refine kt_calli (WS := kt_M h0 ad d1 d2) (σ := σ) (As := [.int x3]) (rest := []) K hK hA (met_m_heldBy l dC dI h0 ad d1 d2 N σ x3 a13 e14) (cwV 1 hts (lw_V q259 q261 qs15 q19 q262) rfl rfl rfl (by decide +kernel) ⟨Nat.le_trans (Nat.le_of_ble_eq_true rfl) hRf, Nat.le_trans (Nat.le_of_ble_eq_true rfl) hRl⟩) (va_recv hK X.1 (ci := 1) (q0 := 0) rfl kt_M0) rfl hl.1 rfl (Nat.le_of_ble_eq_true rfl) dX1_heaviest_65 X (fun H locs X => ?_)
            refine lv_istore_n (lv' := [(2, .int a13), (1, .int x3), (4, .int 1), (0, .ref h0), (3, .int x3)]) hx hb dX1_heaviest_68 rfl hl (by decide) rfl (fun ls hl => ?_)
            refine lv_iinc (v := x3 + 1) (lv' := [(3, .int (x3 + 1)), (2, .int a13), (1, .int x3), (4, .int 1), (0, .ref h0)]) hx hb dX1_heaviest_69 hl (k := 4) rfl rfl (by decide) rfl (fun ls hl => ?_)
            refine lv_goto (tgt := 10) hx hb dX1_heaviest_72 (by decide) ?_
            exact ih x3 a13 (x3 + 1) r h H locs X ls (lv_sub hl [4, 2, 1, 0] rfl) kE
set_option maxHeartbeats 4000000 in
set_option maxRecDepth 100000 in
/-- KeepTreeModel.heaviest()I -/
theorem met_m_heaviest (l : Launch) (dC : Nat → ClassId) (dI : Nat → Nat → Nat) (h0 : Nat) (ad : Nat → Nat) (d1 d2 : ClassId) (N : Nat) (σ : KSt) (a : Int32 × KSt) (h : m_heaviest N σ = some a) : kt_Ci l yX1_heaviest (ws_ yX1_heaviest cX1_heaviest 5 (some .int)) ({ frames := 2, cells := 0, slots := 0, locals := 50 } : Room) h0 [] dC dI (kt_T d1 d2) (kt_M h0 ad d1 d2) σ a := by
  refine kt_enter (Qc := fun A => kt_Qi a dC dI (kt_T d1 d2) (kt_M h0 ad d1 d2) A) (by decide) (Nat.le_of_ble_eq_true rfl) ?_
  intro p e s m below meth c A ls K hK hA X hl
  have K : kt_E RX1 p s m meth c cX1_heaviest 5 (some .int) _ := K
  obtain ⟨hx, hb, hml, hown, hts, hr, hlocks⟩ := id K
  generalize hs0 : s.heap = H at X ⊢
  generalize hl0 : ([] : List Loc) = locs at X ⊢
  have hRf : 2 ≤ (({ frames := 2, cells := 0, slots := 0, locals := 50 } : Room)).frames := Nat.le_refl _
  have hRl : 50 ≤ (({ frames := 2, cells := 0, slots := 0, locals := 50 } : Room)).locals := Nat.le_refl _
  have hl : lv_has ls 5 [(0, .ref h0)] := hl
  rw [m_heaviest] at h
  refine lv_aload_n hx hb dX1_heaviest_0 rfl (lv_at hl 0 rfl) ?_
  obtain ⟨a1, e2, h⟩ := kt_bnd h
  refine kt_callv (WS := kt_M h0 ad d1 d2) (σ := σ) (As := []) (rest := []) K hK hA (met_m_gather l dC dI h0 ad d1 d2 N σ a1 e2) (cwV 0 hts (lw_V q243 q245 qs12 q19 q246) rfl rfl rfl (by decide +kernel) ⟨Nat.le_trans (Nat.le_of_ble_eq_true rfl) hRf, Nat.le_trans (Nat.le_of_ble_eq_true rfl) hRl⟩) (va_recv hK X.1 (ci := 1) (q0 := 0) rfl kt_M0) rfl hl.1 rfl (Nat.le_of_ble_eq_true rfl) dX1_heaviest_1 X (fun H locs X => ?_)
  refine lv_iconst (v := (-1)) hx hb dX1_heaviest_4 (by decide) ?_
  refine lv_istore_n (lv' := [(1, .int (-1)), (0, .ref h0)]) hx hb dX1_heaviest_5 rfl hl (by decide) rfl (fun ls hl => ?_)
  refine lv_iconst (v := (-1)) hx hb dX1_heaviest_6 (by decide) ?_
  refine lv_istore_n (lv' := [(2, .int (-1)), (1, .int (-1)), (0, .ref h0)]) hx hb dX1_heaviest_7 rfl hl (by decide) rfl (fun ls hl => ?_)
  refine lv_iconst (v := 0) hx hb dX1_heaviest_8 (by decide) ?_
  refine lv_istore_n (lv' := [(3, .int 0), (2, .int (-1)), (1, .int (-1)), (0, .ref h0)]) hx hb dX1_heaviest_9 rfl hl (by decide) rfl (fun ls hl => ?_)
  obtain ⟨a3, e4, h⟩ := kt_bnd h
  refine wl_m_heaviest_10 K hK hA hRf hRl N a1 N (-1) (-1) 0 a3 e4 H locs X ls (lv_sub hl [3, 2, 1, 0] rfl) (fun H locs X ls hl => ?_)
  refine lv_iload_n hx hb dX1_heaviest_75 rfl (lv_at hl 1 rfl) ?_
  exact kt_iret (v := a3.1) (WS := kt_M h0 ad d1 d2) (σ := a1) K hK X h dX1_heaviest_76
set_option maxHeartbeats 4000000 in
set_option maxRecDepth 100000 in
theorem wl_m_total_9 {p : Program} {l : Launch} {e : Env} {R : Room} {s : State} {m : MethodId} {args : Array Value} {below : List Frame} {meth : Method} {c : Code} {Q : State → Prop} {dC : Nat → ClassId} {dI : Nat → Nat → Nat} {d1 d2 : ClassId} {A : Nat → Prop} {h0 : Nat} {ad : Nat → Nat} (K : kt_E RX1 p s m meth c cX1_total 3 (some .int) args) (hK : va_K (dC, dI) vwCl (kt_T d1 d2) s) (hA : ∀ q : Nat, s.heap.size ≤ q → A q) (σ : KSt) :
    ∀ (n : Nat) (x1 x2 : Int32) (r : Int32 × Int32), m_total_9 σ n x1 x2 = some r → ∀ (H : Heap) (locs : List Loc), kt_X dC dI (kt_M h0 ad d1 d2 σ) A s H locs → ∀ (ls : Array Slot), lv_has ls 3 [(0, .ref h0), (1, .int x1), (2, .int x2)] → (∀ (H : Heap) (locs : List Loc), kt_X dC dI (kt_M h0 ad d1 d2 σ) A s H locs → ∀ (ls : Array Slot), lv_has ls 3 [(0, .ref h0), (1, .int r.1), (2, .int r.2)] → W p l e R s m args below meth c H locs 0 0 Q (F0 m 39 ls [])) → W p l e R s m args below meth c H locs 0 0 Q (F0 m 9 ls []) := by
  obtain ⟨hx, hb, hml, hown, hts, hr, hlocks⟩ := id K
  intro n
  induction n with
  | zero =>
    intro _ _ r h
    cases h
  | succ n ih =>
    intro x1 x2 r h H locs X ls hl kE
    rw [m_total_9] at h
    refine lv_iload_n hx hb dX1_total_9 rfl (lv_at hl 2 rfl) ?_
    refine lv_bipush (v := 16) hx hb dX1_total_10 (by decide) ?_
    refine lv_icmp_ge (tgt := 39) hx hb dX1_total_12 (by decide) (fun c1 => ?_) (fun c1 => ?_)
    · have h := kt_ift c1 h
      cases h
      exact kE H locs X ls (lv_sub hl [0, 1, 2] rfl)
    · have h := kt_iff c1 h
      refine lv_aload_n hx hb dX1_total_15 rfl (lv_at hl 0 rfl) ?_
      refine va_get (D := (dC, dI)) (ci := 1) (v := .ref (ad 3)) (C := RX1) (T := TX1) (N := 5) hx hb hts in_X1 hown hK X.1 0 kt_M0 rfl 3 (by decide) (hts _ q198) (fun _ h9 => h9) kt_MF3 dX1_total_16 ?_
      refine lv_iload_n hx hb dX1_total_19 rfl (lv_at hl 2 rfl) ?_
      obtain ⟨b2, h⟩ := kt_chk_some h
      refine va_zald (f := σ 3) hx hb hK X.1 4 1 (kt_MA3 (rfl)) rfl b2 dX1_total_20 ?_
      refine lv_if_eq (tgt := 33) hx hb dX1_total_21 (by decide) (fun c3 => ?_) (fun c3 => ?_)
      · have h := kt_ift c3 h
        refine lv_iinc (v := x2 + 1) (lv' := [(2, .int (x2 + 1)), (0, .ref h0), (1, .int x1)]) hx hb dX1_total_33 hl (k := 2) rfl rfl (by decide) rfl (fun ls hl => ?_)
        refine lv_goto (tgt := 9) hx hb dX1_total_36 (by decide) ?_
        exact ih x1 (x2 + 1) r h H locs X ls (lv_sub hl [1, 2, 0] rfl) kE
      · have h := kt_iff c3 h
        refine lv_iload_n hx hb dX1_total_24 rfl (lv_at hl 1 rfl) ?_
        refine lv_aload_n hx hb dX1_total_25 rfl (lv_at hl 0 rfl) ?_
        refine va_get (D := (dC, dI)) (ci := 1) (v := .ref (ad 0)) (C := RX1) (T := TX1) (N := 5) hx hb hts in_X1 hown hK X.1 0 kt_M0 rfl 0 (by decide) (hts _ q195) (fun _ h9 => h9) kt_MF0 dX1_total_26 ?_
        refine lv_iload_n hx hb dX1_total_29 rfl (lv_at hl 2 rfl) ?_
        obtain ⟨b4, h⟩ := kt_chk_some h
        refine va_iald (f := σ 0) hx hb hK X.1 1 0 (kt_MA0 (rfl)) rfl b4 dX1_total_30 ?_
        refine lv_iadd hx hb dX1_total_31 ?_
        refine lv_topi (fun y5 e6 => ?_)
        have h := kt_nm_at e6 h
        refine lv_istore_n (lv' := [(1, .int y5), (0, .ref h0), (2, .int x2)]) hx hb dX1_total_32 rfl hl (by decide) rfl (fun ls hl => ?_)
        refine lv_iinc (v := x2 + 1) (lv' := [(2, .int (x2 + 1)), (1, .int y5), (0, .ref h0)]) hx hb dX1_total_33 hl (k := 2) rfl rfl (by decide) rfl (fun ls hl => ?_)
        refine lv_goto (tgt := 9) hx hb dX1_total_36 (by decide) ?_
        exact ih y5 (x2 + 1) r h H locs X ls (lv_sub hl [2, 1, 0] rfl) kE
set_option maxHeartbeats 4000000 in
set_option maxRecDepth 100000 in
/-- KeepTreeModel.total()I -/
theorem met_m_total (l : Launch) (dC : Nat → ClassId) (dI : Nat → Nat → Nat) (h0 : Nat) (ad : Nat → Nat) (d1 d2 : ClassId) (N : Nat) (σ : KSt) (a : Int32 × KSt) (h : m_total N σ = some a) : kt_Ci l yX1_total (ws_ yX1_total cX1_total 3 (some .int)) ({ frames := 1, cells := 0, slots := 0, locals := 25 } : Room) h0 [] dC dI (kt_T d1 d2) (kt_M h0 ad d1 d2) σ a := by
  refine kt_enter (Qc := fun A => kt_Qi a dC dI (kt_T d1 d2) (kt_M h0 ad d1 d2) A) (by decide) (Nat.le_of_ble_eq_true rfl) ?_
  intro p e s m below meth c A ls K hK hA X hl
  have K : kt_E RX1 p s m meth c cX1_total 3 (some .int) _ := K
  obtain ⟨hx, hb, hml, hown, hts, hr, hlocks⟩ := id K
  generalize hs0 : s.heap = H at X ⊢
  generalize hl0 : ([] : List Loc) = locs at X ⊢
  have hRf : 1 ≤ (({ frames := 1, cells := 0, slots := 0, locals := 25 } : Room)).frames := Nat.le_refl _
  have hRl : 25 ≤ (({ frames := 1, cells := 0, slots := 0, locals := 25 } : Room)).locals := Nat.le_refl _
  have hl : lv_has ls 3 [(0, .ref h0)] := hl
  rw [m_total] at h
  refine lv_aload_n hx hb dX1_total_0 rfl (lv_at hl 0 rfl) ?_
  refine lv_iconst (v := (-1)) hx hb dX1_total_1 (by decide) ?_
  obtain ⟨a1, e2, h⟩ := kt_bnd h
  refine kt_callv (WS := kt_M h0 ad d1 d2) (σ := σ) (As := [.int (-1)]) (rest := []) K hK hA (met_m_find l dC dI h0 ad d1 d2 N σ (-1) a1 e2) (cwV 1 hts (lw_V q235 q237 qs11 q19 q238) rfl rfl rfl (by decide +kernel) ⟨Nat.le_trans (Nat.le_of_ble_eq_true rfl) hRf, Nat.le_trans (Nat.le_of_ble_eq_true rfl) hRl⟩) (va_recv hK X.1 (ci := 1) (q0 := 0) rfl kt_M0) rfl hl.1 rfl (Nat.le_of_ble_eq_true rfl) dX1_total_2 X (fun H locs X => ?_)
  refine lv_iconst (v := 0) hx hb dX1_total_5 (by decide) ?_
  refine lv_istore_n (lv' := [(1, .int 0), (0, .ref h0)]) hx hb dX1_total_6 rfl hl (by decide) rfl (fun ls hl => ?_)
  refine lv_iconst (v := 0) hx hb dX1_total_7 (by decide) ?_
  refine lv_istore_n (lv' := [(2, .int 0), (1, .int 0), (0, .ref h0)]) hx hb dX1_total_8 rfl hl (by decide) rfl (fun ls hl => ?_)
  obtain ⟨a3, e4, h⟩ := kt_bnd h
  refine wl_m_total_9 K hK hA a1 N 0 0 a3 e4 H locs X ls (lv_sub hl [2, 1, 0] rfl) (fun H locs X ls hl => ?_)
  refine lv_iload_n hx hb dX1_total_39 rfl (lv_at hl 1 rfl) ?_
  exact kt_iret (v := a3.1) (WS := kt_M h0 ad d1 d2) (σ := a1) K hK X h dX1_total_40
end
section
/-! the two constructors: all tables zero -/
set_option maxRecDepth 100000
theorem kt_cI {D : va_G} {cl : List vw_C} {d1 d2 cA : ClassId} {s : State} (h : va_K D cl (kt_T d1 d2 ++ [(cA, .int)]) s) : d1 = cA := by
  have h1 : va_RA s d1 .int := (h.2 0 (d1, .int) rfl).2
  have h2 : va_RA s cA .int := (h.2 2 (cA, .int) rfl).2
  exact Option.some.inj (Eq.trans (Eq.symm h1) h2)
theorem kt_cZ {D : va_G} {cl : List vw_C} {d1 d2 cA : ClassId} {s : State} (h : va_K D cl (kt_T d1 d2 ++ [(cA, .boolean)]) s) : d2 = cA := by
  have h1 : va_RA s d2 .boolean := (h.2 1 (d2, .boolean) rfl).2
  have h2 : va_RA s cA .boolean := (h.2 2 (cA, .boolean) rfl).2
  exact Option.some.inj (Eq.trans (Eq.symm h1) h2)
def kt_Qn (WS : (Nat → Nat) → va_W) (dC : Nat → ClassId) (dI : Nat → Nat → Nat) (tys : List (ClassId × FieldType)) (A : Nat → Prop) : Array Value → State → Outcome → State → Prop := va_Qv (fun _ : Nat → Nat => True) (fun ad t => va_P (dC, dI) vwCl (WS ad) t.heap ∧ va_K (dC, dI) vwCl tys t ∧ va_D A (WS ad)) A
set_option maxHeartbeats 4000000 in
set_option maxRecDepth 100000 in
theorem met_k_init (l : Launch) (dC : Nat → ClassId) (dI : Nat → Nat → Nat) (h0 : Nat) (d1 d2 : ClassId) (sz : Nat) : Met l yX0_init (ws_ yX0_init cX0_init 1 none) ({ frames := 1, cells := 19, slots := 326, locals := 12 } : Room) (va_Pc [.ref h0] (kt_P dC dI (kt_T d1 d2) [(h0, .inr (0, [.null, .null, .int 0, .int 0, .int 0, .null, .null, .null, .null, .null, .null, .null, .null, .null, .null, .null, .null, .null, .null, .null, .null, .null]))] sz)) (kt_Qn (fun ad => kt_W h0 ad d1 (fun _ _ => 0)) dC dI (kt_T d1 d2) (va_A [(h0, .inr (0, [.null, .null, .int 0, .int 0, .int 0, .null, .null, .null, .null, .null, .null, .null, .null, .null, .null, .null, .null, .null, .null, .null, .null, .null]))] sz)) 19 326 (va_A [(h0, .inr (0, [.null, .null, .int 0, .int 0, .int 0, .null, .null, .null, .null, .null, .null, .null, .null, .null, .null, .null, .null, .null, .null, .null, .null, .null]))] sz) := by
  refine Met.ofW (cc := cX0_init) (maxL := 1) (ret := none) (by decide) rfl ?_
  intro p e s m args below meth c s₁ B hml hv
  obtain ⟨rfl, hsz, hP, hK, hD0⟩ := hv
  have hx := B.exec
  have hb := B.bytes
  have hr := B.returns
  have hts := atoms_spec (ws := ws_ yX0_init cX0_init 1 none) B.pre
  have hts : ∀ w ∈ lw_all, w.before _ s = true := fun w h => hts w (List.mem_cons_of_mem _ h)
  have hown : s.vm.findClass RX0 = some m.cls := findClass_of_methodNamed B.named
  have hlocks := B.notSynchronized
  have hin : meth.name = "<init>" := (name_of_methodNamed B.named B.method).1
  subst hsz
  have hD := hD0.self (sz := s.heap.size)
  generalize hAe : va_A [(h0, .inr (0, [.null, .null, .int 0, .int 0, .int 0, .null, .null, .null, .null, .null, .null, .null, .null, .null, .null, .null, .null, .null, .null, .null, .null, .null]))] s.heap.size = A at hD ⊢
  have hA : ∀ q : Nat, s.heap.size ≤ q → A q := fun q h => by rw [← hAe]; exact Or.inr h
  have hS : va_S A s.heap s.heap [] := va_S.rf
  have hl := lv_entry ([.ref h0]) (n := 1) (Nat.le_of_ble_eq_true rfl)
  rw [lg_entry_eq]
  generalize (lg_sl ([.ref h0]) ++ List.replicate (1 - (lg_sl ([.ref h0])).length) Slot.unset).toArray = ls at hl ⊢
  have hl : lv_has ls 1 [(0, .ref h0)] := hl
  have hP : va_P (dC, dI) vwCl [(h0, .inr (0, [.null, .null, .int 0, .int 0, .int 0, .null, .null, .null, .null, .null, .null, .null, .null, .null, .null, .null, .null, .null, .null, .null, .null, .null]))] s.heap := hP
  refine lv_aload_n hx hb dX0_init_0 rfl (lv_at hl 0 rfl) ?_
  refine W.objInit hx hb hown (hts _ q25) (hts _ q26) (hts _ q27) rfl (by rw [hml]; exact hl.1) rfl dX0_init_1 (Nat.le_of_ble_eq_true rfl) (Nat.le_of_ble_eq_true rfl) ?_
  refine W.eq (g2 := F0 m 4 ls []) rfl ?_
  refine lv_aload_n hx hb dX0_init_4 rfl (lv_at hl 0 rfl) ?_
  refine lv_bipush (v := 17) hx hb dX0_init_5 (by decide) ?_
  refine va_newa (atype := .int) (ty := .int) (a0 := (17, .inl (fun _ => 0))) (N' := 17) hx hb (hts _ q95) rfl hK hP hD hS hA (fun _ => rfl) (by decide) (by decide) (by decide) (Nat.le_of_ble_eq_true rfl) (Nat.le_of_ble_eq_true rfl) dX0_init_7 (fun qa1 cA H hKx hP hD hS => ?_)
  have ec := kt_cI hKx
  subst ec
  refine W.widen (k := 1) (n := 17) (Nat.le_refl _) (Nat.le_refl _) ?_
  have hP : va_P (dC, dI) vwCl [(h0, .inr (0, [.null, .null, .int 0, .int 0, .int 0, .null, .null, .null, .null, .null, .null, .null, .null, .null, .null, .null, .null, .null, .null, .null, .null, .null])), (qa1, .inl (d1, 17, .inl (fun _ => 0)))] H := hP
  have hD : va_D A [(h0, .inr (0, [.null, .null, .int 0, .int 0, .int 0, .null, .null, .null, .null, .null, .null, .null, .null, .null, .null, .null, .null, .null, .null, .null, .null, .null])), (qa1, .inl (d1, 17, .inl (fun _ => 0)))] := hD
  refine va_putF (D := (dC, dI)) (ci := 0) (v := .ref qa1) (ty := .array .int) (C := RX0) (T := TX0) (N := 22) hx hb hts in_X0 tyX0 tyX0_ok nmX0 hown hK hP hD hS 0 rfl rfl 0 (by decide) (hts _ q28) (fun _ h9 => h9) rfl hin rfl (by decide +kernel) rfl rfl (Nat.le_of_ble_eq_true rfl) dX0_init_9 (fun H locs hP hD hS => ?_)
  have hP : va_P (dC, dI) vwCl [(h0, .inr (0, [.ref qa1, .null, .int 0, .int 0, .int 0, .null, .null, .null, .null, .null, .null, .null, .null, .null, .null, .null, .null, .null, .null, .null, .null, .null])), (qa1, .inl (d1, 17, .inl (fun _ => 0)))] H := hP
  have hD : va_D A [(h0, .inr (0, [.ref qa1, .null, .int 0, .int 0, .int 0, .null, .null, .null, .null, .null, .null, .null, .null, .null, .null, .null, .null, .null, .null, .null, .null, .null])), (qa1, .inl (d1, 17, .inl (fun _ => 0)))] := hD
  refine lv_aload_n hx hb dX0_init_12 rfl (lv_at hl 0 rfl) ?_
  refine lv_bipush (v := 17) hx hb dX0_init_13 (by decide) ?_
  refine va_newa (atype := .int) (ty := .int) (a0 := (17, .inl (fun _ => 0))) (N' := 17) hx hb (hts _ q95) rfl hK hP hD hS hA (fun _ => rfl) (by decide) (by decide) (by decide) (Nat.le_of_ble_eq_true rfl) (Nat.le_of_ble_eq_true rfl) dX0_init_15 (fun qa2 cA H hKx hP hD hS => ?_)
  have ec := kt_cI hKx
  subst ec
  refine W.widen (k := 2) (n := 34) (Nat.le_refl _) (Nat.le_refl _) ?_
  have hP : va_P (dC, dI) vwCl [(h0, .inr (0, [.ref qa1, .null, .int 0, .int 0, .int 0, .null, .null, .null, .null, .null, .null, .null, .null, .null, .null, .null, .null, .null, .null, .null, .null, .null])), (qa1, .inl (d1, 17, .inl (fun _ => 0))), (qa2, .inl (d1, 17, .inl (fun _ => 0)))] H := hP
  have hD : va_D A [(h0, .inr (0, [.ref qa1, .null, .int 0, .int 0, .int 0, .null, .null, .null, .null, .null, .null, .null, .null, .null, .null, .null, .null, .null, .null, .null, .null, .null])), (qa1, .inl (d1, 17, .inl (fun _ => 0))), (qa2, .inl (d1, 17, .inl (fun _ => 0)))] := hD
  refine va_putF (D := (dC, dI)) (ci := 0) (v := .ref qa2) (ty := .array .int) (C := RX0) (T := TX0) (N := 22) hx hb hts in_X0 tyX0 tyX0_ok nmX0 hown hK hP hD hS 0 rfl rfl 1 (by decide) (hts _ q29) (fun _ h9 => h9) rfl hin rfl (by decide +kernel) rfl rfl (Nat.le_of_ble_eq_true rfl) dX0_init_17 (fun H locs hP hD hS => ?_)
  have hP : va_P (dC, dI) vwCl [(h0, .inr (0, [.ref qa1, .ref qa2, .int 0, .int 0, .int 0, .null, .null, .null, .null, .null, .null, .null, .null, .null, .null, .null, .null, .null, .null, .null, .null, .null])), (qa1, .inl (d1, 17, .inl (fun _ => 0))), (qa2, .inl (d1, 17, .inl (fun _ => 0)))] H := hP
  have hD : va_D A [(h0, .inr (0, [.ref qa1, .ref qa2, .int 0, .int 0, .int 0, .null, .null, .null, .null, .null, .null, .null, .null, .null, .null, .null, .null, .null, .null, .null, .null, .null])), (qa1, .inl (d1, 17, .inl (fun _ => 0))), (qa2, .inl (d1, 17, .inl (fun _ => 0)))] := hD
  refine lv_aload_n hx hb dX0_init_20 rfl (lv_at hl 0 rfl) ?_
  refine lv_bipush (v := 17) hx hb dX0_init_21 (by decide) ?_
  refine va_newa (atype := .int) (ty := .int) (a0 := (17, .inl (fun _ => 0))) (N' := 17) hx hb (hts _ q95) rfl hK hP hD hS hA (fun _ => rfl) (by decide) (by decide) (by decide) (Nat.le_of_ble_eq_true rfl) (Nat.le_of_ble_eq_true rfl) dX0_init_23 (fun qa3 cA H hKx hP hD hS => ?_)
  have ec := kt_cI hKx
  subst ec
  refine W.widen (k := 3) (n := 51) (Nat.le_refl _) (Nat.le_refl _) ?_
  have hP : va_P (dC, dI) vwCl [(h0, .inr (0, [.ref qa1, .ref qa2, .int 0, .int 0, .int 0, .null, .null, .null, .null, .null, .null, .null, .null, .null, .null, .null, .null, .null, .null, .null, .null, .null])), (qa1, .inl (d1, 17, .inl (fun _ => 0))), (qa2, .inl (d1, 17, .inl (fun _ => 0))), (qa3, .inl (d1, 17, .inl (fun _ => 0)))] H := hP
  have hD : va_D A [(h0, .inr (0, [.ref qa1, .ref qa2, .int 0, .int 0, .int 0, .null, .null, .null, .null, .null, .null, .null, .null, .null, .null, .null, .null, .null, .null, .null, .null, .null])), (qa1, .inl (d1, 17, .inl (fun _ => 0))), (qa2, .inl (d1, 17, .inl (fun _ => 0))), (qa3, .inl (d1, 17, .inl (fun _ => 0)))] := hD
  refine va_putF (D := (dC, dI)) (ci := 0) (v := .ref qa3) (ty := .array .int) (C := RX0) (T := TX0) (N := 22) hx hb hts in_X0 tyX0 tyX0_ok nmX0 hown hK hP hD hS 0 rfl rfl 5 (by decide) (hts _ q33) (fun _ h9 => h9) rfl hin rfl (by decide +kernel) rfl rfl (Nat.le_of_ble_eq_true rfl) dX0_init_25 (fun H locs hP hD hS => ?_)
  have hP : va_P (dC, dI) vwCl [(h0, .inr (0, [.ref qa1, .ref qa2, .int 0, .int 0, .int 0, .ref qa3, .null, .null, .null, .null, .null, .null, .null, .null, .null, .null, .null, .null, .null, .null, .null, .null])), (qa1, .inl (d1, 17, .inl (fun _ => 0))), (qa2, .inl (d1, 17, .inl (fun _ => 0))), (qa3, .inl (d1, 17, .inl (fun _ => 0)))] H := hP
  have hD : va_D A [(h0, .inr (0, [.ref qa1, .ref qa2, .int 0, .int 0, .int 0, .ref qa3, .null, .null, .null, .null, .null, .null, .null, .null, .null, .null, .null, .null, .null, .null, .null, .null])), (qa1, .inl (d1, 17, .inl (fun _ => 0))), (qa2, .inl (d1, 17, .inl (fun _ => 0))), (qa3, .inl (d1, 17, .inl (fun _ => 0)))] := hD
  refine lv_aload_n hx hb dX0_init_28 rfl (lv_at hl 0 rfl) ?_
  refine lv_bipush (v := 17) hx hb dX0_init_29 (by decide) ?_
  refine va_newa (atype := .int) (ty := .int) (a0 := (17, .inl (fun _ => 0))) (N' := 17) hx hb (hts _ q95) rfl hK hP hD hS hA (fun _ => rfl) (by decide) (by decide) (by decide) (Nat.le_of_ble_eq_true rfl) (Nat.le_of_ble_eq_true rfl) dX0_init_31 (fun qa4 cA H hKx hP hD hS => ?_)
  have ec := kt_cI hKx
  subst ec
  refine W.widen (k := 4) (n := 68) (Nat.le_refl _) (Nat.le_refl _) ?_
  have hP : va_P (dC, dI) vwCl [(h0, .inr (0, [.ref qa1, .ref qa2, .int 0, .int 0, .int 0, .ref qa3, .null, .null, .null, .null, .null, .null, .null, .null, .null, .null, .null, .null, .null, .null, .null, .null])), (qa1, .inl (d1, 17, .inl (fun _ => 0))), (qa2, .inl (d1, 17, .inl (fun _ => 0))), (qa3, .inl (d1, 17, .inl (fun _ => 0))), (qa4, .inl (d1, 17, .inl (fun _ => 0)))] H := hP
  have hD : va_D A [(h0, .inr (0, [.ref qa1, .ref qa2, .int 0, .int 0, .int 0, .ref qa3, .null, .null, .null, .null, .null, .null, .null, .null, .null, .null, .null, .null, .null, .null, .null, .null])), (qa1, .inl (d1, 17, .inl (fun _ => 0))), (qa2, .inl (d1, 17, .inl (fun _ => 0))), (qa3, .inl (d1, 17, .inl (fun _ => 0))), (qa4, .inl (d1, 17, .inl (fun _ => 0)))] := hD
  refine va_putF (D := (dC, dI)) (ci := 0) (v := .ref qa4) (ty := .array .int) (C := RX0) (T := TX0) (N := 22) hx hb hts in_X0 tyX0 tyX0_ok nmX0 hown hK hP hD hS 0 rfl rfl 6 (by decide) (hts _ q34) (fun _ h9 => h9) rfl hin rfl (by decide +kernel) rfl rfl (Nat.le_of_ble_eq_true rfl) dX0_init_33 (fun H locs hP hD hS => ?_)
  have hP : va_P (dC, dI) vwCl [(h0, .inr (0, [.ref qa1, .ref qa2, .int 0, .int 0, .int 0, .ref qa3, .ref qa4, .null, .null, .null, .null, .null, .null, .null, .null, .null, .null, .null, .null, .null, .null, .null])), (qa1, .inl (d1, 17, .inl (fun _ => 0))), (qa2, .inl (d1, 17, .inl (fun _ => 0))), (qa3, .inl (d1, 17, .inl (fun _ => 0))), (qa4, .inl (d1, 17, .inl (fun _ => 0)))] H := hP
  have hD : va_D A [(h0, .inr (0, [.ref qa1, .ref qa2, .int 0, .int 0, .int 0, .ref qa3, .ref qa4, .null, .null, .null, .null, .null, .null, .null, .null, .null, .null, .null, .null, .null, .null, .null])), (qa1, .inl (d1, 17, .inl (fun _ => 0))), (qa2, .inl (d1, 17, .inl (fun _ => 0))), (qa3, .inl (d1, 17, .inl (fun _ => 0))), (qa4, .inl (d1, 17, .inl (fun _ => 0)))] := hD
  refine lv_aload_n hx hb dX0_init_36 rfl (lv_at hl 0 rfl) ?_
  refine lv_bipush (v := 17) hx hb dX0_init_37 (by decide) ?_
  refine va_newa (atype := .int) (ty := .int) (a0 := (17, .inl (fun _ => 0))) (N' := 17) hx hb (hts _ q95) rfl hK hP hD hS hA (fun _ => rfl) (by decide) (by decide) (by decide) (Nat.le_of_ble_eq_true rfl) (Nat.le_of_ble_eq_true rfl) dX0_init_39 (fun qa5 cA H hKx hP hD hS => ?_)
  have ec := kt_cI hKx
  subst ec
  refine W.widen (k := 5) (n := 85) (Nat.le_refl _) (Nat.le_refl _) ?_
  have hP : va_P (dC, dI) vwCl [(h0, .inr (0, [.ref qa1, .ref qa2, .int 0, .int 0, .int 0, .ref qa3, .ref qa4, .null, .null, .null, .null, .null, .null, .null, .null, .null, .null, .null, .null, .null, .null, .null])), (qa1, .inl (d1, 17, .inl (fun _ => 0))), (qa2, .inl (d1, 17, .inl (fun _ => 0))), (qa3, .inl (d1, 17, .inl (fun _ => 0))), (qa4, .inl (d1, 17, .inl (fun _ => 0))), (qa5, .inl (d1, 17, .inl (fun _ => 0)))] H := hP
  have hD : va_D A [(h0, .inr (0, [.ref qa1, .ref qa2, .int 0, .int 0, .int 0, .ref qa3, .ref qa4, .null, .null, .null, .null, .null, .null, .null, .null, .null, .null, .null, .null, .null, .null, .null])), (qa1, .inl (d1, 17, .inl (fun _ => 0))), (qa2, .inl (d1, 17, .inl (fun _ => 0))), (qa3, .inl (d1, 17, .inl (fun _ => 0))), (qa4, .inl (d1, 17, .inl (fun _ => 0))), (qa5, .inl (d1, 17, .inl (fun _ => 0)))] := hD
  refine va_putF (D := (dC, dI)) (ci := 0) (v := .ref qa5) (ty := .array .int) (C := RX0) (T := TX0) (N := 22) hx hb hts in_X0 tyX0 tyX0_ok nmX0 hown hK hP hD hS 0 rfl rfl 7 (by decide) (hts _ q35) (fun _ h9 => h9) rfl hin rfl (by decide +kernel) rfl rfl (Nat.le_of_ble_eq_true rfl) dX0_init_41 (fun H locs hP hD hS => ?_)
  have hP : va_P (dC, dI) vwCl [(h0, .inr (0, [.ref qa1, .ref qa2, .int 0, .int 0, .int 0, .ref qa3, .ref qa4, .ref qa5, .null, .null, .null, .null, .null, .null, .null, .null, .null, .null, .null, .null, .null, .null])), (qa1, .inl (d1, 17, .inl (fun _ => 0))), (qa2, .inl (d1, 17, .inl (fun _ => 0))), (qa3, .inl (d1, 17, .inl (fun _ => 0))), (qa4, .inl (d1, 17, .inl (fun _ => 0))), (qa5, .inl (d1, 17, .inl (fun _ => 0)))] H := hP
  have hD : va_D A [(h0, .inr (0, [.ref qa1, .ref qa2, .int 0, .int 0, .int 0, .ref qa3, .ref qa4, .ref qa5, .null, .null, .null, .null, .null, .null, .null, .null, .null, .null, .null, .null, .null, .null])), (qa1, .inl (d1, 17, .inl (fun _ => 0))), (qa2, .inl (d1, 17, .inl (fun _ => 0))), (qa3, .inl (d1, 17, .inl (fun _ => 0))), (qa4, .inl (d1, 17, .inl (fun _ => 0))), (qa5, .inl (d1, 17, .inl (fun _ => 0)))] := hD
  refine lv_aload_n hx hb dX0_init_44 rfl (lv_at hl 0 rfl) ?_
  refine lv_bipush (v := 18) hx hb dX0_init_45 (by decide) ?_
  refine va_newa (atype := .int) (ty := .int) (a0 := (18, .inl (fun _ => 0))) (N' := 18) hx hb (hts _ q95) rfl hK hP hD hS hA (fun _ => rfl) (by decide) (by decide) (by decide) (Nat.le_of_ble_eq_true rfl) (Nat.le_of_ble_eq_true rfl) dX0_init_47 (fun qa6 cA H hKx hP hD hS => ?_)
  have ec := kt_cI hKx
  subst ec
  refine W.widen (k := 6) (n := 103) (Nat.le_refl _) (Nat.le_refl _) ?_
  have hP : va_P (dC, dI) vwCl [(h0, .inr (0, [.ref qa1, .ref qa2, .int 0, .int 0, .int 0, .ref qa3, .ref qa4, .ref qa5, .null, .null, .null, .null, .null, .null, .null, .null, .null, .null, .null, .null, .null, .null])), (qa1, .inl (d1, 17, .inl (fun _ => 0))), (qa2, .inl (d1, 17, .inl (fun _ => 0))), (qa3, .inl (d1, 17, .inl (fun _ => 0))), (qa4, .inl (d1, 17, .inl (fun _ => 0))), (qa5, .inl (d1, 17, .inl (fun _ => 0))), (qa6, .inl (d1, 18, .inl (fun _ => 0)))] H := hP
  have hD : va_D A [(h0, .inr (0, [.ref qa1, .ref qa2, .int 0, .int 0, .int 0, .ref qa3, .ref qa4, .ref qa5, .null, .null, .null, .null, .null, .null, .null, .null, .null, .null, .null, .null, .null, .null])), (qa1, .inl (d1, 17, .inl (fun _ => 0))), (qa2, .inl (d1, 17, .inl (fun _ => 0))), (qa3, .inl (d1, 17, .inl (fun _ => 0))), (qa4, .inl (d1, 17, .inl (fun _ => 0))), (qa5, .inl (d1, 17, .inl (fun _ => 0))), (qa6, .inl (d1, 18, .inl (fun _ => 0)))] := hD
  refine va_putF (D := (dC, dI)) (ci := 0) (v := .ref qa6) (ty := .array .int) (C := RX0) (T := TX0) (N := 22) hx hb hts in_X0 tyX0 tyX0_ok nmX0 hown hK hP hD hS 0 rfl rfl 8 (by decide) (hts _ q36) (fun _ h9 => h9) rfl hin rfl (by decide +kernel) rfl rfl (Nat.le_of_ble_eq_true rfl) dX0_init_49 (fun H locs hP hD hS => ?_)
  have hP : va_P (dC, dI) vwCl [(h0, .inr (0, [.ref qa1, .ref qa2, .int 0, .int 0, .int 0, .ref qa3, .ref qa4, .ref qa5, .ref qa6, .null, .null, .null, .null, .null, .null, .null, .null, .null, .null, .null, .null, .null])), (qa1, .inl (d1, 17, .inl (fun _ => 0))), (qa2, .inl (d1, 17, .inl (fun _ => 0))), (qa3, .inl (d1, 17, .inl (fun _ => 0))), (qa4, .inl (d1, 17, .inl (fun _ => 0))), (qa5, .inl (d1, 17, .inl (fun _ => 0))), (qa6, .inl (d1, 18, .inl (fun _ => 0)))] H := hP
  have hD : va_D A [(h0, .inr (0, [.ref qa1, .ref qa2, .int 0, .int 0, .int 0, .ref qa3, .ref qa4, .ref qa5, .ref qa6, .null, .null, .null, .null, .null, .null, .null, .null, .null, .null, .null, .null, .null])), (qa1, .inl (d1, 17, .inl (fun _ => 0))), (qa2, .inl (d1, 17, .inl (fun _ => 0))), (qa3, .inl (d1, 17, .inl (fun _ => 0))), (qa4, .inl (d1, 17, .inl (fun _ => 0))), (qa5, .inl (d1, 17, .inl (fun _ => 0))), (qa6, .inl (d1, 18, .inl (fun _ => 0)))] := hD
  refine lv_aload_n hx hb dX0_init_52 rfl (lv_at hl 0 rfl) ?_
  refine lv_bipush (v := 18) hx hb dX0_init_53 (by decide) ?_
  refine va_newa (atype := .int) (ty := .int) (a0 := (18, .inl (fun _ => 0))) (N' := 18) hx hb (hts _ q95) rfl hK hP hD hS hA (fun _ => rfl) (by decide) (by decide) (by decide) (Nat.le_of_ble_eq_true rfl) (Nat.le_of_ble_eq_true rfl) dX0_init_55 (fun qa7 cA H hKx hP hD hS => ?_)
  have ec := kt_cI hKx
  subst ec
  refine W.widen (k := 7) (n := 121) (Nat.le_refl _) (Nat.le_refl _) ?_
  have hP : va_P (dC, dI) vwCl [(h0, .inr (0, [.ref qa1, .ref qa2, .int 0, .int 0, .int 0, .ref qa3, .ref qa4, .ref qa5, .ref qa6, .null, .null, .null, .null, .null, .null, .null, .null, .null, .null, .null, .null, .null])), (qa1, .inl (d1, 17, .inl (fun _ => 0))), (qa2, .inl (d1, 17, .inl (fun _ => 0))), (qa3, .inl (d1, 17, .inl (fun _ => 0))), (qa4, .inl (d1, 17, .inl (fun _ => 0))), (qa5, .inl (d1, 17, .inl (fun _ => 0))), (qa6, .inl (d1, 18, .inl (fun _ => 0))), (qa7, .inl (d1, 18, .inl (fun _ => 0)))] H := hP
  have hD : va_D A [(h0, .inr (0, [.ref qa1, .ref qa2, .int 0, .int 0, .int 0, .ref qa3, .ref qa4, .ref qa5, .ref qa6, .null, .null, .null, .null, .null, .null, .null, .null, .null, .null, .null, .null, .null])), (qa1, .inl (d1, 17, .inl (fun _ => 0))), (qa2, .inl (d1, 17, .inl (fun _ => 0))), (qa3, .inl (d1, 17, .inl (fun _ => 0))), (qa4, .inl (d1, 17, .inl (fun _ => 0))), (qa5, .inl (d1, 17, .inl (fun _ => 0))), (qa6, .inl (d1, 18, .inl (fun _ => 0))), (qa7, .inl (d1, 18, .inl (fun _ => 0)))] := hD
  refine va_putF (D := (dC, dI)) (ci := 0) (v := .ref qa7) (ty := .array .int) (C := RX0) (T := TX0) (N := 22) hx hb hts in_X0 tyX0 tyX0_ok nmX0 hown hK hP hD hS 0 rfl rfl 9 (by decide) (hts _ q37) (fun _ h9 => h9) rfl hin rfl (by decide +kernel) rfl rfl (Nat.le_of_ble_eq_true rfl) dX0_init_57 (fun H locs hP hD hS => ?_)
  have hP : va_P (dC, dI) vwCl [(h0, .inr (0, [.ref qa1, .ref qa2, .int 0, .int 0, .int 0, .ref qa3, .ref qa4, .ref qa5, .ref qa6, .ref qa7, .null, .null, .null, .null, .null, .null, .null, .null, .null, .null, .null, .null])), (qa1, .inl (d1, 17, .inl (fun _ => 0))), (qa2, .inl (d1, 17, .inl (fun _ => 0))), (qa3, .inl (d1, 17, .inl (fun _ => 0))), (qa4, .inl (d1, 17, .inl (fun _ => 0))), (qa5, .inl (d1, 17, .inl (fun _ => 0))), (qa6, .inl (d1, 18, .inl (fun _ => 0))), (qa7, .inl (d1, 18, .inl (fun _ => 0)))] H := hP
  have hD : va_D A [(h0, .inr (0, [.ref qa1, .ref qa2, .int 0, .int 0, .int 0, .ref qa3, .ref qa4, .ref qa5, .ref qa6, .ref qa7, .null, .null, .null, .null, .null, .null, .null, .null, .null, .null, .null, .null])), (qa1, .inl (d1, 17, .inl (fun _ => 0))), (qa2, .inl (d1, 17, .inl (fun _ => 0))), (qa3, .inl (d1, 17, .inl (fun _ => 0))), (qa4, .inl (d1, 17, .inl (fun _ => 0))), (qa5, .inl (d1, 17, .inl (fun _ => 0))), (qa6, .inl (d1, 18, .inl (fun _ => 0))), (qa7, .inl (d1, 18, .inl (fun _ => 0)))] := hD
  refine lv_aload_n hx hb dX0_init_60 rfl (lv_at hl 0 rfl) ?_
  refine lv_bipush (v := 17) hx hb dX0_init_61 (by decide) ?_
  refine va_newa (atype := .int) (ty := .int) (a0 := (17, .inl (fun _ => 0))) (N' := 17) hx hb (hts _ q95) rfl hK hP hD hS hA (fun _ => rfl) (by decide) (by decide) (by decide) (Nat.le_of_ble_eq_true rfl) (Nat.le_of_ble_eq_true rfl) dX0_init_63 (fun qa8 cA H hKx hP hD hS => ?_)
  have ec := kt_cI hKx
  subst ec
  refine W.widen (k := 8) (n := 138) (Nat.le_refl _) (Nat.le_refl _) ?_
  have hP : va_P (dC, dI) vwCl [(h0, .inr (0, [.ref qa1, .ref qa2, .int 0, .int 0, .int 0, .ref qa3, .ref qa4, .ref qa5, .ref qa6, .ref qa7, .null, .null, .null, .null, .null, .null, .null, .null, .null, .null, .null, .null])), (qa1, .inl (d1, 17, .inl (fun _ => 0))), (qa2, .inl (d1, 17, .inl (fun _ => 0))), (qa3, .inl (d1, 17, .inl (fun _ => 0))), (qa4, .inl (d1, 17, .inl (fun _ => 0))), (qa5, .inl (d1, 17, .inl (fun _ => 0))), (qa6, .inl (d1, 18, .inl (fun _ => 0))), (qa7, .inl (d1, 18, .inl (fun _ => 0))), (qa8, .inl (d1, 17, .inl (fun _ => 0)))] H := hP
  have hD : va_D A [(h0, .inr (0, [.ref qa1, .ref qa2, .int 0, .int 0, .int 0, .ref qa3, .ref qa4, .ref qa5, .ref qa6, .ref qa7, .null, .null, .null, .null, .null, .null, .null, .null, .null, .null, .null, .null])), (qa1, .inl (d1, 17, .inl (fun _ => 0))), (qa2, .inl (d1, 17, .inl (fun _ => 0))), (qa3, .inl (d1, 17, .inl (fun _ => 0))), (qa4, .inl (d1, 17, .inl (fun _ => 0))), (qa5, .inl (d1, 17, .inl (fun _ => 0))), (qa6, .inl (d1, 18, .inl (fun _ => 0))), (qa7, .inl (d1, 18, .inl (fun _ => 0))), (qa8, .inl (d1, 17, .inl (fun _ => 0)))] := hD
  refine va_putF (D := (dC, dI)) (ci := 0) (v := .ref qa8) (ty := .array .int) (C := RX0) (T := TX0) (N := 22) hx hb hts in_X0 tyX0 tyX0_ok nmX0 hown hK hP hD hS 0 rfl rfl 10 (by decide) (hts _ q38) (fun _ h9 => h9) rfl hin rfl (by decide +kernel) rfl rfl (Nat.le_of_ble_eq_true rfl) dX0_init_65 (fun H locs hP hD hS => ?_)
  have hP : va_P (dC, dI) vwCl [(h0, .inr (0, [.ref qa1, .ref qa2, .int 0, .int 0, .int 0, .ref qa3, .ref qa4, .ref qa5, .ref qa6, .ref qa7, .ref qa8, .null, .null, .null, .null, .null, .null, .null, .null, .null, .null, .null])), (qa1, .inl (d1, 17, .inl (fun _ => 0))), (qa2, .inl (d1, 17, .inl (fun _ => 0))), (qa3, .inl (d1, 17, .inl (fun _ => 0))), (qa4, .inl (d1, 17, .inl (fun _ => 0))), (qa5, .inl (d1, 17, .inl (fun _ => 0))), (qa6, .inl (d1, 18, .inl (fun _ => 0))), (qa7, .inl (d1, 18, .inl (fun _ => 0))), (qa8, .inl (d1, 17, .inl (fun _ => 0)))] H := hP
  have hD : va_D A [(h0, .inr (0, [.ref qa1, .ref qa2, .int 0, .int 0, .int 0, .ref qa3, .ref qa4, .ref qa5, .ref qa6, .ref qa7, .ref qa8, .null, .null, .null, .null, .null, .null, .null, .null, .null, .null, .null])), (qa1, .inl (d1, 17, .inl (fun _ => 0))), (qa2, .inl (d1, 17, .inl (fun _ => 0))), (qa3, .inl (d1, 17, .inl (fun _ => 0))), (qa4, .inl (d1, 17, .inl (fun _ => 0))), (qa5, .inl (d1, 17, .inl (fun _ => 0))), (qa6, .inl (d1, 18, .inl (fun _ => 0))), (qa7, .inl (d1, 18, .inl (fun _ => 0))), (qa8, .inl (d1, 17, .inl (fun _ => 0)))] := hD
  refine lv_aload_n hx hb dX0_init_68 rfl (lv_at hl 0 rfl) ?_
  refine lv_bipush (v := 17) hx hb dX0_init_69 (by decide) ?_
  refine va_newa (atype := .int) (ty := .int) (a0 := (17, .inl (fun _ => 0))) (N' := 17) hx hb (hts _ q95) rfl hK hP hD hS hA (fun _ => rfl) (by decide) (by decide) (by decide) (Nat.le_of_ble_eq_true rfl) (Nat.le_of_ble_eq_true rfl) dX0_init_71 (fun qa9 cA H hKx hP hD hS => ?_)
  have ec := kt_cI hKx
  subst ec
  refine W.widen (k := 9) (n := 155) (Nat.le_refl _) (Nat.le_refl _) ?_
  have hP : va_P (dC, dI) vwCl [(h0, .inr (0, [.ref qa1, .ref qa2, .int 0, .int 0, .int 0, .ref qa3, .ref qa4, .ref qa5, .ref qa6, .ref qa7, .ref qa8, .null, .null, .null, .null, .null, .null, .null, .null, .null, .null, .null])), (qa1, .inl (d1, 17, .inl (fun _ => 0))), (qa2, .inl (d1, 17, .inl (fun _ => 0))), (qa3, .inl (d1, 17, .inl (fun _ => 0))), (qa4, .inl (d1, 17, .inl (fun _ => 0))), (qa5, .inl (d1, 17, .inl (fun _ => 0))), (qa6, .inl (d1, 18, .inl (fun _ => 0))), (qa7, .inl (d1, 18, .inl (fun _ => 0))), (qa8, .inl (d1, 17, .inl (fun _ => 0))), (qa9, .inl (d1, 17, .inl (fun _ => 0)))] H := hP
  have hD : va_D A [(h0, .inr (0, [.ref qa1, .ref qa2, .int 0, .int 0, .int 0, .ref qa3, .ref qa4, .ref qa5, .ref qa6, .ref qa7, .ref qa8, .null, .null, .null, .null, .null, .null, .null, .null, .null, .null, .null])), (qa1, .inl (d1, 17, .inl (fun _ => 0))), (qa2, .inl (d1, 17, .inl (fun _ => 0))), (qa3, .inl (d1, 17, .inl (fun _ => 0))), (qa4, .inl (d1, 17, .inl (fun _ => 0))), (qa5, .inl (d1, 17, .inl (fun _ => 0))), (qa6, .inl (d1, 18, .inl (fun _ => 0))), (qa7, .inl (d1, 18, .inl (fun _ => 0))), (qa8, .inl (d1, 17, .inl (fun _ => 0))), (qa9, .inl (d1, 17, .inl (fun _ => 0)))] := hD
  refine va_putF (D := (dC, dI)) (ci := 0) (v := .ref qa9) (ty := .array .int) (C := RX0) (T := TX0) (N := 22) hx hb hts in_X0 tyX0 tyX0_ok nmX0 hown hK hP hD hS 0 rfl rfl 11 (by decide) (hts _ q39) (fun _ h9 => h9) rfl hin rfl (by decide +kernel) rfl rfl (Nat.le_of_ble_eq_true rfl) dX0_init_73 (fun H locs hP hD hS => ?_)
  have hP : va_P (dC, dI) vwCl [(h0, .inr (0, [.ref qa1, .ref qa2, .int 0, .int 0, .int 0, .ref qa3, .ref qa4, .ref qa5, .ref qa6, .ref qa7, .ref qa8, .ref qa9, .null, .null, .null, .null, .null, .null, .null, .null, .null, .null])), (qa1, .inl (d1, 17, .inl (fun _ => 0))), (qa2, .inl (d1, 17, .inl (fun _ => 0))), (qa3, .inl (d1, 17, .inl (fun _ => 0))), (qa4, .inl (d1, 17, .inl (fun _ => 0))), (qa5, .inl (d1, 17, .inl (fun _ => 0))), (qa6, .inl (d1, 18, .inl (fun _ => 0))), (qa7, .inl (d1, 18, .inl (fun _ => 0))), (qa8, .inl (d1, 17, .inl (fun _ => 0))), (qa9, .inl (d1, 17, .inl (fun _ => 0)))] H := hP
  have hD : va_D A [(h0, .inr (0, [.ref qa1, .ref qa2, .int 0, .int 0, .int 0, .ref qa3, .ref qa4, .ref qa5, .ref qa6, .ref qa7, .ref qa8, .ref qa9, .null, .null, .null, .null, .null, .null, .null, .null, .null, .null])), (qa1, .inl (d1, 17, .inl (fun _ => 0))), (qa2, .inl (d1, 17, .inl (fun _ => 0))), (qa3, .inl (d1, 17, .inl (fun _ => 0))), (qa4, .inl (d1, 17, .inl (fun _ => 0))), (qa5, .inl (d1, 17, .inl (fun _ => 0))), (qa6, .inl (d1, 18, .inl (fun _ => 0))), (qa7, .inl (d1, 18, .inl (fun _ => 0))), (qa8, .inl (d1, 17, .inl (fun _ => 0))), (qa9, .inl (d1, 17, .inl (fun _ => 0)))] := hD
  refine lv_aload_n hx hb dX0_init_76 rfl (lv_at hl 0 rfl) ?_
  refine lv_bipush (v := 17) hx hb dX0_init_77 (by decide) ?_
  refine va_newa (atype := .int) (ty := .int) (a0 := (17, .inl (fun _ => 0))) (N' := 17) hx hb (hts _ q95) rfl hK hP hD hS hA (fun _ => rfl) (by decide) (by decide) (by decide) (Nat.le_of_ble_eq_true rfl) (Nat.le_of_ble_eq_true rfl) dX0_init_79 (fun qa10 cA H hKx hP hD hS => ?_)
  have ec := kt_cI hKx
  subst ec
  refine W.widen (k := 10) (n := 172) (Nat.le_refl _) (Nat.le_refl _) ?_
  have hP : va_P (dC, dI) vwCl [(h0, .inr (0, [.ref qa1, .ref qa2, .int 0, .int 0, .int 0, .ref qa3, .ref qa4, .ref qa5, .ref qa6, .ref qa7, .ref qa8, .ref qa9, .null, .null, .null, .null, .null, .null, .null, .null, .null, .null])), (qa1, .inl (d1, 17, .inl (fun _ => 0))), (qa2, .inl (d1, 17, .inl (fun _ => 0))), (qa3, .inl (d1, 17, .inl (fun _ => 0))), (qa4, .inl (d1, 17, .inl (fun _ => 0))), (qa5, .inl (d1, 17, .inl (fun _ => 0))), (qa6, .inl (d1, 18, .inl (fun _ => 0))), (qa7, .inl (d1, 18, .inl (fun _ => 0))), (qa8, .inl (d1, 17, .inl (fun _ => 0))), (qa9, .inl (d1, 17, .inl (fun _ => 0))), (qa10, .inl (d1, 17, .inl (fun _ => 0)))] H := hP
  have hD : va_D A [(h0, .inr (0, [.ref qa1, .ref qa2, .int 0, .int 0, .int 0, .ref qa3, .ref qa4, .ref qa5, .ref qa6, .ref qa7, .ref qa8, .ref qa9, .null, .null, .null, .null, .null, .null, .null, .null, .null, .null])), (qa1, .inl (d1, 17, .inl (fun _ => 0))), (qa2, .inl (d1, 17, .inl (fun _ => 0))), (qa3, .inl (d1, 17, .inl (fun _ => 0))), (qa4, .inl (d1, 17, .inl (fun _ => 0))), (qa5, .inl (d1, 17, .inl (fun _ => 0))), (qa6, .inl (d1, 18, .inl (fun _ => 0))), (qa7, .inl (d1, 18, .inl (fun _ => 0))), (qa8, .inl (d1, 17, .inl (fun _ => 0))), (qa9, .inl (d1, 17, .inl (fun _ => 0))), (qa10, .inl (d1, 17, .inl (fun _ => 0)))] := hD
  refine va_putF (D := (dC, dI)) (ci := 0) (v := .ref qa10) (ty := .array .int) (C := RX0) (T := TX0) (N := 22) hx hb hts in_X0 tyX0 tyX0_ok nmX0 hown hK hP hD hS 0 rfl rfl 12 (by decide) (hts _ q40) (fun _ h9 => h9) rfl hin rfl (by decide +kernel) rfl rfl (Nat.le_of_ble_eq_true rfl) dX0_init_81 (fun H locs hP hD hS => ?_)
  have hP : va_P (dC, dI) vwCl [(h0, .inr (0, [.ref qa1, .ref qa2, .int 0, .int 0, .int 0, .ref qa3, .ref qa4, .ref qa5, .ref qa6, .ref qa7, .ref qa8, .ref qa9, .ref qa10, .null, .null, .null, .null, .null, .null, .null, .null, .null])), (qa1, .inl (d1, 17, .inl (fun _ => 0))), (qa2, .inl (d1, 17, .inl (fun _ => 0))), (qa3, .inl (d1, 17, .inl (fun _ => 0))), (qa4, .inl (d1, 17, .inl (fun _ => 0))), (qa5, .inl (d1, 17, .inl (fun _ => 0))), (qa6, .inl (d1, 18, .inl (fun _ => 0))), (qa7, .inl (d1, 18, .inl (fun _ => 0))), (qa8, .inl (d1, 17, .inl (fun _ => 0))), (qa9, .inl (d1, 17, .inl (fun _ => 0))), (qa10, .inl (d1, 17, .inl (fun _ => 0)))] H := hP
  have hD : va_D A [(h0, .inr (0, [.ref qa1, .ref qa2, .int 0, .int 0, .int 0, .ref qa3, .ref qa4, .ref qa5, .ref qa6, .ref qa7, .ref qa8, .ref qa9, .ref qa10, .null, .null, .null, .null, .null, .null, .null, .null, .null])), (qa1, .inl (d1, 17, .inl (fun _ => 0))), (qa2, .inl (d1, 17, .inl (fun _ => 0))), (qa3, .inl (d1, 17, .inl (fun _ => 0))), (qa4, .inl (d1, 17, .inl (fun _ => 0))), (qa5, .inl (d1, 17, .inl (fun _ => 0))), (qa6, .inl (d1, 18, .inl (fun _ => 0))), (qa7, .inl (d1, 18, .inl (fun _ => 0))), (qa8, .inl (d1, 17, .inl (fun _ => 0))), (qa9, .inl (d1, 17, .inl (fun _ => 0))), (qa10, .inl (d1, 17, .inl (fun _ => 0)))] := hD
  refine lv_aload_n hx hb dX0_init_84 rfl (lv_at hl 0 rfl) ?_
  refine lv_bipush (v := 17) hx hb dX0_init_85 (by decide) ?_
  refine va_newa (atype := .int) (ty := .int) (a0 := (17, .inl (fun _ => 0))) (N' := 17) hx hb (hts _ q95) rfl hK hP hD hS hA (fun _ => rfl) (by decide) (by decide) (by decide) (Nat.le_of_ble_eq_true rfl) (Nat.le_of_ble_eq_true rfl) dX0_init_87 (fun qa11 cA H hKx hP hD hS => ?_)
  have ec := kt_cI hKx
  subst ec
  refine W.widen (k := 11) (n := 189) (Nat.le_refl _) (Nat.le_refl _) ?_
  have hP : va_P (dC, dI) vwCl [(h0, .inr (0, [.ref qa1, .ref qa2, .int 0, .int 0, .int 0, .ref qa3, .ref qa4, .ref qa5, .ref qa6, .ref qa7, .ref qa8, .ref qa9, .ref qa10, .null, .null, .null, .null, .null, .null, .null, .null, .null])), (qa1, .inl (d1, 17, .inl (fun _ => 0))), (qa2, .inl (d1, 17, .inl (fun _ => 0))), (qa3, .inl (d1, 17, .inl (fun _ => 0))), (qa4, .inl (d1, 17, .inl (fun _ => 0))), (qa5, .inl (d1, 17, .inl (fun _ => 0))), (qa6, .inl (d1, 18, .inl (fun _ => 0))), (qa7, .inl (d1, 18, .inl (fun _ => 0))), (qa8, .inl (d1, 17, .inl (fun _ => 0))), (qa9, .inl (d1, 17, .inl (fun _ => 0))), (qa10, .inl (d1, 17, .inl (fun _ => 0))), (qa11, .inl (d1, 17, .inl (fun _ => 0)))] H := hP
  have hD : va_D A [(h0, .inr (0, [.ref qa1, .ref qa2, .int 0, .int 0, .int 0, .ref qa3, .ref qa4, .ref qa5, .ref qa6, .ref qa7, .ref qa8, .ref qa9, .ref qa10, .null, .null, .null, .null, .null, .null, .null, .null, .null])), (qa1, .inl (d1, 17, .inl (fun _ => 0))), (qa2, .inl (d1, 17, .inl (fun _ => 0))), (qa3, .inl (d1, 17, .inl (fun _ => 0))), (qa4, .inl (d1, 17, .inl (fun _ => 0))), (qa5, .inl (d1, 17, .inl (fun _ => 0))), (qa6, .inl (d1, 18, .inl (fun _ => 0))), (qa7, .inl (d1, 18, .inl (fun _ => 0))), (qa8, .inl (d1, 17, .inl (fun _ => 0))), (qa9, .inl (d1, 17, .inl (fun _ => 0))), (qa10, .inl (d1, 17, .inl (fun _ => 0))), (qa11, .inl (d1, 17, .inl (fun _ => 0)))] := hD
  refine va_putF (D := (dC, dI)) (ci := 0) (v := .ref qa11) (ty := .array .int) (C := RX0) (T := TX0) (N := 22) hx hb hts in_X0 tyX0 tyX0_ok nmX0 hown hK hP hD hS 0 rfl rfl 13 (by decide) (hts _ q41) (fun _ h9 => h9) rfl hin rfl (by decide +kernel) rfl rfl (Nat.le_of_ble_eq_true rfl) dX0_init_89 (fun H locs hP hD hS => ?_)
  have hP : va_P (dC, dI) vwCl [(h0, .inr (0, [.ref qa1, .ref qa2, .int 0, .int 0, .int 0, .ref qa3, .ref qa4, .ref qa5, .ref qa6, .ref qa7, .ref qa8, .ref qa9, .ref qa10, .ref qa11, .null, .null, .null, .null, .null, .null, .null, .null])), (qa1, .inl (d1, 17, .inl (fun _ => 0))), (qa2, .inl (d1, 17, .inl (fun _ => 0))), (qa3, .inl (d1, 17, .inl (fun _ => 0))), (qa4, .inl (d1, 17, .inl (fun _ => 0))), (qa5, .inl (d1, 17, .inl (fun _ => 0))), (qa6, .inl (d1, 18, .inl (fun _ => 0))), (qa7, .inl (d1, 18, .inl (fun _ => 0))), (qa8, .inl (d1, 17, .inl (fun _ => 0))), (qa9, .inl (d1, 17, .inl (fun _ => 0))), (qa10, .inl (d1, 17, .inl (fun _ => 0))), (qa11, .inl (d1, 17, .inl (fun _ => 0)))] H := hP
  have hD : va_D A [(h0, .inr (0, [.ref qa1, .ref qa2, .int 0, .int 0, .int 0, .ref qa3, .ref qa4, .ref qa5, .ref qa6, .ref qa7, .ref qa8, .ref qa9, .ref qa10, .ref qa11, .null, .null, .null, .null, .null, .null, .null, .null])), (qa1, .inl (d1, 17, .inl (fun _ => 0))), (qa2, .inl (d1, 17, .inl (fun _ => 0))), (qa3, .inl (d1, 17, .inl (fun _ => 0))), (qa4, .inl (d1, 17, .inl (fun _ => 0))), (qa5, .inl (d1, 17, .inl (fun _ => 0))), (qa6, .inl (d1, 18, .inl (fun _ => 0))), (qa7, .inl (d1, 18, .inl (fun _ => 0))), (qa8, .inl (d1, 17, .inl (fun _ => 0))), (qa9, .inl (d1, 17, .inl (fun _ => 0))), (qa10, .inl (d1, 17, .inl (fun _ => 0))), (qa11, .inl (d1, 17, .inl (fun _ => 0)))] := hD
  refine lv_aload_n hx hb dX0_init_92 rfl (lv_at hl 0 rfl) ?_
  refine lv_bipush (v := 18) hx hb dX0_init_93 (by decide) ?_
  refine va_newa (atype := .int) (ty := .int) (a0 := (18, .inl (fun _ => 0))) (N' := 18) hx hb (hts _ q95) rfl hK hP hD hS hA (fun _ => rfl) (by decide) (by decide) (by decide) (Nat.le_of_ble_eq_true rfl) (Nat.le_of_ble_eq_true rfl) dX0_init_95 (fun qa12 cA H hKx hP hD hS => ?_)
  have ec := kt_cI hKx
  subst ec
  refine W.widen (k := 12) (n := 207) (Nat.le_refl _) (Nat.le_refl _) ?_
  have hP : va_P (dC, dI) vwCl [(h0, .inr (0, [.ref qa1, .ref qa2, .int 0, .int 0, .int 0, .ref qa3, .ref qa4, .ref qa5, .ref qa6, .ref qa7, .ref qa8, .ref qa9, .ref qa10, .ref qa11, .null, .null, .null, .null, .null, .null, .null, .null])), (qa1, .inl (d1, 17, .inl (fun _ => 0))), (qa2, .inl (d1, 17, .inl (fun _ => 0))), (qa3, .inl (d1, 17, .inl (fun _ => 0))), (qa4, .inl (d1, 17, .inl (fun _ => 0))), (qa5, .inl (d1, 17, .inl (fun _ => 0))), (qa6, .inl (d1, 18, .inl (fun _ => 0))), (qa7, .inl (d1, 18, .inl (fun _ => 0))), (qa8, .inl (d1, 17, .inl (fun _ => 0))), (qa9, .inl (d1, 17, .inl (fun _ => 0))), (qa10, .inl (d1, 17, .inl (fun _ => 0))), (qa11, .inl (d1, 17, .inl (fun _ => 0))), (qa12, .inl (d1, 18, .inl (fun _ => 0)))] H := hP
  have hD : va_D A [(h0, .inr (0, [.ref qa1, .ref qa2, .int 0, .int 0, .int 0, .ref qa3, .ref qa4, .ref qa5, .ref qa6, .ref qa7, .ref qa8, .ref qa9, .ref qa10, .ref qa11, .null, .null, .null, .null, .null, .null, .null, .null])), (qa1, .inl (d1, 17, .inl (fun _ => 0))), (qa2, .inl (d1, 17, .inl (fun _ => 0))), (qa3, .inl (d1, 17, .inl (fun _ => 0))), (qa4, .inl (d1, 17, .inl (fun _ => 0))), (qa5, .inl (d1, 17, .inl (fun _ => 0))), (qa6, .inl (d1, 18, .inl (fun _ => 0))), (qa7, .inl (d1, 18, .inl (fun _ => 0))), (qa8, .inl (d1, 17, .inl (fun _ => 0))), (qa9, .inl (d1, 17, .inl (fun _ => 0))), (qa10, .inl (d1, 17, .inl (fun _ => 0))), (qa11, .inl (d1, 17, .inl (fun _ => 0))), (qa12, .inl (d1, 18, .inl (fun _ => 0)))] := hD
  refine va_putF (D := (dC, dI)) (ci := 0) (v := .ref qa12) (ty := .array .int) (C := RX0) (T := TX0) (N := 22) hx hb hts in_X0 tyX0 tyX0_ok nmX0 hown hK hP hD hS 0 rfl rfl 14 (by decide) (hts _ q42) (fun _ h9 => h9) rfl hin rfl (by decide +kernel) rfl rfl (Nat.le_of_ble_eq_true rfl) dX0_init_97 (fun H locs hP hD hS => ?_)
  have hP : va_P (dC, dI) vwCl [(h0, .inr (0, [.ref qa1, .ref qa2, .int 0, .int 0, .int 0, .ref qa3, .ref qa4, .ref qa5, .ref qa6, .ref qa7, .ref qa8, .ref qa9, .ref qa10, .ref qa11, .ref qa12, .null, .null, .null, .null, .null, .null, .null])), (qa1, .inl (d1, 17, .inl (fun _ => 0))), (qa2, .inl (d1, 17, .inl (fun _ => 0))), (qa3, .inl (d1, 17, .inl (fun _ => 0))), (qa4, .inl (d1, 17, .inl (fun _ => 0))), (qa5, .inl (d1, 17, .inl (fun _ => 0))), (qa6, .inl (d1, 18, .inl (fun _ => 0))), (qa7, .inl (d1, 18, .inl (fun _ => 0))), (qa8, .inl (d1, 17, .inl (fun _ => 0))), (qa9, .inl (d1, 17, .inl (fun _ => 0))), (qa10, .inl (d1, 17, .inl (fun _ => 0))), (qa11, .inl (d1, 17, .inl (fun _ => 0))), (qa12, .inl (d1, 18, .inl (fun _ => 0)))] H := hP
  have hD : va_D A [(h0, .inr (0, [.ref qa1, .ref qa2, .int 0, .int 0, .int 0, .ref qa3, .ref qa4, .ref qa5, .ref qa6, .ref qa7, .ref qa8, .ref qa9, .ref qa10, .ref qa11, .ref qa12, .null, .null, .null, .null, .null, .null, .null])), (qa1, .inl (d1, 17, .inl (fun _ => 0))), (qa2, .inl (d1, 17, .inl (fun _ => 0))), (qa3, .inl (d1, 17, .inl (fun _ => 0))), (qa4, .inl (d1, 17, .inl (fun _ => 0))), (qa5, .inl (d1, 17, .inl (fun _ => 0))), (qa6, .inl (d1, 18, .inl (fun _ => 0))), (qa7, .inl (d1, 18, .inl (fun _ => 0))), (qa8, .inl (d1, 17, .inl (fun _ => 0))), (qa9, .inl (d1, 17, .inl (fun _ => 0))), (qa10, .inl (d1, 17, .inl (fun _ => 0))), (qa11, .inl (d1, 17, .inl (fun _ => 0))), (qa12, .inl (d1, 18, .inl (fun _ => 0)))] := hD
  refine lv_aload_n hx hb dX0_init_100 rfl (lv_at hl 0 rfl) ?_
  refine lv_bipush (v := 17) hx hb dX0_init_101 (by decide) ?_
  refine va_newa (atype := .int) (ty := .int) (a0 := (17, .inl (fun _ => 0))) (N' := 17) hx hb (hts _ q95) rfl hK hP hD hS hA (fun _ => rfl) (by decide) (by decide) (by decide) (Nat.le_of_ble_eq_true rfl) (Nat.le_of_ble_eq_true rfl) dX0_init_103 (fun qa13 cA H hKx hP hD hS => ?_)
  have ec := kt_cI hKx
  subst ec
  refine W.widen (k := 13) (n := 224) (Nat.le_refl _) (Nat.le_refl _) ?_
  have hP : va_P (dC, dI) vwCl [(h0, .inr (0, [.ref qa1, .ref qa2, .int 0, .int 0, .int 0, .ref qa3, .ref qa4, .ref qa5, .ref qa6, .ref qa7, .ref qa8, .ref qa9, .ref qa10, .ref qa11, .ref qa12, .null, .null, .null, .null, .null, .null, .null])), (qa1, .inl (d1, 17, .inl (fun _ => 0))), (qa2, .inl (d1, 17, .inl (fun _ => 0))), (qa3, .inl (d1, 17, .inl (fun _ => 0))), (qa4, .inl (d1, 17, .inl (fun _ => 0))), (qa5, .inl (d1, 17, .inl (fun _ => 0))), (qa6, .inl (d1, 18, .inl (fun _ => 0))), (qa7, .inl (d1, 18, .inl (fun _ => 0))), (qa8, .inl (d1, 17, .inl (fun _ => 0))), (qa9, .inl (d1, 17, .inl (fun _ => 0))), (qa10, .inl (d1, 17, .inl (fun _ => 0))), (qa11, .inl (d1, 17, .inl (fun _ => 0))), (qa12, .inl (d1, 18, .inl (fun _ => 0))), (qa13, .inl (d1, 17, .inl (fun _ => 0)))] H := hP
  have hD : va_D A [(h0, .inr (0, [.ref qa1, .ref qa2, .int 0, .int 0, .int 0, .ref qa3, .ref qa4, .ref qa5, .ref qa6, .ref qa7, .ref qa8, .ref qa9, .ref qa10, .ref qa11, .ref qa12, .null, .null, .null, .null, .null, .null, .null])), (qa1, .inl (d1, 17, .inl (fun _ => 0))), (qa2, .inl (d1, 17, .inl (fun _ => 0))), (qa3, .inl (d1, 17, .inl (fun _ => 0))), (qa4, .inl (d1, 17, .inl (fun _ => 0))), (qa5, .inl (d1, 17, .inl (fun _ => 0))), (qa6, .inl (d1, 18, .inl (fun _ => 0))), (qa7, .inl (d1, 18, .inl (fun _ => 0))), (qa8, .inl (d1, 17, .inl (fun _ => 0))), (qa9, .inl (d1, 17, .inl (fun _ => 0))), (qa10, .inl (d1, 17, .inl (fun _ => 0))), (qa11, .inl (d1, 17, .inl (fun _ => 0))), (qa12, .inl (d1, 18, .inl (fun _ => 0))), (qa13, .inl (d1, 17, .inl (fun _ => 0)))] := hD
  refine va_putF (D := (dC, dI)) (ci := 0) (v := .ref qa13) (ty := .array .int) (C := RX0) (T := TX0) (N := 22) hx hb hts in_X0 tyX0 tyX0_ok nmX0 hown hK hP hD hS 0 rfl rfl 15 (by decide) (hts _ q43) (fun _ h9 => h9) rfl hin rfl (by decide +kernel) rfl rfl (Nat.le_of_ble_eq_true rfl) dX0_init_105 (fun H locs hP hD hS => ?_)
  have hP : va_P (dC, dI) vwCl [(h0, .inr (0, [.ref qa1, .ref qa2, .int 0, .int 0, .int 0, .ref qa3, .ref qa4, .ref qa5, .ref qa6, .ref qa7, .ref qa8, .ref qa9, .ref qa10, .ref qa11, .ref qa12, .ref qa13, .null, .null, .null, .null, .null, .null])), (qa1, .inl (d1, 17, .inl (fun _ => 0))), (qa2, .inl (d1, 17, .inl (fun _ => 0))), (qa3, .inl (d1, 17, .inl (fun _ => 0))), (qa4, .inl (d1, 17, .inl (fun _ => 0))), (qa5, .inl (d1, 17, .inl (fun _ => 0))), (qa6, .inl (d1, 18, .inl (fun _ => 0))), (qa7, .inl (d1, 18, .inl (fun _ => 0))), (qa8, .inl (d1, 17, .inl (fun _ => 0))), (qa9, .inl (d1, 17, .inl (fun _ => 0))), (qa10, .inl (d1, 17, .inl (fun _ => 0))), (qa11, .inl (d1, 17, .inl (fun _ => 0))), (qa12, .inl (d1, 18, .inl (fun _ => 0))), (qa13, .inl (d1, 17, .inl (fun _ => 0)))] H := hP
  have hD : va_D A [(h0, .inr (0, [.ref qa1, .ref qa2, .int 0, .int 0, .int 0, .ref qa3, .ref qa4, .ref qa5, .ref qa6, .ref qa7, .ref qa8, .ref qa9, .ref qa10, .ref qa11, .ref qa12, .ref qa13, .null, .null, .null, .null, .null, .null])), (qa1, .inl (d1, 17, .inl (fun _ => 0))), (qa2, .inl (d1, 17, .inl (fun _ => 0))), (qa3, .inl (d1, 17, .inl (fun _ => 0))), (qa4, .inl (d1, 17, .inl (fun _ => 0))), (qa5, .inl (d1, 17, .inl (fun _ => 0))), (qa6, .inl (d1, 18, .inl (fun _ => 0))), (qa7, .inl (d1, 18, .inl (fun _ => 0))), (qa8, .inl (d1, 17, .inl (fun _ => 0))), (qa9, .inl (d1, 17, .inl (fun _ => 0))), (qa10, .inl (d1, 17, .inl (fun _ => 0))), (qa11, .inl (d1, 17, .inl (fun _ => 0))), (qa12, .inl (d1, 18, .inl (fun _ => 0))), (qa13, .inl (d1, 17, .inl (fun _ => 0)))] := hD
  refine lv_aload_n hx hb dX0_init_108 rfl (lv_at hl 0 rfl) ?_
  refine lv_bipush (v := 17) hx hb dX0_init_109 (by decide) ?_
  refine va_newa (atype := .int) (ty := .int) (a0 := (17, .inl (fun _ => 0))) (N' := 17) hx hb (hts _ q95) rfl hK hP hD hS hA (fun _ => rfl) (by decide) (by decide) (by decide) (Nat.le_of_ble_eq_true rfl) (Nat.le_of_ble_eq_true rfl) dX0_init_111 (fun qa14 cA H hKx hP hD hS => ?_)
  have ec := kt_cI hKx
  subst ec
  refine W.widen (k := 14) (n := 241) (Nat.le_refl _) (Nat.le_refl _) ?_
  have hP : va_P (dC, dI) vwCl [(h0, .inr (0, [.ref qa1, .ref qa2, .int 0, .int 0, .int 0, .ref qa3, .ref qa4, .ref qa5, .ref qa6, .ref qa7, .ref qa8, .ref qa9, .ref qa10, .ref qa11, .ref qa12, .ref qa13, .null, .null, .null, .null, .null, .null])), (qa1, .inl (d1, 17, .inl (fun _ => 0))), (qa2, .inl (d1, 17, .inl (fun _ => 0))), (qa3, .inl (d1, 17, .inl (fun _ => 0))), (qa4, .inl (d1, 17, .inl (fun _ => 0))), (qa5, .inl (d1, 17, .inl (fun _ => 0))), (qa6, .inl (d1, 18, .inl (fun _ => 0))), (qa7, .inl (d1, 18, .inl (fun _ => 0))), (qa8, .inl (d1, 17, .inl (fun _ => 0))), (qa9, .inl (d1, 17, .inl (fun _ => 0))), (qa10, .inl (d1, 17, .inl (fun _ => 0))), (qa11, .inl (d1, 17, .inl (fun _ => 0))), (qa12, .inl (d1, 18, .inl (fun _ => 0))), (qa13, .inl (d1, 17, .inl (fun _ => 0))), (qa14, .inl (d1, 17, .inl (fun _ => 0)))] H := hP
  have hD : va_D A [(h0, .inr (0, [.ref qa1, .ref qa2, .int 0, .int 0, .int 0, .ref qa3, .ref qa4, .ref qa5, .ref qa6, .ref qa7, .ref qa8, .ref qa9, .ref qa10, .ref qa11, .ref qa12, .ref qa13, .null, .null, .null, .null, .null, .null])), (qa1, .inl (d1, 17, .inl (fun _ => 0))), (qa2, .inl (d1, 17, .inl (fun _ => 0))), (qa3, .inl (d1, 17, .inl (fun _ => 0))), (qa4, .inl (d1, 17, .inl (fun _ => 0))), (qa5, .inl (d1, 17, .inl (fun _ => 0))), (qa6, .inl (d1, 18, .inl (fun _ => 0))), (qa7, .inl (d1, 18, .inl (fun _ => 0))), (qa8, .inl (d1, 17, .inl (fun _ => 0))), (qa9, .inl (d1, 17, .inl (fun _ => 0))), (qa10, .inl (d1, 17, .inl (fun _ => 0))), (qa11, .inl (d1, 17, .inl (fun _ => 0))), (qa12, .inl (d1, 18, .inl (fun _ => 0))), (qa13, .inl (d1, 17, .inl (fun _ => 0))), (qa14, .inl (d1, 17, .inl (fun _ => 0)))] := hD
  refine va_putF (D := (dC, dI)) (ci := 0) (v := .ref qa14) (ty := .array .int) (C := RX0) (T := TX0) (N := 22) hx hb hts in_X0 tyX0 tyX0_ok nmX0 hown hK hP hD hS 0 rfl rfl 16 (by decide) (hts _ q44) (fun _ h9 => h9) rfl hin rfl (by decide +kernel) rfl rfl (Nat.le_of_ble_eq_true rfl) dX0_init_113 (fun H locs hP hD hS => ?_)
  have hP : va_P (dC, dI) vwCl [(h0, .inr (0, [.ref qa1, .ref qa2, .int 0, .int 0, .int 0, .ref qa3, .ref qa4, .ref qa5, .ref qa6, .ref qa7, .ref qa8, .ref qa9, .ref qa10, .ref qa11, .ref qa12, .ref qa13, .ref qa14, .null, .null, .null, .null, .null])), (qa1, .inl (d1, 17, .inl (fun _ => 0))), (qa2, .inl (d1, 17, .inl (fun _ => 0))), (qa3, .inl (d1, 17, .inl (fun _ => 0))), (qa4, .inl (d1, 17, .inl (fun _ => 0))), (qa5, .inl (d1, 17, .inl (fun _ => 0))), (qa6, .inl (d1, 18, .inl (fun _ => 0))), (qa7, .inl (d1, 18, .inl (fun _ => 0))), (qa8, .inl (d1, 17, .inl (fun _ => 0))), (qa9, .inl (d1, 17, .inl (fun _ => 0))), (qa10, .inl (d1, 17, .inl (fun _ => 0))), (qa11, .inl (d1, 17, .inl (fun _ => 0))), (qa12, .inl (d1, 18, .inl (fun _ => 0))), (qa13, .inl (d1, 17, .inl (fun _ => 0))), (qa14, .inl (d1, 17, .inl (fun _ => 0)))] H := hP
  have hD : va_D A [(h0, .inr (0, [.ref qa1, .ref qa2, .int 0, .int 0, .int 0, .ref qa3, .ref qa4, .ref qa5, .ref qa6, .ref qa7, .ref qa8, .ref qa9, .ref qa10, .ref qa11, .ref qa12, .ref qa13, .ref qa14, .null, .null, .null, .null, .null])), (qa1, .inl (d1, 17, .inl (fun _ => 0))), (qa2, .inl (d1, 17, .inl (fun _ => 0))), (qa3, .inl (d1, 17, .inl (fun _ => 0))), (qa4, .inl (d1, 17, .inl (fun _ => 0))), (qa5, .inl (d1, 17, .inl (fun _ => 0))), (qa6, .inl (d1, 18, .inl (fun _ => 0))), (qa7, .inl (d1, 18, .inl (fun _ => 0))), (qa8, .inl (d1, 17, .inl (fun _ => 0))), (qa9, .inl (d1, 17, .inl (fun _ => 0))), (qa10, .inl (d1, 17, .inl (fun _ => 0))), (qa11, .inl (d1, 17, .inl (fun _ => 0))), (qa12, .inl (d1, 18, .inl (fun _ => 0))), (qa13, .inl (d1, 17, .inl (fun _ => 0))), (qa14, .inl (d1, 17, .inl (fun _ => 0)))] := hD
  refine lv_aload_n hx hb dX0_init_116 rfl (lv_at hl 0 rfl) ?_
  refine lv_bipush (v := 17) hx hb dX0_init_117 (by decide) ?_
  refine va_newa (atype := .int) (ty := .int) (a0 := (17, .inl (fun _ => 0))) (N' := 17) hx hb (hts _ q95) rfl hK hP hD hS hA (fun _ => rfl) (by decide) (by decide) (by decide) (Nat.le_of_ble_eq_true rfl) (Nat.le_of_ble_eq_true rfl) dX0_init_119 (fun qa15 cA H hKx hP hD hS => ?_)
  have ec := kt_cI hKx
  subst ec
  refine W.widen (k := 15) (n := 258) (Nat.le_refl _) (Nat.le_refl _) ?_
  have hP : va_P (dC, dI) vwCl [(h0, .inr (0, [.ref qa1, .ref qa2, .int 0, .int 0, .int 0, .ref qa3, .ref qa4, .ref qa5, .ref qa6, .ref qa7, .ref qa8, .ref qa9, .ref qa10, .ref qa11, .ref qa12, .ref qa13, .ref qa14, .null, .null, .null, .null, .null])), (qa1, .inl (d1, 17, .inl (fun _ => 0))), (qa2, .inl (d1, 17, .inl (fun _ => 0))), (qa3, .inl (d1, 17, .inl (fun _ => 0))), (qa4, .inl (d1, 17, .inl (fun _ => 0))), (qa5, .inl (d1, 17, .inl (fun _ => 0))), (qa6, .inl (d1, 18, .inl (fun _ => 0))), (qa7, .inl (d1, 18, .inl (fun _ => 0))), (qa8, .inl (d1, 17, .inl (fun _ => 0))), (qa9, .inl (d1, 17, .inl (fun _ => 0))), (qa10, .inl (d1, 17, .inl (fun _ => 0))), (qa11, .inl (d1, 17, .inl (fun _ => 0))), (qa12, .inl (d1, 18, .inl (fun _ => 0))), (qa13, .inl (d1, 17, .inl (fun _ => 0))), (qa14, .inl (d1, 17, .inl (fun _ => 0))), (qa15, .inl (d1, 17, .inl (fun _ => 0)))] H := hP
  have hD : va_D A [(h0, .inr (0, [.ref qa1, .ref qa2, .int 0, .int 0, .int 0, .ref qa3, .ref qa4, .ref qa5, .ref qa6, .ref qa7, .ref qa8, .ref qa9, .ref qa10, .ref qa11, .ref qa12, .ref qa13, .ref qa14, .null, .null, .null, .null, .null])), (qa1, .inl (d1, 17, .inl (fun _ => 0))), (qa2, .inl (d1, 17, .inl (fun _ => 0))), (qa3, .inl (d1, 17, .inl (fun _ => 0))), (qa4, .inl (d1, 17, .inl (fun _ => 0))), (qa5, .inl (d1, 17, .inl (fun _ => 0))), (qa6, .inl (d1, 18, .inl (fun _ => 0))), (qa7, .inl (d1, 18, .inl (fun _ => 0))), (qa8, .inl (d1, 17, .inl (fun _ => 0))), (qa9, .inl (d1, 17, .inl (fun _ => 0))), (qa10, .inl (d1, 17, .inl (fun _ => 0))), (qa11, .inl (d1, 17, .inl (fun _ => 0))), (qa12, .inl (d1, 18, .inl (fun _ => 0))), (qa13, .inl (d1, 17, .inl (fun _ => 0))), (qa14, .inl (d1, 17, .inl (fun _ => 0))), (qa15, .inl (d1, 17, .inl (fun _ => 0)))] := hD
  refine va_putF (D := (dC, dI)) (ci := 0) (v := .ref qa15) (ty := .array .int) (C := RX0) (T := TX0) (N := 22) hx hb hts in_X0 tyX0 tyX0_ok nmX0 hown hK hP hD hS 0 rfl rfl 17 (by decide) (hts _ q45) (fun _ h9 => h9) rfl hin rfl (by decide +kernel) rfl rfl (Nat.le_of_ble_eq_true rfl) dX0_init_121 (fun H locs hP hD hS => ?_)
  have hP : va_P (dC, dI) vwCl [(h0, .inr (0, [.ref qa1, .ref qa2, .int 0, .int 0, .int 0, .ref qa3, .ref qa4, .ref qa5, .ref qa6, .ref qa7, .ref qa8, .ref qa9, .ref qa10, .ref qa11, .ref qa12, .ref qa13, .ref qa14, .ref qa15, .null, .null, .null, .null])), (qa1, .inl (d1, 17, .inl (fun _ => 0))), (qa2, .inl (d1, 17, .inl (fun _ => 0))), (qa3, .inl (d1, 17, .inl (fun _ => 0))), (qa4, .inl (d1, 17, .inl (fun _ => 0))), (qa5, .inl (d1, 17, .inl (fun _ => 0))), (qa6, .inl (d1, 18, .inl (fun _ => 0))), (qa7, .inl (d1, 18, .inl (fun _ => 0))), (qa8, .inl (d1, 17, .inl (fun _ => 0))), (qa9, .inl (d1, 17, .inl (fun _ => 0))), (qa10, .inl (d1, 17, .inl (fun _ => 0))), (qa11, .inl (d1, 17, .inl (fun _ => 0))), (qa12, .inl (d1, 18, .inl (fun _ => 0))), (qa13, .inl (d1, 17, .inl (fun _ => 0))), (qa14, .inl (d1, 17, .inl (fun _ => 0))), (qa15, .inl (d1, 17, .inl (fun _ => 0)))] H := hP
  have hD : va_D A [(h0, .inr (0, [.ref qa1, .ref qa2, .int 0, .int 0, .int 0, .ref qa3, .ref qa4, .ref qa5, .ref qa6, .ref qa7, .ref qa8, .ref qa9, .ref qa10, .ref qa11, .ref qa12, .ref qa13, .ref qa14, .ref qa15, .null, .null, .null, .null])), (qa1, .inl (d1, 17, .inl (fun _ => 0))), (qa2, .inl (d1, 17, .inl (fun _ => 0))), (qa3, .inl (d1, 17, .inl (fun _ => 0))), (qa4, .inl (d1, 17, .inl (fun _ => 0))), (qa5, .inl (d1, 17, .inl (fun _ => 0))), (qa6, .inl (d1, 18, .inl (fun _ => 0))), (qa7, .inl (d1, 18, .inl (fun _ => 0))), (qa8, .inl (d1, 17, .inl (fun _ => 0))), (qa9, .inl (d1, 17, .inl (fun _ => 0))), (qa10, .inl (d1, 17, .inl (fun _ => 0))), (qa11, .inl (d1, 17, .inl (fun _ => 0))), (qa12, .inl (d1, 18, .inl (fun _ => 0))), (qa13, .inl (d1, 17, .inl (fun _ => 0))), (qa14, .inl (d1, 17, .inl (fun _ => 0))), (qa15, .inl (d1, 17, .inl (fun _ => 0)))] := hD
  refine lv_aload_n hx hb dX0_init_124 rfl (lv_at hl 0 rfl) ?_
  refine lv_bipush (v := 17) hx hb dX0_init_125 (by decide) ?_
  refine va_newa (atype := .int) (ty := .int) (a0 := (17, .inl (fun _ => 0))) (N' := 17) hx hb (hts _ q95) rfl hK hP hD hS hA (fun _ => rfl) (by decide) (by decide) (by decide) (Nat.le_of_ble_eq_true rfl) (Nat.le_of_ble_eq_true rfl) dX0_init_127 (fun qa16 cA H hKx hP hD hS => ?_)
  have ec := kt_cI hKx
  subst ec
  refine W.widen (k := 16) (n := 275) (Nat.le_refl _) (Nat.le_refl _) ?_
  have hP : va_P (dC, dI) vwCl [(h0, .inr (0, [.ref qa1, .ref qa2, .int 0, .int 0, .int 0, .ref qa3, .ref qa4, .ref qa5, .ref qa6, .ref qa7, .ref qa8, .ref qa9, .ref qa10, .ref qa11, .ref qa12, .ref qa13, .ref qa14, .ref qa15, .null, .null, .null, .null])), (qa1, .inl (d1, 17, .inl (fun _ => 0))), (qa2, .inl (d1, 17, .inl (fun _ => 0))), (qa3, .inl (d1, 17, .inl (fun _ => 0))), (qa4, .inl (d1, 17, .inl (fun _ => 0))), (qa5, .inl (d1, 17, .inl (fun _ => 0))), (qa6, .inl (d1, 18, .inl (fun _ => 0))), (qa7, .inl (d1, 18, .inl (fun _ => 0))), (qa8, .inl (d1, 17, .inl (fun _ => 0))), (qa9, .inl (d1, 17, .inl (fun _ => 0))), (qa10, .inl (d1, 17, .inl (fun _ => 0))), (qa11, .inl (d1, 17, .inl (fun _ => 0))), (qa12, .inl (d1, 18, .inl (fun _ => 0))), (qa13, .inl (d1, 17, .inl (fun _ => 0))), (qa14, .inl (d1, 17, .inl (fun _ => 0))), (qa15, .inl (d1, 17, .inl (fun _ => 0))), (qa16, .inl (d1, 17, .inl (fun _ => 0)))] H := hP
  have hD : va_D A [(h0, .inr (0, [.ref qa1, .ref qa2, .int 0, .int 0, .int 0, .ref qa3, .ref qa4, .ref qa5, .ref qa6, .ref qa7, .ref qa8, .ref qa9, .ref qa10, .ref qa11, .ref qa12, .ref qa13, .ref qa14, .ref qa15, .null, .null, .null, .null])), (qa1, .inl (d1, 17, .inl (fun _ => 0))), (qa2, .inl (d1, 17, .inl (fun _ => 0))), (qa3, .inl (d1, 17, .inl (fun _ => 0))), (qa4, .inl (d1, 17, .inl (fun _ => 0))), (qa5, .inl (d1, 17, .inl (fun _ => 0))), (qa6, .inl (d1, 18, .inl (fun _ => 0))), (qa7, .inl (d1, 18, .inl (fun _ => 0))), (qa8, .inl (d1, 17, .inl (fun _ => 0))), (qa9, .inl (d1, 17, .inl (fun _ => 0))), (qa10, .inl (d1, 17, .inl (fun _ => 0))), (qa11, .inl (d1, 17, .inl (fun _ => 0))), (qa12, .inl (d1, 18, .inl (fun _ => 0))), (qa13, .inl (d1, 17, .inl (fun _ => 0))), (qa14, .inl (d1, 17, .inl (fun _ => 0))), (qa15, .inl (d1, 17, .inl (fun _ => 0))), (qa16, .inl (d1, 17, .inl (fun _ => 0)))] := hD
  refine va_putF (D := (dC, dI)) (ci := 0) (v := .ref qa16) (ty := .array .int) (C := RX0) (T := TX0) (N := 22) hx hb hts in_X0 tyX0 tyX0_ok nmX0 hown hK hP hD hS 0 rfl rfl 18 (by decide) (hts _ q46) (fun _ h9 => h9) rfl hin rfl (by decide +kernel) rfl rfl (Nat.le_of_ble_eq_true rfl) dX0_init_129 (fun H locs hP hD hS => ?_)
  have hP : va_P (dC, dI) vwCl [(h0, .inr (0, [.ref qa1, .ref qa2, .int 0, .int 0, .int 0, .ref qa3, .ref qa4, .ref qa5, .ref qa6, .ref qa7, .ref qa8, .ref qa9, .ref qa10, .ref qa11, .ref qa12, .ref qa13, .ref qa14, .ref qa15, .ref qa16, .null, .null, .null])), (qa1, .inl (d1, 17, .inl (fun _ => 0))), (qa2, .inl (d1, 17, .inl (fun _ => 0))), (qa3, .inl (d1, 17, .inl (fun _ => 0))), (qa4, .inl (d1, 17, .inl (fun _ => 0))), (qa5, .inl (d1, 17, .inl (fun _ => 0))), (qa6, .inl (d1, 18, .inl (fun _ => 0))), (qa7, .inl (d1, 18, .inl (fun _ => 0))), (qa8, .inl (d1, 17, .inl (fun _ => 0))), (qa9, .inl (d1, 17, .inl (fun _ => 0))), (qa10, .inl (d1, 17, .inl (fun _ => 0))), (qa11, .inl (d1, 17, .inl (fun _ => 0))), (qa12, .inl (d1, 18, .inl (fun _ => 0))), (qa13, .inl (d1, 17, .inl (fun _ => 0))), (qa14, .inl (d1, 17, .inl (fun _ => 0))), (qa15, .inl (d1, 17, .inl (fun _ => 0))), (qa16, .inl (d1, 17, .inl (fun _ => 0)))] H := hP
  have hD : va_D A [(h0, .inr (0, [.ref qa1, .ref qa2, .int 0, .int 0, .int 0, .ref qa3, .ref qa4, .ref qa5, .ref qa6, .ref qa7, .ref qa8, .ref qa9, .ref qa10, .ref qa11, .ref qa12, .ref qa13, .ref qa14, .ref qa15, .ref qa16, .null, .null, .null])), (qa1, .inl (d1, 17, .inl (fun _ => 0))), (qa2, .inl (d1, 17, .inl (fun _ => 0))), (qa3, .inl (d1, 17, .inl (fun _ => 0))), (qa4, .inl (d1, 17, .inl (fun _ => 0))), (qa5, .inl (d1, 17, .inl (fun _ => 0))), (qa6, .inl (d1, 18, .inl (fun _ => 0))), (qa7, .inl (d1, 18, .inl (fun _ => 0))), (qa8, .inl (d1, 17, .inl (fun _ => 0))), (qa9, .inl (d1, 17, .inl (fun _ => 0))), (qa10, .inl (d1, 17, .inl (fun _ => 0))), (qa11, .inl (d1, 17, .inl (fun _ => 0))), (qa12, .inl (d1, 18, .inl (fun _ => 0))), (qa13, .inl (d1, 17, .inl (fun _ => 0))), (qa14, .inl (d1, 17, .inl (fun _ => 0))), (qa15, .inl (d1, 17, .inl (fun _ => 0))), (qa16, .inl (d1, 17, .inl (fun _ => 0)))] := hD
  refine lv_aload_n hx hb dX0_init_132 rfl (lv_at hl 0 rfl) ?_
  refine lv_bipush (v := 17) hx hb dX0_init_133 (by decide) ?_
  refine va_newa (atype := .int) (ty := .int) (a0 := (17, .inl (fun _ => 0))) (N' := 17) hx hb (hts _ q95) rfl hK hP hD hS hA (fun _ => rfl) (by decide) (by decide) (by decide) (Nat.le_of_ble_eq_true rfl) (Nat.le_of_ble_eq_true rfl) dX0_init_135 (fun qa17 cA H hKx hP hD hS => ?_)
  have ec := kt_cI hKx
  subst ec
  refine W.widen (k := 17) (n := 292) (Nat.le_refl _) (Nat.le_refl _) ?_
  have hP : va_P (dC, dI) vwCl [(h0, .inr (0, [.ref qa1, .ref qa2, .int 0, .int 0, .int 0, .ref qa3, .ref qa4, .ref qa5, .ref qa6, .ref qa7, .ref qa8, .ref qa9, .ref qa10, .ref qa11, .ref qa12, .ref qa13, .ref qa14, .ref qa15, .ref qa16, .null, .null, .null])), (qa1, .inl (d1, 17, .inl (fun _ => 0))), (qa2, .inl (d1, 17, .inl (fun _ => 0))), (qa3, .inl (d1, 17, .inl (fun _ => 0))), (qa4, .inl (d1, 17, .inl (fun _ => 0))), (qa5, .inl (d1, 17, .inl (fun _ => 0))), (qa6, .inl (d1, 18, .inl (fun _ => 0))), (qa7, .inl (d1, 18, .inl (fun _ => 0))), (qa8, .inl (d1, 17, .inl (fun _ => 0))), (qa9, .inl (d1, 17, .inl (fun _ => 0))), (qa10, .inl (d1, 17, .inl (fun _ => 0))), (qa11, .inl (d1, 17, .inl (fun _ => 0))), (qa12, .inl (d1, 18, .inl (fun _ => 0))), (qa13, .inl (d1, 17, .inl (fun _ => 0))), (qa14, .inl (d1, 17, .inl (fun _ => 0))), (qa15, .inl (d1, 17, .inl (fun _ => 0))), (qa16, .inl (d1, 17, .inl (fun _ => 0))), (qa17, .inl (d1, 17, .inl (fun _ => 0)))] H := hP
  have hD : va_D A [(h0, .inr (0, [.ref qa1, .ref qa2, .int 0, .int 0, .int 0, .ref qa3, .ref qa4, .ref qa5, .ref qa6, .ref qa7, .ref qa8, .ref qa9, .ref qa10, .ref qa11, .ref qa12, .ref qa13, .ref qa14, .ref qa15, .ref qa16, .null, .null, .null])), (qa1, .inl (d1, 17, .inl (fun _ => 0))), (qa2, .inl (d1, 17, .inl (fun _ => 0))), (qa3, .inl (d1, 17, .inl (fun _ => 0))), (qa4, .inl (d1, 17, .inl (fun _ => 0))), (qa5, .inl (d1, 17, .inl (fun _ => 0))), (qa6, .inl (d1, 18, .inl (fun _ => 0))), (qa7, .inl (d1, 18, .inl (fun _ => 0))), (qa8, .inl (d1, 17, .inl (fun _ => 0))), (qa9, .inl (d1, 17, .inl (fun _ => 0))), (qa10, .inl (d1, 17, .inl (fun _ => 0))), (qa11, .inl (d1, 17, .inl (fun _ => 0))), (qa12, .inl (d1, 18, .inl (fun _ => 0))), (qa13, .inl (d1, 17, .inl (fun _ => 0))), (qa14, .inl (d1, 17, .inl (fun _ => 0))), (qa15, .inl (d1, 17, .inl (fun _ => 0))), (qa16, .inl (d1, 17, .inl (fun _ => 0))), (qa17, .inl (d1, 17, .inl (fun _ => 0)))] := hD
  refine va_putF (D := (dC, dI)) (ci := 0) (v := .ref qa17) (ty := .array .int) (C := RX0) (T := TX0) (N := 22) hx hb hts in_X0 tyX0 tyX0_ok nmX0 hown hK hP hD hS 0 rfl rfl 19 (by decide) (hts _ q47) (fun _ h9 => h9) rfl hin rfl (by decide +kernel) rfl rfl (Nat.le_of_ble_eq_true rfl) dX0_init_137 (fun H locs hP hD hS => ?_)
  have hP : va_P (dC, dI) vwCl [(h0, .inr (0, [.ref qa1, .ref qa2, .int 0, .int 0, .int 0, .ref qa3, .ref qa4, .ref qa5, .ref qa6, .ref qa7, .ref qa8, .ref qa9, .ref qa10, .ref qa11, .ref qa12, .ref qa13, .ref qa14, .ref qa15, .ref qa16, .ref qa17, .null, .null])), (qa1, .inl (d1, 17, .inl (fun _ => 0))), (qa2, .inl (d1, 17, .inl (fun _ => 0))), (qa3, .inl (d1, 17, .inl (fun _ => 0))), (qa4, .inl (d1, 17, .inl (fun _ => 0))), (qa5, .inl (d1, 17, .inl (fun _ => 0))), (qa6, .inl (d1, 18, .inl (fun _ => 0))), (qa7, .inl (d1, 18, .inl (fun _ => 0))), (qa8, .inl (d1, 17, .inl (fun _ => 0))), (qa9, .inl (d1, 17, .inl (fun _ => 0))), (qa10, .inl (d1, 17, .inl (fun _ => 0))), (qa11, .inl (d1, 17, .inl (fun _ => 0))), (qa12, .inl (d1, 18, .inl (fun _ => 0))), (qa13, .inl (d1, 17, .inl (fun _ => 0))), (qa14, .inl (d1, 17, .inl (fun _ => 0))), (qa15, .inl (d1, 17, .inl (fun _ => 0))), (qa16, .inl (d1, 17, .inl (fun _ => 0))), (qa17, .inl (d1, 17, .inl (fun _ => 0)))] H := hP
  have hD : va_D A [(h0, .inr (0, [.ref qa1, .ref qa2, .int 0, .int 0, .int 0, .ref qa3, .ref qa4, .ref qa5, .ref qa6, .ref qa7, .ref qa8, .ref qa9, .ref qa10, .ref qa11, .ref qa12, .ref qa13, .ref qa14, .ref qa15, .ref qa16, .ref qa17, .null, .null])), (qa1, .inl (d1, 17, .inl (fun _ => 0))), (qa2, .inl (d1, 17, .inl (fun _ => 0))), (qa3, .inl (d1, 17, .inl (fun _ => 0))), (qa4, .inl (d1, 17, .inl (fun _ => 0))), (qa5, .inl (d1, 17, .inl (fun _ => 0))), (qa6, .inl (d1, 18, .inl (fun _ => 0))), (qa7, .inl (d1, 18, .inl (fun _ => 0))), (qa8, .inl (d1, 17, .inl (fun _ => 0))), (qa9, .inl (d1, 17, .inl (fun _ => 0))), (qa10, .inl (d1, 17, .inl (fun _ => 0))), (qa11, .inl (d1, 17, .inl (fun _ => 0))), (qa12, .inl (d1, 18, .inl (fun _ => 0))), (qa13, .inl (d1, 17, .inl (fun _ => 0))), (qa14, .inl (d1, 17, .inl (fun _ => 0))), (qa15, .inl (d1, 17, .inl (fun _ => 0))), (qa16, .inl (d1, 17, .inl (fun _ => 0))), (qa17, .inl (d1, 17, .inl (fun _ => 0)))] := hD
  refine lv_aload_n hx hb dX0_init_140 rfl (lv_at hl 0 rfl) ?_
  refine lv_bipush (v := 17) hx hb dX0_init_141 (by decide) ?_
  refine va_newa (atype := .int) (ty := .int) (a0 := (17, .inl (fun _ => 0))) (N' := 17) hx hb (hts _ q95) rfl hK hP hD hS hA (fun _ => rfl) (by decide) (by decide) (by decide) (Nat.le_of_ble_eq_true rfl) (Nat.le_of_ble_eq_true rfl) dX0_init_143 (fun qa18 cA H hKx hP hD hS => ?_)
  have ec := kt_cI hKx
  subst ec
  refine W.widen (k := 18) (n := 309) (Nat.le_refl _) (Nat.le_refl _) ?_
  have hP : va_P (dC, dI) vwCl [(h0, .inr (0, [.ref qa1, .ref qa2, .int 0, .int 0, .int 0, .ref qa3, .ref qa4, .ref qa5, .ref qa6, .ref qa7, .ref qa8, .ref qa9, .ref qa10, .ref qa11, .ref qa12, .ref qa13, .ref qa14, .ref qa15, .ref qa16, .ref qa17, .null, .null])), (qa1, .inl (d1, 17, .inl (fun _ => 0))), (qa2, .inl (d1, 17, .inl (fun _ => 0))), (qa3, .inl (d1, 17, .inl (fun _ => 0))), (qa4, .inl (d1, 17, .inl (fun _ => 0))), (qa5, .inl (d1, 17, .inl (fun _ => 0))), (qa6, .inl (d1, 18, .inl (fun _ => 0))), (qa7, .inl (d1, 18, .inl (fun _ => 0))), (qa8, .inl (d1, 17, .inl (fun _ => 0))), (qa9, .inl (d1, 17, .inl (fun _ => 0))), (qa10, .inl (d1, 17, .inl (fun _ => 0))), (qa11, .inl (d1, 17, .inl (fun _ => 0))), (qa12, .inl (d1, 18, .inl (fun _ => 0))), (qa13, .inl (d1, 17, .inl (fun _ => 0))), (qa14, .inl (d1, 17, .inl (fun _ => 0))), (qa15, .inl (d1, 17, .inl (fun _ => 0))), (qa16, .inl (d1, 17, .inl (fun _ => 0))), (qa17, .inl (d1, 17, .inl (fun _ => 0))), (qa18, .inl (d1, 17, .inl (fun _ => 0)))] H := hP
  have hD : va_D A [(h0, .inr (0, [.ref qa1, .ref qa2, .int 0, .int 0, .int 0, .ref qa3, .ref qa4, .ref qa5, .ref qa6, .ref qa7, .ref qa8, .ref qa9, .ref qa10, .ref qa11, .ref qa12, .ref qa13, .ref qa14, .ref qa15, .ref qa16, .ref qa17, .null, .null])), (qa1, .inl (d1, 17, .inl (fun _ => 0))), (qa2, .inl (d1, 17, .inl (fun _ => 0))), (qa3, .inl (d1, 17, .inl (fun _ => 0))), (qa4, .inl (d1, 17, .inl (fun _ => 0))), (qa5, .inl (d1, 17, .inl (fun _ => 0))), (qa6, .inl (d1, 18, .inl (fun _ => 0))), (qa7, .inl (d1, 18, .inl (fun _ => 0))), (qa8, .inl (d1, 17, .inl (fun _ => 0))), (qa9, .inl (d1, 17, .inl (fun _ => 0))), (qa10, .inl (d1, 17, .inl (fun _ => 0))), (qa11, .inl (d1, 17, .inl (fun _ => 0))), (qa12, .inl (d1, 18, .inl (fun _ => 0))), (qa13, .inl (d1, 17, .inl (fun _ => 0))), (qa14, .inl (d1, 17, .inl (fun _ => 0))), (qa15, .inl (d1, 17, .inl (fun _ => 0))), (qa16, .inl (d1, 17, .inl (fun _ => 0))), (qa17, .inl (d1, 17, .inl (fun _ => 0))), (qa18, .inl (d1, 17, .inl (fun _ => 0)))] := hD
  refine va_putF (D := (dC, dI)) (ci := 0) (v := .ref qa18) (ty := .array .int) (C := RX0) (T := TX0) (N := 22) hx hb hts in_X0 tyX0 tyX0_ok nmX0 hown hK hP hD hS 0 rfl rfl 20 (by decide) (hts _ q48) (fun _ h9 => h9) rfl hin rfl (by decide +kernel) rfl rfl (Nat.le_of_ble_eq_true rfl) dX0_init_145 (fun H locs hP hD hS => ?_)
  have hP : va_P (dC, dI) vwCl [(h0, .inr (0, [.ref qa1, .ref qa2, .int 0, .int 0, .int 0, .ref qa3, .ref qa4, .ref qa5, .ref qa6, .ref qa7, .ref qa8, .ref qa9, .ref qa10, .ref qa11, .ref qa12, .ref qa13, .ref qa14, .ref qa15, .ref qa16, .ref qa17, .ref qa18, .null])), (qa1, .inl (d1, 17, .inl (fun _ => 0))), (qa2, .inl (d1, 17, .inl (fun _ => 0))), (qa3, .inl (d1, 17, .inl (fun _ => 0))), (qa4, .inl (d1, 17, .inl (fun _ => 0))), (qa5, .inl (d1, 17, .inl (fun _ => 0))), (qa6, .inl (d1, 18, .inl (fun _ => 0))), (qa7, .inl (d1, 18, .inl (fun _ => 0))), (qa8, .inl (d1, 17, .inl (fun _ => 0))), (qa9, .inl (d1, 17, .inl (fun _ => 0))), (qa10, .inl (d1, 17, .inl (fun _ => 0))), (qa11, .inl (d1, 17, .inl (fun _ => 0))), (qa12, .inl (d1, 18, .inl (fun _ => 0))), (qa13, .inl (d1, 17, .inl (fun _ => 0))), (qa14, .inl (d1, 17, .inl (fun _ => 0))), (qa15, .inl (d1, 17, .inl (fun _ => 0))), (qa16, .inl (d1, 17, .inl (fun _ => 0))), (qa17, .inl (d1, 17, .inl (fun _ => 0))), (qa18, .inl (d1, 17, .inl (fun _ => 0)))] H := hP
  have hD : va_D A [(h0, .inr (0, [.ref qa1, .ref qa2, .int 0, .int 0, .int 0, .ref qa3, .ref qa4, .ref qa5, .ref qa6, .ref qa7, .ref qa8, .ref qa9, .ref qa10, .ref qa11, .ref qa12, .ref qa13, .ref qa14, .ref qa15, .ref qa16, .ref qa17, .ref qa18, .null])), (qa1, .inl (d1, 17, .inl (fun _ => 0))), (qa2, .inl (d1, 17, .inl (fun _ => 0))), (qa3, .inl (d1, 17, .inl (fun _ => 0))), (qa4, .inl (d1, 17, .inl (fun _ => 0))), (qa5, .inl (d1, 17, .inl (fun _ => 0))), (qa6, .inl (d1, 18, .inl (fun _ => 0))), (qa7, .inl (d1, 18, .inl (fun _ => 0))), (qa8, .inl (d1, 17, .inl (fun _ => 0))), (qa9, .inl (d1, 17, .inl (fun _ => 0))), (qa10, .inl (d1, 17, .inl (fun _ => 0))), (qa11, .inl (d1, 17, .inl (fun _ => 0))), (qa12, .inl (d1, 18, .inl (fun _ => 0))), (qa13, .inl (d1, 17, .inl (fun _ => 0))), (qa14, .inl (d1, 17, .inl (fun _ => 0))), (qa15, .inl (d1, 17, .inl (fun _ => 0))), (qa16, .inl (d1, 17, .inl (fun _ => 0))), (qa17, .inl (d1, 17, .inl (fun _ => 0))), (qa18, .inl (d1, 17, .inl (fun _ => 0)))] := hD
  refine lv_aload_n hx hb dX0_init_148 rfl (lv_at hl 0 rfl) ?_
  refine lv_bipush (v := 17) hx hb dX0_init_149 (by decide) ?_
  refine va_newa (atype := .int) (ty := .int) (a0 := (17, .inl (fun _ => 0))) (N' := 17) hx hb (hts _ q95) rfl hK hP hD hS hA (fun _ => rfl) (by decide) (by decide) (by decide) (Nat.le_of_ble_eq_true rfl) (Nat.le_of_ble_eq_true rfl) dX0_init_151 (fun qa19 cA H hKx hP hD hS => ?_)
  have ec := kt_cI hKx
  subst ec
  refine W.widen (k := 19) (n := 326) (Nat.le_refl _) (Nat.le_refl _) ?_
  have hP : va_P (dC, dI) vwCl [(h0, .inr (0, [.ref qa1, .ref qa2, .int 0, .int 0, .int 0, .ref qa3, .ref qa4, .ref qa5, .ref qa6, .ref qa7, .ref qa8, .ref qa9, .ref qa10, .ref qa11, .ref qa12, .ref qa13, .ref qa14, .ref qa15, .ref qa16, .ref qa17, .ref qa18, .null])), (qa1, .inl (d1, 17, .inl (fun _ => 0))), (qa2, .inl (d1, 17, .inl (fun _ => 0))), (qa3, .inl (d1, 17, .inl (fun _ => 0))), (qa4, .inl (d1, 17, .inl (fun _ => 0))), (qa5, .inl (d1, 17, .inl (fun _ => 0))), (qa6, .inl (d1, 18, .inl (fun _ => 0))), (qa7, .inl (d1, 18, .inl (fun _ => 0))), (qa8, .inl (d1, 17, .inl (fun _ => 0))), (qa9, .inl (d1, 17, .inl (fun _ => 0))), (qa10, .inl (d1, 17, .inl (fun _ => 0))), (qa11, .inl (d1, 17, .inl (fun _ => 0))), (qa12, .inl (d1, 18, .inl (fun _ => 0))), (qa13, .inl (d1, 17, .inl (fun _ => 0))), (qa14, .inl (d1, 17, .inl (fun _ => 0))), (qa15, .inl (d1, 17, .inl (fun _ => 0))), (qa16, .inl (d1, 17, .inl (fun _ => 0))), (qa17, .inl (d1, 17, .inl (fun _ => 0))), (qa18, .inl (d1, 17, .inl (fun _ => 0))), (qa19, .inl (d1, 17, .inl (fun _ => 0)))] H := hP
  have hD : va_D A [(h0, .inr (0, [.ref qa1, .ref qa2, .int 0, .int 0, .int 0, .ref qa3, .ref qa4, .ref qa5, .ref qa6, .ref qa7, .ref qa8, .ref qa9, .ref qa10, .ref qa11, .ref qa12, .ref qa13, .ref qa14, .ref qa15, .ref qa16, .ref qa17, .ref qa18, .null])), (qa1, .inl (d1, 17, .inl (fun _ => 0))), (qa2, .inl (d1, 17, .inl (fun _ => 0))), (qa3, .inl (d1, 17, .inl (fun _ => 0))), (qa4, .inl (d1, 17, .inl (fun _ => 0))), (qa5, .inl (d1, 17, .inl (fun _ => 0))), (qa6, .inl (d1, 18, .inl (fun _ => 0))), (qa7, .inl (d1, 18, .inl (fun _ => 0))), (qa8, .inl (d1, 17, .inl (fun _ => 0))), (qa9, .inl (d1, 17, .inl (fun _ => 0))), (qa10, .inl (d1, 17, .inl (fun _ => 0))), (qa11, .inl (d1, 17, .inl (fun _ => 0))), (qa12, .inl (d1, 18, .inl (fun _ => 0))), (qa13, .inl (d1, 17, .inl (fun _ => 0))), (qa14, .inl (d1, 17, .inl (fun _ => 0))), (qa15, .inl (d1, 17, .inl (fun _ => 0))), (qa16, .inl (d1, 17, .inl (fun _ => 0))), (qa17, .inl (d1, 17, .inl (fun _ => 0))), (qa18, .inl (d1, 17, .inl (fun _ => 0))), (qa19, .inl (d1, 17, .inl (fun _ => 0)))] := hD
  refine va_putF (D := (dC, dI)) (ci := 0) (v := .ref qa19) (ty := .array .int) (C := RX0) (T := TX0) (N := 22) hx hb hts in_X0 tyX0 tyX0_ok nmX0 hown hK hP hD hS 0 rfl rfl 21 (by decide) (hts _ q49) (fun _ h9 => h9) rfl hin rfl (by decide +kernel) rfl rfl (Nat.le_of_ble_eq_true rfl) dX0_init_153 (fun H locs hP hD hS => ?_)
  have hP : va_P (dC, dI) vwCl [(h0, .inr (0, [.ref qa1, .ref qa2, .int 0, .int 0, .int 0, .ref qa3, .ref qa4, .ref qa5, .ref qa6, .ref qa7, .ref qa8, .ref qa9, .ref qa10, .ref qa11, .ref qa12, .ref qa13, .ref qa14, .ref qa15, .ref qa16, .ref qa17, .ref qa18, .ref qa19])), (qa1, .inl (d1, 17, .inl (fun _ => 0))), (qa2, .inl (d1, 17, .inl (fun _ => 0))), (qa3, .inl (d1, 17, .inl (fun _ => 0))), (qa4, .inl (d1, 17, .inl (fun _ => 0))), (qa5, .inl (d1, 17, .inl (fun _ => 0))), (qa6, .inl (d1, 18, .inl (fun _ => 0))), (qa7, .inl (d1, 18, .inl (fun _ => 0))), (qa8, .inl (d1, 17, .inl (fun _ => 0))), (qa9, .inl (d1, 17, .inl (fun _ => 0))), (qa10, .inl (d1, 17, .inl (fun _ => 0))), (qa11, .inl (d1, 17, .inl (fun _ => 0))), (qa12, .inl (d1, 18, .inl (fun _ => 0))), (qa13, .inl (d1, 17, .inl (fun _ => 0))), (qa14, .inl (d1, 17, .inl (fun _ => 0))), (qa15, .inl (d1, 17, .inl (fun _ => 0))), (qa16, .inl (d1, 17, .inl (fun _ => 0))), (qa17, .inl (d1, 17, .inl (fun _ => 0))), (qa18, .inl (d1, 17, .inl (fun _ => 0))), (qa19, .inl (d1, 17, .inl (fun _ => 0)))] H := hP
  have hD : va_D A [(h0, .inr (0, [.ref qa1, .ref qa2, .int 0, .int 0, .int 0, .ref qa3, .ref qa4, .ref qa5, .ref qa6, .ref qa7, .ref qa8, .ref qa9, .ref qa10, .ref qa11, .ref qa12, .ref qa13, .ref qa14, .ref qa15, .ref qa16, .ref qa17, .ref qa18, .ref qa19])), (qa1, .inl (d1, 17, .inl (fun _ => 0))), (qa2, .inl (d1, 17, .inl (fun _ => 0))), (qa3, .inl (d1, 17, .inl (fun _ => 0))), (qa4, .inl (d1, 17, .inl (fun _ => 0))), (qa5, .inl (d1, 17, .inl (fun _ => 0))), (qa6, .inl (d1, 18, .inl (fun _ => 0))), (qa7, .inl (d1, 18, .inl (fun _ => 0))), (qa8, .inl (d1, 17, .inl (fun _ => 0))), (qa9, .inl (d1, 17, .inl (fun _ => 0))), (qa10, .inl (d1, 17, .inl (fun _ => 0))), (qa11, .inl (d1, 17, .inl (fun _ => 0))), (qa12, .inl (d1, 18, .inl (fun _ => 0))), (qa13, .inl (d1, 17, .inl (fun _ => 0))), (qa14, .inl (d1, 17, .inl (fun _ => 0))), (qa15, .inl (d1, 17, .inl (fun _ => 0))), (qa16, .inl (d1, 17, .inl (fun _ => 0))), (qa17, .inl (d1, 17, .inl (fun _ => 0))), (qa18, .inl (d1, 17, .inl (fun _ => 0))), (qa19, .inl (d1, 17, .inl (fun _ => 0)))] := hD
  obtain ⟨ad, ead⟩ : ∃ ad : Nat → Nat, ad = fun k => ([qa1, qa2, 0, 0, 0, qa3, qa4, qa5, qa6, qa7, qa8, qa9, qa10, qa11, qa12, qa13, qa14, qa15, qa16, qa17, qa18, qa19] : List Nat).getD k 0 := ⟨_, rfl⟩
  have hP9 : va_P (dC, dI) vwCl (kt_W h0 ad d1 (fun _ _ => 0)) H := by rw [ead]; exact hP
  have hD9 : va_D A (kt_W h0 ad d1 (fun _ _ => 0)) := by rw [ead]; exact hD
  exact W.vret hx hb hr (fun t ht hW => ⟨⟨ad, rfl, trivial, by rw [ht]; exact hP9, va_K.moved hW.alike hK, hD9⟩, hS.F ht⟩) hS.2.2 dX0_init_156
set_option maxHeartbeats 4000000 in
set_option maxRecDepth 100000 in
theorem met_m_init (l : Launch) (dC : Nat → ClassId) (dI : Nat → Nat → Nat) (h0 : Nat) (d1 d2 : ClassId) (sz : Nat) : Met l yX1_init (ws_ yX1_init cX1_init 1 none) ({ frames := 1, cells := 5, slots := 560, locals := 12 } : Room) (va_Pc [.ref h0] (kt_P dC dI (kt_T d1 d2) [(h0, .inr (1, [.null, .null, .null, .null, .null]))] sz)) (kt_Qn (fun ad => kt_M h0 ad d1 d2 (fun _ _ => 0)) dC dI (kt_T d1 d2) (va_A [(h0, .inr (1, [.null, .null, .null, .null, .null]))] sz)) 5 560 (va_A [(h0, .inr (1, [.null, .null, .null, .null, .null]))] sz) := by
  refine Met.ofW (cc := cX1_init) (maxL := 1) (ret := none) (by decide) rfl ?_
  intro p e s m args below meth c s₁ B hml hv
  obtain ⟨rfl, hsz, hP, hK, hD0⟩ := hv
  have hx := B.exec
  have hb := B.bytes
  have hr := B.returns
  have hts := atoms_spec (ws := ws_ yX1_init cX1_init 1 none) B.pre
  have hts : ∀ w ∈ lw_all, w.before _ s = true := fun w h => hts w (List.mem_cons_of_mem _ h)
  have hown : s.vm.findClass RX1 = some m.cls := findClass_of_methodNamed B.named
  have hlocks := B.notSynchronized
  have hin : meth.name = "<init>" := (name_of_methodNamed B.named B.method).1
  subst hsz
  have hD := hD0.self (sz := s.heap.size)
  generalize hAe : va_A [(h0, .inr (1, [.null, .null, .null, .null, .null]))] s.heap.size = A at hD ⊢
  have hA : ∀ q : Nat, s.heap.size ≤ q → A q := fun q h => by rw [← hAe]; exact Or.inr h
  have hS : va_S A s.heap s.heap [] := va_S.rf
  have hl := lv_entry ([.ref h0]) (n := 1) (Nat.le_of_ble_eq_true rfl)
  rw [lg_entry_eq]
  generalize (lg_sl ([.ref h0]) ++ List.replicate (1 - (lg_sl ([.ref h0])).length) Slot.unset).toArray = ls at hl ⊢
  have hl : lv_has ls 1 [(0, .ref h0)] := hl
  have hP : va_P (dC, dI) vwCl [(h0, .inr (1, [.null, .null, .null, .null, .null]))] s.heap := hP
  refine lv_aload_n hx hb dX1_init_0 rfl (lv_at hl 0 rfl) ?_
  refine W.objInit hx hb hown (hts _ q194) (hts _ q26) (hts _ q27) rfl (by rw [hml]; exact hl.1) rfl dX1_init_1 (Nat.le_of_ble_eq_true rfl) (Nat.le_of_ble_eq_true rfl) ?_
  refine W.eq (g2 := F0 m 4 ls []) rfl ?_
  refine lv_aload_n hx hb dX1_init_4 rfl (lv_at hl 0 rfl) ?_
  refine lv_bipush (v := 16) hx hb dX1_init_5 (by decide) ?_
  refine va_newa (atype := .int) (ty := .int) (a0 := (16, .inl (fun _ => 0))) (N' := 16) hx hb (hts _ q95) rfl hK hP hD hS hA (fun _ => rfl) (by decide) (by decide) (by decide) (Nat.le_of_ble_eq_true rfl) (Nat.le_of_ble_eq_true rfl) dX1_init_7 (fun qa1 cA H hKx hP hD hS => ?_)
  have ec := kt_cI hKx
  subst ec
  refine W.widen (k := 1) (n := 16) (Nat.le_refl _) (Nat.le_refl _) ?_
  have hP : va_P (dC, dI) vwCl [(h0, .inr (1, [.null, .null, .null, .null, .null])), (qa1, .inl (d1, 16, .inl (fun _ => 0)))] H := hP
  have hD : va_D A [(h0, .inr (1, [.null, .null, .null, .null, .null])), (qa1, .inl (d1, 16, .inl (fun _ => 0)))] := hD
  refine va_putF (D := (dC, dI)) (ci := 1) (v := .ref qa1) (ty := .array .int) (C := RX1) (T := TX1) (N := 5) hx hb hts in_X1 tyX1 tyX1_ok nmX1 hown hK hP hD hS 0 rfl rfl 0 (by decide) (hts _ q195) (fun _ h9 => h9) rfl hin rfl (by decide +kernel) rfl rfl (Nat.le_of_ble_eq_true rfl) dX1_init_9 (fun H locs hP hD hS => ?_)
  have hP : va_P (dC, dI) vwCl [(h0, .inr (1, [.ref qa1, .null, .null, .null, .null])), (qa1, .inl (d1, 16, .inl (fun _ => 0)))] H := hP
  have hD : va_D A [(h0, .inr (1, [.ref qa1, .null, .null, .null, .null])), (qa1, .inl (d1, 16, .inl (fun _ => 0)))] := hD
  refine lv_aload_n hx hb dX1_init_12 rfl (lv_at hl 0 rfl) ?_
  refine lv_bipush (v := 16) hx hb dX1_init_13 (by decide) ?_
  refine va_newa (atype := .boolean) (ty := .boolean) (a0 := (16, .inl (fun _ => 0))) (N' := 16) hx hb (hts _ q211) rfl hK hP hD hS hA (fun _ => rfl) (by decide) (by decide) (by decide) (Nat.le_of_ble_eq_true rfl) (Nat.le_of_ble_eq_true rfl) dX1_init_15 (fun qa2 cA H hKx hP hD hS => ?_)
  have ec := kt_cZ hKx
  subst ec
  refine W.widen (k := 2) (n := 32) (Nat.le_refl _) (Nat.le_refl _) ?_
  have hP : va_P (dC, dI) vwCl [(h0, .inr (1, [.ref qa1, .null, .null, .null, .null])), (qa1, .inl (d1, 16, .inl (fun _ => 0))), (qa2, .inl (d2, 16, .inl (fun _ => 0)))] H := hP
  have hD : va_D A [(h0, .inr (1, [.ref qa1, .null, .null, .null, .null])), (qa1, .inl (d1, 16, .inl (fun _ => 0))), (qa2, .inl (d2, 16, .inl (fun _ => 0)))] := hD
  refine va_putF (D := (dC, dI)) (ci := 1) (v := .ref qa2) (ty := .array .boolean) (C := RX1) (T := TX1) (N := 5) hx hb hts in_X1 tyX1 tyX1_ok nmX1 hown hK hP hD hS 0 rfl rfl 1 (by decide) (hts _ q196) (fun _ h9 => h9) rfl hin rfl (by decide +kernel) rfl rfl (Nat.le_of_ble_eq_true rfl) dX1_init_17 (fun H locs hP hD hS => ?_)
  have hP : va_P (dC, dI) vwCl [(h0, .inr (1, [.ref qa1, .ref qa2, .null, .null, .null])), (qa1, .inl (d1, 16, .inl (fun _ => 0))), (qa2, .inl (d2, 16, .inl (fun _ => 0)))] H := hP
  have hD : va_D A [(h0, .inr (1, [.ref qa1, .ref qa2, .null, .null, .null])), (qa1, .inl (d1, 16, .inl (fun _ => 0))), (qa2, .inl (d2, 16, .inl (fun _ => 0)))] := hD
  refine lv_aload_n hx hb dX1_init_20 rfl (lv_at hl 0 rfl) ?_
  refine lv_sipush (v := 256) hx hb dX1_init_21 (by decide) ?_
  refine va_newa (atype := .boolean) (ty := .boolean) (a0 := (256, .inl (fun _ => 0))) (N' := 256) hx hb (hts _ q211) rfl hK hP hD hS hA (fun _ => rfl) (by decide) (by decide) (by decide) (Nat.le_of_ble_eq_true rfl) (Nat.le_of_ble_eq_true rfl) dX1_init_24 (fun qa3 cA H hKx hP hD hS => ?_)
  have ec := kt_cZ hKx
  subst ec
  refine W.widen (k := 3) (n := 288) (Nat.le_refl _) (Nat.le_refl _) ?_
  have hP : va_P (dC, dI) vwCl [(h0, .inr (1, [.ref qa1, .ref qa2, .null, .null, .null])), (qa1, .inl (d1, 16, .inl (fun _ => 0))), (qa2, .inl (d2, 16, .inl (fun _ => 0))), (qa3, .inl (d2, 256, .inl (fun _ => 0)))] H := hP
  have hD : va_D A [(h0, .inr (1, [.ref qa1, .ref qa2, .null, .null, .null])), (qa1, .inl (d1, 16, .inl (fun _ => 0))), (qa2, .inl (d2, 16, .inl (fun _ => 0))), (qa3, .inl (d2, 256, .inl (fun _ => 0)))] := hD
  refine va_putF (D := (dC, dI)) (ci := 1) (v := .ref qa3) (ty := .array .boolean) (C := RX1) (T := TX1) (N := 5) hx hb hts in_X1 tyX1 tyX1_ok nmX1 hown hK hP hD hS 0 rfl rfl 2 (by decide) (hts _ q197) (fun _ h9 => h9) rfl hin rfl (by decide +kernel) rfl rfl (Nat.le_of_ble_eq_true rfl) dX1_init_26 (fun H locs hP hD hS => ?_)
  have hP : va_P (dC, dI) vwCl [(h0, .inr (1, [.ref qa1, .ref qa2, .ref qa3, .null, .null])), (qa1, .inl (d1, 16, .inl (fun _ => 0))), (qa2, .inl (d2, 16, .inl (fun _ => 0))), (qa3, .inl (d2, 256, .inl (fun _ => 0)))] H := hP
  have hD : va_D A [(h0, .inr (1, [.ref qa1, .ref qa2, .ref qa3, .null, .null])), (qa1, .inl (d1, 16, .inl (fun _ => 0))), (qa2, .inl (d2, 16, .inl (fun _ => 0))), (qa3, .inl (d2, 256, .inl (fun _ => 0)))] := hD
  refine lv_aload_n hx hb dX1_init_29 rfl (lv_at hl 0 rfl) ?_
  refine lv_bipush (v := 16) hx hb dX1_init_30 (by decide) ?_
  refine va_newa (atype := .boolean) (ty := .boolean) (a0 := (16, .inl (fun _ => 0))) (N' := 16) hx hb (hts _ q211) rfl hK hP hD hS hA (fun _ => rfl) (by decide) (by decide) (by decide) (Nat.le_of_ble_eq_true rfl) (Nat.le_of_ble_eq_true rfl) dX1_init_32 (fun qa4 cA H hKx hP hD hS => ?_)
  have ec := kt_cZ hKx
  subst ec
  refine W.widen (k := 4) (n := 304) (Nat.le_refl _) (Nat.le_refl _) ?_
  have hP : va_P (dC, dI) vwCl [(h0, .inr (1, [.ref qa1, .ref qa2, .ref qa3, .null, .null])), (qa1, .inl (d1, 16, .inl (fun _ => 0))), (qa2, .inl (d2, 16, .inl (fun _ => 0))), (qa3, .inl (d2, 256, .inl (fun _ => 0))), (qa4, .inl (d2, 16, .inl (fun _ => 0)))] H := hP
  have hD : va_D A [(h0, .inr (1, [.ref qa1, .ref qa2, .ref qa3, .null, .null])), (qa1, .inl (d1, 16, .inl (fun _ => 0))), (qa2, .inl (d2, 16, .inl (fun _ => 0))), (qa3, .inl (d2, 256, .inl (fun _ => 0))), (qa4, .inl (d2, 16, .inl (fun _ => 0)))] := hD
  refine va_putF (D := (dC, dI)) (ci := 1) (v := .ref qa4) (ty := .array .boolean) (C := RX1) (T := TX1) (N := 5) hx hb hts in_X1 tyX1 tyX1_ok nmX1 hown hK hP hD hS 0 rfl rfl 3 (by decide) (hts _ q198) (fun _ h9 => h9) rfl hin rfl (by decide +kernel) rfl rfl (Nat.le_of_ble_eq_true rfl) dX1_init_34 (fun H locs hP hD hS => ?_)
  have hP : va_P (dC, dI) vwCl [(h0, .inr (1, [.ref qa1, .ref qa2, .ref qa3, .ref qa4, .null])), (qa1, .inl (d1, 16, .inl (fun _ => 0))), (qa2, .inl (d2, 16, .inl (fun _ => 0))), (qa3, .inl (d2, 256, .inl (fun _ => 0))), (qa4, .inl (d2, 16, .inl (fun _ => 0)))] H := hP
  have hD : va_D A [(h0, .inr (1, [.ref qa1, .ref qa2, .ref qa3, .ref qa4, .null])), (qa1, .inl (d1, 16, .inl (fun _ => 0))), (qa2, .inl (d2, 16, .inl (fun _ => 0))), (qa3, .inl (d2, 256, .inl (fun _ => 0))), (qa4, .inl (d2, 16, .inl (fun _ => 0)))] := hD
  refine lv_aload_n hx hb dX1_init_37 rfl (lv_at hl 0 rfl) ?_
  refine lv_sipush (v := 256) hx hb dX1_init_38 (by decide) ?_
  refine va_newa (atype := .boolean) (ty := .boolean) (a0 := (256, .inl (fun _ => 0))) (N' := 256) hx hb (hts _ q211) rfl hK hP hD hS hA (fun _ => rfl) (by decide) (by decide) (by decide) (Nat.le_of_ble_eq_true rfl) (Nat.le_of_ble_eq_true rfl) dX1_init_41 (fun qa5 cA H hKx hP hD hS => ?_)
  have ec := kt_cZ hKx
  subst ec
  refine W.widen (k := 5) (n := 560) (Nat.le_refl _) (Nat.le_refl _) ?_
  have hP : va_P (dC, dI) vwCl [(h0, .inr (1, [.ref qa1, .ref qa2, .ref qa3, .ref qa4, .null])), (qa1, .inl (d1, 16, .inl (fun _ => 0))), (qa2, .inl (d2, 16, .inl (fun _ => 0))), (qa3, .inl (d2, 256, .inl (fun _ => 0))), (qa4, .inl (d2, 16, .inl (fun _ => 0))), (qa5, .inl (d2, 256, .inl (fun _ => 0)))] H := hP
  have hD : va_D A [(h0, .inr (1, [.ref qa1, .ref qa2, .ref qa3, .ref qa4, .null])), (qa1, .inl (d1, 16, .inl (fun _ => 0))), (qa2, .inl (d2, 16, .inl (fun _ => 0))), (qa3, .inl (d2, 256, .inl (fun _ => 0))), (qa4, .inl (d2, 16, .inl (fun _ => 0))), (qa5, .inl (d2, 256, .inl (fun _ => 0)))] := hD
  refine va_putF (D := (dC, dI)) (ci := 1) (v := .ref qa5) (ty := .array .boolean) (C := RX1) (T := TX1) (N := 5) hx hb hts in_X1 tyX1 tyX1_ok nmX1 hown hK hP hD hS 0 rfl rfl 4 (by decide) (hts _ q199) (fun _ h9 => h9) rfl hin rfl (by decide +kernel) rfl rfl (Nat.le_of_ble_eq_true rfl) dX1_init_43 (fun H locs hP hD hS => ?_)
  have hP : va_P (dC, dI) vwCl [(h0, .inr (1, [.ref qa1, .ref qa2, .ref qa3, .ref qa4, .ref qa5])), (qa1, .inl (d1, 16, .inl (fun _ => 0))), (qa2, .inl (d2, 16, .inl (fun _ => 0))), (qa3, .inl (d2, 256, .inl (fun _ => 0))), (qa4, .inl (d2, 16, .inl (fun _ => 0))), (qa5, .inl (d2, 256, .inl (fun _ => 0)))] H := hP
  have hD : va_D A [(h0, .inr (1, [.ref qa1, .ref qa2, .ref qa3, .ref qa4, .ref qa5])), (qa1, .inl (d1, 16, .inl (fun _ => 0))), (qa2, .inl (d2, 16, .inl (fun _ => 0))), (qa3, .inl (d2, 256, .inl (fun _ => 0))), (qa4, .inl (d2, 16, .inl (fun _ => 0))), (qa5, .inl (d2, 256, .inl (fun _ => 0)))] := hD
  obtain ⟨ad, ead⟩ : ∃ ad : Nat → Nat, ad = fun k => ([qa1, qa2, qa3, qa4, qa5] : List Nat).getD k 0 := ⟨_, rfl⟩
  have hP9 : va_P (dC, dI) vwCl (kt_M h0 ad d1 d2 (fun _ _ => 0)) H := by rw [ead]; exact hP
  have hD9 : va_D A (kt_M h0 ad d1 d2 (fun _ _ => 0)) := by rw [ead]; exact hD
  exact W.vret hx hb hr (fun t ht hW => ⟨⟨ad, rfl, trivial, by rw [ht]; exact hP9, va_K.moved hW.alike hK, hD9⟩, hS.F ht⟩) hS.2.2 dX1_init_46
end
section
/-! THE CLAIM OUT OF ONE WALK OF THE LAW'S BODY. Your part is whole_start (and what it stands on); all else here is the same for every law, but numbers. -/
def R_law : String := "KeepTreeLaw"
def lw_P (b : Addr) (xs : List Int32) (args : Array Value) (s : State) : Prop := args = #[.ref b] ∧ s.IntsAt b xs ∧ xs.length ≤ 192 ∧ (Jvm.Cond.and given_1 narrow_1).before args s = true
def lw_Q (_ : Array Value) (s : State) (o : Outcome) (t : State) : Prop := o = .returned (some (.int 1)) ∧ Framed s o t [] 600000 7290000
def lw_Z (below : List Frame) (a : Array Value) (s : State) : State → Prop := fun t => ∃ o, t.status = .running ∧ Ended t below o ∧ lw_Q a s o t
/-- the law's own end, with 1 on the stack, nothing written that was there before, its room as the claim has it -/
theorem lw_ret {p : Program} {l : Launch} {e : Env} {s : State} {m : MethodId} {below : List Frame} {meth : Method} {c : Code} {b : Nat} (hx : p.tables.exec = Jvm.exec) (hb : c.code = code) (hr : meth.sig.returnType = ret) (hlocks : meth.locks = false) {pc : Nat} {H : Heap} {ls : Array Slot} (hdg : decode code pc = .ok (.ireturn, 1)) : W p l e room_1 s m #[Value.ref b] below meth c H [] 600000 7290000 (lw_Z below #[Value.ref b] s) (F0 m pc ls [.int 1]) := by
  intro T hT X
  obtain ⟨fs, hret, hrun, hended, hW, hframe⟩ := X.leave (v := some (.int 1)) (hlocks := hlocks) (fun h => by rw [hr] at h; cases h)
  have hmeth' : T.vm.method? m = some meth := X.method'
  refine ⟨T.setFrames fs, ?_, .returned (some (.int 1)), hrun, hended, rfl, ⟨_, rfl⟩, hW, hframe⟩
  jvm_step X.here [X.here.top, hx, hb, hdg, hmeth', hr, ret, narrow_b1]
  (try refine ⟨rfl, ?_⟩); (try refine ⟨rfl, ?_⟩)
  first | (intro acts; rw [hret _ acts rfl rfl rfl]) | rw [hret _ _ rfl rfl rfl]
  exact Steps.refl _
/-- what holds at the law's entry: the machine, the code, the tables' words (any of lw_tbl by 'hts w (by decide +kernel)'), the script of L ints xs at the cell b, what the Statement gives of the start (any of its parts by flat_of_before) -/
def lw_At (p : Program) (s : State) (m : MethodId) (meth : Method) (c : Code) (b L : Nat) (xs : Nat → Int32) : Prop :=
  p.tables.exec = Jvm.exec ∧ c.code = code ∧ meth.sig.returnType = ret ∧ c.maxLocals = 4 ∧ s.vm.findClass R_law = some m.cls ∧ (∀ w ∈ lw_tbl, w.before #[Value.ref b] s = true) ∧ va_X b L xs s s.heap ∧ b < s.heap.size ∧ meth.locks = false ∧ (Jvm.Cond.and given_1 narrow_1).before #[Value.ref b] s = true
end
section
/-! THE LAW's walk: the two worlds side by side -/
set_option maxRecDepth 100000
abbrev kt_Y (h1 : Nat) (ad1 : Nat → Nat) (h2 : Nat) (ad2 : Nat → Nat) (d1 d2 : ClassId) (σ τ : KSt) : va_W := kt_W h1 ad1 d1 σ ++ kt_M h2 ad2 d1 d2 τ
section
variable {p : Program} {l : Launch} {e : Env} {R : Room} {s : State} {m : MethodId} {args : Array Value} {below : List Frame} {meth : Method} {c : Code} {H : Heap} {locs : List Loc} {cells slots : Nat} {Q : State → Prop} {cc : ByteArray} {pc : Nat} {ls : Array Slot} {rest : List Value}
variable {dC : Nat → ClassId} {dI : Nat → Nat → Nat} {d1 d2 : ClassId} {A : Nat → Prop} {σ τ : KSt} {h1 h2 : Nat} {ad1 ad2 : Nat → Nat}
variable {own C : String} {nL n index maxL : Nat} {y : MethodName} {bytes : ByteArray} {ret : Option FieldType} {ws : List Cond} {rm : Room} {As st0 : List Value}
theorem kt_lawk {a : Int32 × KSt} {rt : Option FieldType} (K : kt_E own p s m meth c cc nL rt args) (hK : va_K (dC, dI) vwCl (kt_T d1 d2) s) (hA : ∀ q : Nat, s.heap.size ≤ q → A q) (hM : kt_Ci l y ws rm h1 As dC dI (kt_T d1 d2) (kt_W h1 ad1 d1) σ a) (cw : CallW R s args own C index y bytes maxL ret ws rm 0 0 n) (hC : C = RX0) (hn : As.length = n) (hsz : ls.size = nL) (hst : st0 = As.reverse ++ .ref h1 :: rest) (hW : (rest.map fun v => v.category).sum ≤ 8) (hdg : decode cc pc = .ok (.invokevirtual index, 3)) (hf : cells ≤ R.cells ∧ slots ≤ R.slots) (X : kt_X dC dI (kt_Y h1 ad1 h2 ad2 d1 d2 σ τ) A s H locs)
    (kk : ∀ (H1 : Heap) (locs1 : List Loc), kt_X dC dI (kt_Y h1 ad1 h2 ad2 d1 d2 a.2 τ) A s H1 locs1 → W p l e R s m args below meth c H1 locs1 cells slots Q (F0 m (pc + 3) ls (.int a.1 :: rest))) : W p l e R s m args below meth c H locs cells slots Q (F0 m pc ls st0) := by
  obtain ⟨hx, hb, hml, hown, hts, hr, hlocks⟩ := K
  obtain ⟨hP, hD, hS⟩ := X
  have hPc : va_P (dC, dI) vwCl (kt_W h1 ad1 d1 σ) H := hP.sub [0, 1, 2, 3, 4, 5, 6, 7, 8, 9, 10, 11, 12, 13, 14, 15, 16, 17, 18, 19] rfl
  have hDc : va_D A (kt_W h1 ad1 d1 σ) := hD.sub [0, 1, 2, 3, 4, 5, 6, 7, 8, 9, 10, 11, 12, 13, 14, 15, 16, 17, 18, 19] (by decide) rfl
  have hFc := va_free (wc := kt_W h1 ad1 d1 σ) hD hS hA [0, 1, 2, 3, 4, 5, 6, 7, 8, 9, 10, 11, 12, 13, 14, 15, 16, 17, 18, 19] rfl
  have hrc : ∃ cell : Cell, H[h1]? = some cell ∧ cell.vm.isStatics = false ∧ s.vm.findClass C = some cell.cls := by
    rw [hC]
    exact va_recv hK hPc (ci := 0) (q0 := 0) rfl kt_W0
  refine va_calli (va_runV (As := As) (rest := rest) ⟨hx, hb, hml, hown, hts⟩ (hM H.size) cw ⟨kt_blind, hrc, fun U hU hW => ⟨rfl, by rw [hU], by rw [hU]; exact hPc, va_K.moved hW.alike hK, hDc.weaken (fun _ _ _ _ => trivial)⟩⟩ rfl hn hsz hst (lv_room hW) hdg hf) hS (fun q _ h => hFc q h) hFc (fun r u t H1 locs1 ht hvm hw hB hz hk hS1 => ?_)
  obtain ⟨rfl, rfl⟩ := hw
  obtain ⟨hP1, hK1, hD1⟩ := hB
  rw [ht] at hP1
  obtain ⟨hP2, hD2⟩ := va_join (wr := kt_M h2 ad2 d1 d2 τ) (w1 := kt_W h1 ad1 d1 a.2) hP hD [0, 1, 2, 3, 4, 5, 6, 7, 8, 9, 10, 11, 12, 13, 14, 15, 16, 17, 18, 19] [20, 21, 22, 23, 24, 25] rfl rfl (by decide) (by decide) hk hFc hP1 hD1
  exact kk H1 locs1 ⟨hP2.sub [6, 7, 8, 9, 10, 11, 12, 13, 14, 15, 16, 17, 18, 19, 20, 21, 22, 23, 24, 25, 0, 1, 2, 3, 4, 5] rfl, hD2.sub [6, 7, 8, 9, 10, 11, 12, 13, 14, 15, 16, 17, 18, 19, 20, 21, 22, 23, 24, 25, 0, 1, 2, 3, 4, 5] (by decide) rfl, hS1⟩
theorem kt_lawm {a : Int32 × KSt} {rt : Option FieldType} (K : kt_E own p s m meth c cc nL rt args) (hK : va_K (dC, dI) vwCl (kt_T d1 d2) s) (hA : ∀ q : Nat, s.heap.size ≤ q → A q) (hM : kt_Ci l y ws rm h2 As dC dI (kt_T d1 d2) (kt_M h2 ad2 d1 d2) τ a) (cw : CallW R s args own C index y bytes maxL ret ws rm 0 0 n) (hC : C = RX1) (hn : As.length = n) (hsz : ls.size = nL) (hst : st0 = As.reverse ++ .ref h2 :: rest) (hW : (rest.map fun v => v.category).sum ≤ 8) (hdg : decode cc pc = .ok (.invokevirtual index, 3)) (hf : cells ≤ R.cells ∧ slots ≤ R.slots) (X : kt_X dC dI (kt_Y h1 ad1 h2 ad2 d1 d2 σ τ) A s H locs)
    (kk : ∀ (H1 : Heap) (locs1 : List Loc), kt_X dC dI (kt_Y h1 ad1 h2 ad2 d1 d2 σ a.2) A s H1 locs1 → W p l e R s m args below meth c H1 locs1 cells slots Q (F0 m (pc + 3) ls (.int a.1 :: rest))) : W p l e R s m args below meth c H locs cells slots Q (F0 m pc ls st0) := by
  obtain ⟨hx, hb, hml, hown, hts, hr, hlocks⟩ := K
  obtain ⟨hP, hD, hS⟩ := X
  have hPc : va_P (dC, dI) vwCl (kt_M h2 ad2 d1 d2 τ) H := hP.sub [20, 21, 22, 23, 24, 25] rfl
  have hDc : va_D A (kt_M h2 ad2 d1 d2 τ) := hD.sub [20, 21, 22, 23, 24, 25] (by decide) rfl
  have hFc := va_free (wc := kt_M h2 ad2 d1 d2 τ) hD hS hA [20, 21, 22, 23, 24, 25] rfl
  have hrc : ∃ cell : Cell, H[h2]? = some cell ∧ cell.vm.isStatics = false ∧ s.vm.findClass C = some cell.cls := by
    rw [hC]
    exact va_recv hK hPc (ci := 1) (q0 := 0) rfl kt_M0
  refine va_calli (va_runV (As := As) (rest := rest) ⟨hx, hb, hml, hown, hts⟩ (hM H.size) cw ⟨kt_blind, hrc, fun U hU hW => ⟨rfl, by rw [hU], by rw [hU]; exact hPc, va_K.moved hW.alike hK, hDc.weaken (fun _ _ _ _ => trivial)⟩⟩ rfl hn hsz hst (lv_room hW) hdg hf) hS (fun q _ h => hFc q h) hFc (fun r u t H1 locs1 ht hvm hw hB hz hk hS1 => ?_)
  obtain ⟨rfl, rfl⟩ := hw
  obtain ⟨hP1, hK1, hD1⟩ := hB
  rw [ht] at hP1
  obtain ⟨hP2, hD2⟩ := va_join (wr := kt_W h1 ad1 d1 σ) (w1 := kt_M h2 ad2 d1 d2 a.2) hP hD [20, 21, 22, 23, 24, 25] [0, 1, 2, 3, 4, 5, 6, 7, 8, 9, 10, 11, 12, 13, 14, 15, 16, 17, 18, 19] rfl rfl (by decide) (by decide) hk hFc hP1 hD1
  exact kk H1 locs1 ⟨hP2, hD2, hS1⟩
end
theorem kt_law_in {i L : Nat} (hL : L ≤ 192) (hi : i ≤ 195) (h : ¬ (Int32.ofNat L - 3 < nI i)) : i + 3 ≤ L := by
  refine Classical.byContradiction fun hc => h ?_
  rw [Int32.lt_iff_toInt_lt, show Int32.ofNat L - 3 = nI L - nI 3 from rfl, pk_sub_toInt (by omega) (by omega), nI_toInt (by omega)]
  omega
theorem kt_law_ix {i L : Nat} (hi : i + 3 ≤ L) (hL : L ≤ 192) : vp_in (nI i) L ∧ vp_in (nI i + 1) L ∧ vp_in (nI i + 2) L := by
  refine ⟨vp_in_nI (by omega) (by omega), ?_, ?_⟩
  · rw [show nI i + 1 = nI (i + 1) from nI_add i 1]; exact vp_in_nI (by omega) (by omega)
  · rw [show nI i + 2 = nI (i + 2) from nI_add i 2]; exact vp_in_nI (by omega) (by omega)
set_option maxHeartbeats 4000000 in
set_option maxRecDepth 100000 in
theorem kt_case0 {p : Program} {l : Launch} {e : Env} {s : State} {m : MethodId} {args : Array Value} {below : List Frame} {meth : Method} {c : Code} {Q : State → Prop} {dC : Nat → ClassId} {dI : Nat → Nat → Nat} {d1 d2 : ClassId} {A : Nat → Prop} {h1 h2 b L : Nat} {ad1 ad2 : Nat → Nat} {xs : Nat → Int32} (N : Nat) (Rl : KSt → KSt → Prop) (hop : kt_Ops N Rl) (hL : L ≤ 192) (K : kt_E R_law p s m meth c cL_law 4 ret args) (hK : va_K (dC, dI) vwCl (kt_T d1 d2) s) (hA : ∀ q : Nat, s.heap.size ≤ q → A q) (hX : va_X b L xs s s.heap) (hbl : b < s.heap.size) (hbA : ¬ A b) {i : Nat} (hi : i + 3 ≤ L) (σ τ : KSt) (hR : Rl σ τ) (H : Heap) (locs : List Loc) (X : kt_X dC dI (kt_Y h1 ad1 h2 ad2 d1 d2 σ τ) A s H locs) (ls : Array Slot) (hl : lv_has ls 4 [(0, .ref b), (1, .ref h1), (2, .ref h2), (3, .int (nI i))]) (kE : ∀ (σ τ : KSt), Rl σ τ → ∀ (H : Heap) (locs : List Loc), kt_X dC dI (kt_Y h1 ad1 h2 ad2 d1 d2 σ τ) A s H locs → ∀ (ls : Array Slot), lv_has ls 4 [(0, .ref b), (1, .ref h1), (2, .ref h2), (3, .int (nI i))] → W p l e room_1 s m args below meth c H locs 26 913 Q (F0 m 391 ls [])) : W p l e room_1 s m args below meth c H locs 26 913 Q (F0 m 92 ls []) := by
  obtain ⟨hx, hb, hml, hown, hts, hr, hlocks⟩ := id K
  obtain ⟨hi0, hi1, hi2⟩ := kt_law_ix hi hL
  refine lv_aload_n hx hb dL_law_92 rfl (lv_at hl 1 rfl) ?_
  refine lv_aload_n hx hb dL_law_93 rfl (lv_at hl 0 rfl) ?_
  refine lv_iload_n hx hb dL_law_94 rfl (lv_at hl 3 rfl) ?_
  refine lv_iconst (v := 1) hx hb dL_law_95 (by decide) ?_
  refine lv_iadd hx hb dL_law_96 ?_
  refine va_sld hx hb hX hbl hbA X.2.2 hi1 dL_law_97 ?_
  refine lv_aload_n hx hb dL_law_98 rfl (lv_at hl 0 rfl) ?_
  refine lv_iload_n hx hb dL_law_99 rfl (lv_at hl 3 rfl) ?_
  refine lv_iconst (v := 2) hx hb dL_law_100 (by decide) ?_
  refine lv_iadd hx hb dL_law_101 ?_
  refine va_sld hx hb hX hbl hbA X.2.2 hi2 dL_law_102 ?_
  obtain ⟨a, b2, ea, eb, eab, hR⟩ := (hop σ τ hR).1 (xs (((nI i) + 1)).toNatClampNeg) (xs (((nI i) + 2)).toNatClampNeg)
  refine kt_lawk (As := [.int (xs (((nI i) + 1)).toNatClampNeg), .int (xs (((nI i) + 2)).toNatClampNeg)]) (rest := []) K hK hA (met_k_setSize l dC dI h1 ad1 d1 d2 σ (xs (((nI i) + 1)).toNatClampNeg) (xs (((nI i) + 2)).toNatClampNeg) a ea) (cwV 2 hts (lw_V q96 q97 q98 q18 q99) rfl rfl rfl (by decide +kernel) ⟨Nat.le_of_ble_eq_true rfl, Nat.le_of_ble_eq_true rfl⟩) rfl rfl hl.1 rfl (Nat.le_of_ble_eq_true rfl) dL_law_103 ⟨Nat.le_of_ble_eq_true rfl, Nat.le_of_ble_eq_true rfl⟩ X (fun H locs X => ?_)
  refine lv_aload_n hx hb dL_law_106 rfl (lv_at hl 2 rfl) ?_
  refine lv_aload_n hx hb dL_law_107 rfl (lv_at hl 0 rfl) ?_
  refine lv_iload_n hx hb dL_law_108 rfl (lv_at hl 3 rfl) ?_
  refine lv_iconst (v := 1) hx hb dL_law_109 (by decide) ?_
  refine lv_iadd hx hb dL_law_110 ?_
  refine va_sld hx hb hX hbl hbA X.2.2 hi1 dL_law_111 ?_
  refine lv_aload_n hx hb dL_law_112 rfl (lv_at hl 0 rfl) ?_
  refine lv_iload_n hx hb dL_law_113 rfl (lv_at hl 3 rfl) ?_
  refine lv_iconst (v := 2) hx hb dL_law_114 (by decide) ?_
  refine lv_iadd hx hb dL_law_115 ?_
  refine va_sld hx hb hX hbl hbA X.2.2 hi2 dL_law_116 ?_
  refine kt_lawm (As := [.int (xs (((nI i) + 1)).toNatClampNeg), .int (xs (((nI i) + 2)).toNatClampNeg)]) (rest := [.int a.1]) K hK hA (met_m_setSize l dC dI h2 ad2 d1 d2 τ (xs (((nI i) + 1)).toNatClampNeg) (xs (((nI i) + 2)).toNatClampNeg) b2 eb) (cwV 2 hts (lw_V q212 q213 q214 q19 q215) rfl rfl rfl (by decide +kernel) ⟨Nat.le_of_ble_eq_true rfl, Nat.le_of_ble_eq_true rfl⟩) rfl rfl hl.1 rfl (Nat.le_of_ble_eq_true rfl) dL_law_117 ⟨Nat.le_of_ble_eq_true rfl, Nat.le_of_ble_eq_true rfl⟩ X (fun H locs X => ?_)
  refine lv_icmp_eq (tgt := 391) hx hb dL_law_120 (by decide) (fun _ => ?_) (fun c2 => absurd eab c2)
  exact kE _ _ hR H locs X ls hl
set_option maxHeartbeats 4000000 in
set_option maxRecDepth 100000 in
theorem kt_case1 {p : Program} {l : Launch} {e : Env} {s : State} {m : MethodId} {args : Array Value} {below : List Frame} {meth : Method} {c : Code} {Q : State → Prop} {dC : Nat → ClassId} {dI : Nat → Nat → Nat} {d1 d2 : ClassId} {A : Nat → Prop} {h1 h2 b L : Nat} {ad1 ad2 : Nat → Nat} {xs : Nat → Int32} (N : Nat) (Rl : KSt → KSt → Prop) (hop : kt_Ops N Rl) (hL : L ≤ 192) (K : kt_E R_law p s m meth c cL_law 4 ret args) (hK : va_K (dC, dI) vwCl (kt_T d1 d2) s) (hA : ∀ q : Nat, s.heap.size ≤ q → A q) (hX : va_X b L xs s s.heap) (hbl : b < s.heap.size) (hbA : ¬ A b) {i : Nat} (hi : i + 3 ≤ L) (σ τ : KSt) (hR : Rl σ τ) (H : Heap) (locs : List Loc) (X : kt_X dC dI (kt_Y h1 ad1 h2 ad2 d1 d2 σ τ) A s H locs) (ls : Array Slot) (hl : lv_has ls 4 [(0, .ref b), (1, .ref h1), (2, .ref h2), (3, .int (nI i))]) (kE : ∀ (σ τ : KSt), Rl σ τ → ∀ (H : Heap) (locs : List Loc), kt_X dC dI (kt_Y h1 ad1 h2 ad2 d1 d2 σ τ) A s H locs → ∀ (ls : Array Slot), lv_has ls 4 [(0, .ref b), (1, .ref h1), (2, .ref h2), (3, .int (nI i))] → W p l e room_1 s m args below meth c H locs 26 913 Q (F0 m 391 ls [])) : W p l e room_1 s m args below meth c H locs 26 913 Q (F0 m 125 ls []) := by
  obtain ⟨hx, hb, hml, hown, hts, hr, hlocks⟩ := id K
  obtain ⟨hi0, hi1, hi2⟩ := kt_law_ix hi hL
  refine lv_aload_n hx hb dL_law_125 rfl (lv_at hl 1 rfl) ?_
  refine lv_aload_n hx hb dL_law_126 rfl (lv_at hl 0 rfl) ?_
  refine lv_iload_n hx hb dL_law_127 rfl (lv_at hl 3 rfl) ?_
  refine lv_iconst (v := 1) hx hb dL_law_128 (by decide) ?_
  refine lv_iadd hx hb dL_law_129 ?_
  refine va_sld hx hb hX hbl hbA X.2.2 hi1 dL_law_130 ?_
  refine lv_aload_n hx hb dL_law_131 rfl (lv_at hl 0 rfl) ?_
  refine lv_iload_n hx hb dL_law_132 rfl (lv_at hl 3 rfl) ?_
  refine lv_iconst (v := 2) hx hb dL_law_133 (by decide) ?_
  refine lv_iadd hx hb dL_law_134 ?_
  refine va_sld hx hb hX hbl hbA X.2.2 hi2 dL_law_135 ?_
  obtain ⟨a, b2, ea, eb, eab, hR⟩ := (hop σ τ hR).2.1 (xs (((nI i) + 1)).toNatClampNeg) (xs (((nI i) + 2)).toNatClampNeg)
  refine kt_lawk (As := [.int (xs (((nI i) + 1)).toNatClampNeg), .int (xs (((nI i) + 2)).toNatClampNeg)]) (rest := []) K hK hA (met_k_flip l dC dI h1 ad1 d1 d2 σ (xs (((nI i) + 1)).toNatClampNeg) (xs (((nI i) + 2)).toNatClampNeg) a ea) (cwV 2 hts (lw_V q103 q104 q105 q18 q106) rfl rfl rfl (by decide +kernel) ⟨Nat.le_of_ble_eq_true rfl, Nat.le_of_ble_eq_true rfl⟩) rfl rfl hl.1 rfl (Nat.le_of_ble_eq_true rfl) dL_law_136 ⟨Nat.le_of_ble_eq_true rfl, Nat.le_of_ble_eq_true rfl⟩ X (fun H locs X => ?_)
  refine lv_aload_n hx hb dL_law_139 rfl (lv_at hl 2 rfl) ?_
  refine lv_aload_n hx hb dL_law_140 rfl (lv_at hl 0 rfl) ?_
  refine lv_iload_n hx hb dL_law_141 rfl (lv_at hl 3 rfl) ?_
  refine lv_iconst (v := 1) hx hb dL_law_142 (by decide) ?_
  refine lv_iadd hx hb dL_law_143 ?_
  refine va_sld hx hb hX hbl hbA X.2.2 hi1 dL_law_144 ?_
  refine lv_aload_n hx hb dL_law_145 rfl (lv_at hl 0 rfl) ?_
  refine lv_iload_n hx hb dL_law_146 rfl (lv_at hl 3 rfl) ?_
  refine lv_iconst (v := 2) hx hb dL_law_147 (by decide) ?_
  refine lv_iadd hx hb dL_law_148 ?_
  refine va_sld hx hb hX hbl hbA X.2.2 hi2 dL_law_149 ?_
  refine kt_lawm (As := [.int (xs (((nI i) + 1)).toNatClampNeg), .int (xs (((nI i) + 2)).toNatClampNeg)]) (rest := [.int a.1]) K hK hA (met_m_flip l dC dI h2 ad2 d1 d2 τ (xs (((nI i) + 1)).toNatClampNeg) (xs (((nI i) + 2)).toNatClampNeg) b2 eb) (cwV 2 hts (lw_V q219 q220 q221 q19 q222) rfl rfl rfl (by decide +kernel) ⟨Nat.le_of_ble_eq_true rfl, Nat.le_of_ble_eq_true rfl⟩) rfl rfl hl.1 rfl (Nat.le_of_ble_eq_true rfl) dL_law_150 ⟨Nat.le_of_ble_eq_true rfl, Nat.le_of_ble_eq_true rfl⟩ X (fun H locs X => ?_)
  refine lv_icmp_eq (tgt := 391) hx hb dL_law_153 (by decide) (fun _ => ?_) (fun c2 => absurd eab c2)
  exact kE _ _ hR H locs X ls hl
set_option maxHeartbeats 4000000 in
set_option maxRecDepth 100000 in
theorem kt_case2 {p : Program} {l : Launch} {e : Env} {s : State} {m : MethodId} {args : Array Value} {below : List Frame} {meth : Method} {c : Code} {Q : State → Prop} {dC : Nat → ClassId} {dI : Nat → Nat → Nat} {d1 d2 : ClassId} {A : Nat → Prop} {h1 h2 b L : Nat} {ad1 ad2 : Nat → Nat} {xs : Nat → Int32} (N : Nat) (Rl : KSt → KSt → Prop) (hop : kt_Ops N Rl) (hL : L ≤ 192) (K : kt_E R_law p s m meth c cL_law 4 ret args) (hK : va_K (dC, dI) vwCl (kt_T d1 d2) s) (hA : ∀ q : Nat, s.heap.size ≤ q → A q) (hX : va_X b L xs s s.heap) (hbl : b < s.heap.size) (hbA : ¬ A b) {i : Nat} (hi : i + 3 ≤ L) (σ τ : KSt) (hR : Rl σ τ) (H : Heap) (locs : List Loc) (X : kt_X dC dI (kt_Y h1 ad1 h2 ad2 d1 d2 σ τ) A s H locs) (ls : Array Slot) (hl : lv_has ls 4 [(0, .ref b), (1, .ref h1), (2, .ref h2), (3, .int (nI i))]) (kE : ∀ (σ τ : KSt), Rl σ τ → ∀ (H : Heap) (locs : List Loc), kt_X dC dI (kt_Y h1 ad1 h2 ad2 d1 d2 σ τ) A s H locs → ∀ (ls : Array Slot), lv_has ls 4 [(0, .ref b), (1, .ref h1), (2, .ref h2), (3, .int (nI i))] → W p l e room_1 s m args below meth c H locs 26 913 Q (F0 m 391 ls [])) : W p l e room_1 s m args below meth c H locs 26 913 Q (F0 m 158 ls []) := by
  obtain ⟨hx, hb, hml, hown, hts, hr, hlocks⟩ := id K
  obtain ⟨hi0, hi1, hi2⟩ := kt_law_ix hi hL
  refine lv_aload_n hx hb dL_law_158 rfl (lv_at hl 1 rfl) ?_
  refine lv_aload_n hx hb dL_law_159 rfl (lv_at hl 0 rfl) ?_
  refine lv_iload_n hx hb dL_law_160 rfl (lv_at hl 3 rfl) ?_
  refine lv_iconst (v := 1) hx hb dL_law_161 (by decide) ?_
  refine lv_iadd hx hb dL_law_162 ?_
  refine va_sld hx hb hX hbl hbA X.2.2 hi1 dL_law_163 ?_
  refine lv_aload_n hx hb dL_law_164 rfl (lv_at hl 0 rfl) ?_
  refine lv_iload_n hx hb dL_law_165 rfl (lv_at hl 3 rfl) ?_
  refine lv_iconst (v := 2) hx hb dL_law_166 (by decide) ?_
  refine lv_iadd hx hb dL_law_167 ?_
  refine va_sld hx hb hX hbl hbA X.2.2 hi2 dL_law_168 ?_
  refine lv_if_eq (tgt := 176) hx hb dL_law_169 (by decide) (fun cz => ?_) (fun cz => ?_)
  · skip
    refine lv_iconst (v := 0) hx hb dL_law_176 (by decide) ?_
    obtain ⟨a, b2, ea, eb, eab, hR⟩ := (hop σ τ hR).2.2.1 (xs (((nI i) + 1)).toNatClampNeg) 0 (Or.inl rfl)
    refine kt_lawk (As := [.int (xs (((nI i) + 1)).toNatClampNeg), .int 0]) (rest := []) K hK hA (met_k_setRoot l dC dI h1 ad1 d1 d2 σ (xs (((nI i) + 1)).toNatClampNeg) 0 a ea) (cwV 2 hts (lw_V q107 q108 q109 q18 q110) rfl rfl rfl (by decide +kernel) ⟨Nat.le_of_ble_eq_true rfl, Nat.le_of_ble_eq_true rfl⟩) rfl rfl hl.1 rfl (Nat.le_of_ble_eq_true rfl) dL_law_177 ⟨Nat.le_of_ble_eq_true rfl, Nat.le_of_ble_eq_true rfl⟩ X (fun H locs X => ?_)
    refine lv_aload_n hx hb dL_law_180 rfl (lv_at hl 2 rfl) ?_
    refine lv_aload_n hx hb dL_law_181 rfl (lv_at hl 0 rfl) ?_
    refine lv_iload_n hx hb dL_law_182 rfl (lv_at hl 3 rfl) ?_
    refine lv_iconst (v := 1) hx hb dL_law_183 (by decide) ?_
    refine lv_iadd hx hb dL_law_184 ?_
    refine va_sld hx hb hX hbl hbA X.2.2 hi1 dL_law_185 ?_
    refine lv_aload_n hx hb dL_law_186 rfl (lv_at hl 0 rfl) ?_
    refine lv_iload_n hx hb dL_law_187 rfl (lv_at hl 3 rfl) ?_
    refine lv_iconst (v := 2) hx hb dL_law_188 (by decide) ?_
    refine lv_iadd hx hb dL_law_189 ?_
    refine va_sld hx hb hX hbl hbA X.2.2 hi2 dL_law_190 ?_
    refine lv_if_eq (tgt := 198) hx hb dL_law_191 (by decide) (fun _ => ?_) (fun c2 => absurd cz c2)
    refine lv_iconst (v := 0) hx hb dL_law_198 (by decide) ?_
    refine kt_lawm (As := [.int (xs (((nI i) + 1)).toNatClampNeg), .int 0]) (rest := [.int a.1]) K hK hA (met_m_setRoot l dC dI h2 ad2 d1 d2 τ (xs (((nI i) + 1)).toNatClampNeg) 0 b2 eb) (cwV 2 hts (lw_V q223 q224 q225 q19 q226) rfl rfl rfl (by decide +kernel) ⟨Nat.le_of_ble_eq_true rfl, Nat.le_of_ble_eq_true rfl⟩) rfl rfl hl.1 rfl (Nat.le_of_ble_eq_true rfl) dL_law_199 ⟨Nat.le_of_ble_eq_true rfl, Nat.le_of_ble_eq_true rfl⟩ X (fun H locs X => ?_)
    refine lv_icmp_eq (tgt := 391) hx hb dL_law_202 (by decide) (fun _ => ?_) (fun c2 => absurd eab c2)
    exact kE _ _ hR H locs X ls hl
  · skip
    refine lv_iconst (v := 1) hx hb dL_law_172 (by decide) ?_
    refine lv_goto (tgt := 177) hx hb dL_law_173 (by decide) ?_
    obtain ⟨a, b2, ea, eb, eab, hR⟩ := (hop σ τ hR).2.2.1 (xs (((nI i) + 1)).toNatClampNeg) 1 (Or.inr rfl)
    refine kt_lawk (As := [.int (xs (((nI i) + 1)).toNatClampNeg), .int 1]) (rest := []) K hK hA (met_k_setRoot l dC dI h1 ad1 d1 d2 σ (xs (((nI i) + 1)).toNatClampNeg) 1 a ea) (cwV 2 hts (lw_V q107 q108 q109 q18 q110) rfl rfl rfl (by decide +kernel) ⟨Nat.le_of_ble_eq_true rfl, Nat.le_of_ble_eq_true rfl⟩) rfl rfl hl.1 rfl (Nat.le_of_ble_eq_true rfl) dL_law_177 ⟨Nat.le_of_ble_eq_true rfl, Nat.le_of_ble_eq_true rfl⟩ X (fun H locs X => ?_)
    refine lv_aload_n hx hb dL_law_180 rfl (lv_at hl 2 rfl) ?_
    refine lv_aload_n hx hb dL_law_181 rfl (lv_at hl 0 rfl) ?_
    refine lv_iload_n hx hb dL_law_182 rfl (lv_at hl 3 rfl) ?_
    refine lv_iconst (v := 1) hx hb dL_law_183 (by decide) ?_
    refine lv_iadd hx hb dL_law_184 ?_
    refine va_sld hx hb hX hbl hbA X.2.2 hi1 dL_law_185 ?_
    refine lv_aload_n hx hb dL_law_186 rfl (lv_at hl 0 rfl) ?_
    refine lv_iload_n hx hb dL_law_187 rfl (lv_at hl 3 rfl) ?_
    refine lv_iconst (v := 2) hx hb dL_law_188 (by decide) ?_
    refine lv_iadd hx hb dL_law_189 ?_
    refine va_sld hx hb hX hbl hbA X.2.2 hi2 dL_law_190 ?_
    refine lv_if_eq (tgt := 198) hx hb dL_law_191 (by decide) (fun c2 => absurd c2 cz) (fun _ => ?_)
    refine lv_iconst (v := 1) hx hb dL_law_194 (by decide) ?_
    refine lv_goto (tgt := 199) hx hb dL_law_195 (by decide) ?_
    refine kt_lawm (As := [.int (xs (((nI i) + 1)).toNatClampNeg), .int 1]) (rest := [.int a.1]) K hK hA (met_m_setRoot l dC dI h2 ad2 d1 d2 τ (xs (((nI i) + 1)).toNatClampNeg) 1 b2 eb) (cwV 2 hts (lw_V q223 q224 q225 q19 q226) rfl rfl rfl (by decide +kernel) ⟨Nat.le_of_ble_eq_true rfl, Nat.le_of_ble_eq_true rfl⟩) rfl rfl hl.1 rfl (Nat.le_of_ble_eq_true rfl) dL_law_199 ⟨Nat.le_of_ble_eq_true rfl, Nat.le_of_ble_eq_true rfl⟩ X (fun H locs X => ?_)
    refine lv_icmp_eq (tgt := 391) hx hb dL_law_202 (by decide) (fun _ => ?_) (fun c2 => absurd eab c2)
    exact kE _ _ hR H locs X ls hl
set_option maxHeartbeats 4000000 in
set_option maxRecDepth 100000 in
theorem kt_case3 {p : Program} {l : Launch} {e : Env} {s : State} {m : MethodId} {args : Array Value} {below : List Frame} {meth : Method} {c : Code} {Q : State → Prop} {dC : Nat → ClassId} {dI : Nat → Nat → Nat} {d1 d2 : ClassId} {A : Nat → Prop} {h1 h2 b L : Nat} {ad1 ad2 : Nat → Nat} {xs : Nat → Int32} (N : Nat) (Rl : KSt → KSt → Prop) (hop : kt_Ops N Rl) (hL : L ≤ 192) (K : kt_E R_law p s m meth c cL_law 4 ret args) (hK : va_K (dC, dI) vwCl (kt_T d1 d2) s) (hA : ∀ q : Nat, s.heap.size ≤ q → A q) (hX : va_X b L xs s s.heap) (hbl : b < s.heap.size) (hbA : ¬ A b) {i : Nat} (hi : i + 3 ≤ L) (σ τ : KSt) (hR : Rl σ τ) (H : Heap) (locs : List Loc) (X : kt_X dC dI (kt_Y h1 ad1 h2 ad2 d1 d2 σ τ) A s H locs) (ls : Array Slot) (hl : lv_has ls 4 [(0, .ref b), (1, .ref h1), (2, .ref h2), (3, .int (nI i))]) (kE : ∀ (σ τ : KSt), Rl σ τ → ∀ (H : Heap) (locs : List Loc), kt_X dC dI (kt_Y h1 ad1 h2 ad2 d1 d2 σ τ) A s H locs → ∀ (ls : Array Slot), lv_has ls 4 [(0, .ref b), (1, .ref h1), (2, .ref h2), (3, .int (nI i))] → W p l e room_1 s m args below meth c H locs 26 913 Q (F0 m 391 ls [])) : W p l e room_1 s m args below meth c H locs 26 913 Q (F0 m 207 ls []) := by
  obtain ⟨hx, hb, hml, hown, hts, hr, hlocks⟩ := id K
  obtain ⟨hi0, hi1, hi2⟩ := kt_law_ix hi hL
  refine lv_aload_n hx hb dL_law_207 rfl (lv_at hl 1 rfl) ?_
  refine lv_aload_n hx hb dL_law_208 rfl (lv_at hl 0 rfl) ?_
  refine lv_iload_n hx hb dL_law_209 rfl (lv_at hl 3 rfl) ?_
  refine lv_iconst (v := 1) hx hb dL_law_210 (by decide) ?_
  refine lv_iadd hx hb dL_law_211 ?_
  refine va_sld hx hb hX hbl hbA X.2.2 hi1 dL_law_212 ?_
  obtain ⟨a, b2, ea, eb, eab, hR⟩ := (hop σ τ hR).2.2.2.1 (xs (((nI i) + 1)).toNatClampNeg)
  refine kt_lawk (As := [.int (xs (((nI i) + 1)).toNatClampNeg)]) (rest := []) K hK hA (met_k_alive l dC dI h1 ad1 d1 d2 N σ (xs (((nI i) + 1)).toNatClampNeg) a ea) (cwV 1 hts (lw_V q111 q112 q113 q18 q114) rfl rfl rfl (by decide +kernel) ⟨Nat.le_of_ble_eq_true rfl, Nat.le_of_ble_eq_true rfl⟩) rfl rfl hl.1 rfl (Nat.le_of_ble_eq_true rfl) dL_law_213 ⟨Nat.le_of_ble_eq_true rfl, Nat.le_of_ble_eq_true rfl⟩ X (fun H locs X => ?_)
  refine lv_aload_n hx hb dL_law_216 rfl (lv_at hl 2 rfl) ?_
  refine lv_aload_n hx hb dL_law_217 rfl (lv_at hl 0 rfl) ?_
  refine lv_iload_n hx hb dL_law_218 rfl (lv_at hl 3 rfl) ?_
  refine lv_iconst (v := 1) hx hb dL_law_219 (by decide) ?_
  refine lv_iadd hx hb dL_law_220 ?_
  refine va_sld hx hb hX hbl hbA X.2.2 hi1 dL_law_221 ?_
  refine kt_lawm (As := [.int (xs (((nI i) + 1)).toNatClampNeg)]) (rest := [.int a.1]) K hK hA (met_m_alive l dC dI h2 ad2 d1 d2 N τ (xs (((nI i) + 1)).toNatClampNeg) b2 eb) (cwV 1 hts (lw_V q227 q228 q229 q19 q230) rfl rfl rfl (by decide +kernel) ⟨Nat.le_of_ble_eq_true rfl, Nat.le_of_ble_eq_true rfl⟩) rfl rfl hl.1 rfl (Nat.le_of_ble_eq_true rfl) dL_law_222 ⟨Nat.le_of_ble_eq_true rfl, Nat.le_of_ble_eq_true rfl⟩ X (fun H locs X => ?_)
  refine lv_icmp_eq (tgt := 391) hx hb dL_law_225 (by decide) (fun _ => ?_) (fun c2 => absurd eab c2)
  exact kE _ _ hR H locs X ls hl
set_option maxHeartbeats 4000000 in
set_option maxRecDepth 100000 in
theorem kt_case4 {p : Program} {l : Launch} {e : Env} {s : State} {m : MethodId} {args : Array Value} {below : List Frame} {meth : Method} {c : Code} {Q : State → Prop} {dC : Nat → ClassId} {dI : Nat → Nat → Nat} {d1 d2 : ClassId} {A : Nat → Prop} {h1 h2 b L : Nat} {ad1 ad2 : Nat → Nat} {xs : Nat → Int32} (N : Nat) (Rl : KSt → KSt → Prop) (hop : kt_Ops N Rl) (hL : L ≤ 192) (K : kt_E R_law p s m meth c cL_law 4 ret args) (hK : va_K (dC, dI) vwCl (kt_T d1 d2) s) (hA : ∀ q : Nat, s.heap.size ≤ q → A q) (hX : va_X b L xs s s.heap) (hbl : b < s.heap.size) (hbA : ¬ A b) {i : Nat} (hi : i + 3 ≤ L) (σ τ : KSt) (hR : Rl σ τ) (H : Heap) (locs : List Loc) (X : kt_X dC dI (kt_Y h1 ad1 h2 ad2 d1 d2 σ τ) A s H locs) (ls : Array Slot) (hl : lv_has ls 4 [(0, .ref b), (1, .ref h1), (2, .ref h2), (3, .int (nI i))]) (kE : ∀ (σ τ : KSt), Rl σ τ → ∀ (H : Heap) (locs : List Loc), kt_X dC dI (kt_Y h1 ad1 h2 ad2 d1 d2 σ τ) A s H locs → ∀ (ls : Array Slot), lv_has ls 4 [(0, .ref b), (1, .ref h1), (2, .ref h2), (3, .int (nI i))] → W p l e room_1 s m args below meth c H locs 26 913 Q (F0 m 391 ls [])) : W p l e room_1 s m args below meth c H locs 26 913 Q (F0 m 230 ls []) := by
  obtain ⟨hx, hb, hml, hown, hts, hr, hlocks⟩ := id K
  obtain ⟨hi0, hi1, hi2⟩ := kt_law_ix hi hL
  refine lv_aload_n hx hb dL_law_230 rfl (lv_at hl 1 rfl) ?_
  refine lv_aload_n hx hb dL_law_231 rfl (lv_at hl 0 rfl) ?_
  refine lv_iload_n hx hb dL_law_232 rfl (lv_at hl 3 rfl) ?_
  refine lv_iconst (v := 1) hx hb dL_law_233 (by decide) ?_
  refine lv_iadd hx hb dL_law_234 ?_
  refine va_sld hx hb hX hbl hbA X.2.2 hi1 dL_law_235 ?_
  obtain ⟨a, b2, ea, eb, eab, hR⟩ := (hop σ τ hR).2.2.2.2.1 (xs (((nI i) + 1)).toNatClampNeg)
  refine kt_lawk (As := [.int (xs (((nI i) + 1)).toNatClampNeg)]) (rest := []) K hK hA (met_k_keeper l dC dI h1 ad1 d1 d2 N σ (xs (((nI i) + 1)).toNatClampNeg) a ea) (cwV 1 hts (lw_V q154 q155 q156 q18 q157) rfl rfl rfl (by decide +kernel) ⟨Nat.le_of_ble_eq_true rfl, Nat.le_of_ble_eq_true rfl⟩) rfl rfl hl.1 rfl (Nat.le_of_ble_eq_true rfl) dL_law_236 ⟨Nat.le_of_ble_eq_true rfl, Nat.le_of_ble_eq_true rfl⟩ X (fun H locs X => ?_)
  refine lv_aload_n hx hb dL_law_239 rfl (lv_at hl 2 rfl) ?_
  refine lv_aload_n hx hb dL_law_240 rfl (lv_at hl 0 rfl) ?_
  refine lv_iload_n hx hb dL_law_241 rfl (lv_at hl 3 rfl) ?_
  refine lv_iconst (v := 1) hx hb dL_law_242 (by decide) ?_
  refine lv_iadd hx hb dL_law_243 ?_
  refine va_sld hx hb hX hbl hbA X.2.2 hi1 dL_law_244 ?_
  refine kt_lawm (As := [.int (xs (((nI i) + 1)).toNatClampNeg)]) (rest := [.int a.1]) K hK hA (met_m_keeper l dC dI h2 ad2 d1 d2 N τ (xs (((nI i) + 1)).toNatClampNeg) b2 eb) (cwV 1 hts (lw_V q239 q240 q241 q19 q242) rfl rfl rfl (by decide +kernel) ⟨Nat.le_of_ble_eq_true rfl, Nat.le_of_ble_eq_true rfl⟩) rfl rfl hl.1 rfl (Nat.le_of_ble_eq_true rfl) dL_law_245 ⟨Nat.le_of_ble_eq_true rfl, Nat.le_of_ble_eq_true rfl⟩ X (fun H locs X => ?_)
  refine lv_icmp_eq (tgt := 391) hx hb dL_law_248 (by decide) (fun _ => ?_) (fun c2 => absurd eab c2)
  exact kE _ _ hR H locs X ls hl
set_option maxHeartbeats 4000000 in
set_option maxRecDepth 100000 in
theorem kt_case5 {p : Program} {l : Launch} {e : Env} {s : State} {m : MethodId} {args : Array Value} {below : List Frame} {meth : Method} {c : Code} {Q : State → Prop} {dC : Nat → ClassId} {dI : Nat → Nat → Nat} {d1 d2 : ClassId} {A : Nat → Prop} {h1 h2 b L : Nat} {ad1 ad2 : Nat → Nat} {xs : Nat → Int32} (N : Nat) (Rl : KSt → KSt → Prop) (hop : kt_Ops N Rl) (hL : L ≤ 192) (K : kt_E R_law p s m meth c cL_law 4 ret args) (hK : va_K (dC, dI) vwCl (kt_T d1 d2) s) (hA : ∀ q : Nat, s.heap.size ≤ q → A q) (hX : va_X b L xs s s.heap) (hbl : b < s.heap.size) (hbA : ¬ A b) {i : Nat} (hi : i + 3 ≤ L) (σ τ : KSt) (hR : Rl σ τ) (H : Heap) (locs : List Loc) (X : kt_X dC dI (kt_Y h1 ad1 h2 ad2 d1 d2 σ τ) A s H locs) (ls : Array Slot) (hl : lv_has ls 4 [(0, .ref b), (1, .ref h1), (2, .ref h2), (3, .int (nI i))]) (kE : ∀ (σ τ : KSt), Rl σ τ → ∀ (H : Heap) (locs : List Loc), kt_X dC dI (kt_Y h1 ad1 h2 ad2 d1 d2 σ τ) A s H locs → ∀ (ls : Array Slot), lv_has ls 4 [(0, .ref b), (1, .ref h1), (2, .ref h2), (3, .int (nI i))] → W p l e room_1 s m args below meth c H locs 26 913 Q (F0 m 391 ls [])) : W p l e room_1 s m args below meth c H locs 26 913 Q (F0 m 253 ls []) := by
  obtain ⟨hx, hb, hml, hown, hts, hr, hlocks⟩ := id K
  obtain ⟨hi0, hi1, hi2⟩ := kt_law_ix hi hL
  refine lv_aload_n hx hb dL_law_253 rfl (lv_at hl 1 rfl) ?_
  refine lv_aload_n hx hb dL_law_254 rfl (lv_at hl 0 rfl) ?_
  refine lv_iload_n hx hb dL_law_255 rfl (lv_at hl 3 rfl) ?_
  refine lv_iconst (v := 1) hx hb dL_law_256 (by decide) ?_
  refine lv_iadd hx hb dL_law_257 ?_
  refine va_sld hx hb hX hbl hbA X.2.2 hi1 dL_law_258 ?_
  obtain ⟨a, b2, ea, eb, eab, hR⟩ := (hop σ τ hR).2.2.2.2.2.1 (xs (((nI i) + 1)).toNatClampNeg)
  refine kt_lawk (As := [.int (xs (((nI i) + 1)).toNatClampNeg)]) (rest := []) K hK hA (met_k_held l dC dI h1 ad1 d1 d2 N σ (xs (((nI i) + 1)).toNatClampNeg) a ea) (cwV 1 hts (lw_V q161 q162 q163 q18 q164) rfl rfl rfl (by decide +kernel) ⟨Nat.le_of_ble_eq_true rfl, Nat.le_of_ble_eq_true rfl⟩) rfl rfl hl.1 rfl (Nat.le_of_ble_eq_true rfl) dL_law_259 ⟨Nat.le_of_ble_eq_true rfl, Nat.le_of_ble_eq_true rfl⟩ X (fun H locs X => ?_)
  refine lv_aload_n hx hb dL_law_262 rfl (lv_at hl 2 rfl) ?_
  refine lv_aload_n hx hb dL_law_263 rfl (lv_at hl 0 rfl) ?_
  refine lv_iload_n hx hb dL_law_264 rfl (lv_at hl 3 rfl) ?_
  refine lv_iconst (v := 1) hx hb dL_law_265 (by decide) ?_
  refine lv_iadd hx hb dL_law_266 ?_
  refine va_sld hx hb hX hbl hbA X.2.2 hi1 dL_law_267 ?_
  refine kt_lawm (As := [.int (xs (((nI i) + 1)).toNatClampNeg)]) (rest := [.int a.1]) K hK hA (met_m_held l dC dI h2 ad2 d1 d2 N τ (xs (((nI i) + 1)).toNatClampNeg) b2 eb) (cwV 1 hts (lw_V q255 q256 q257 q19 q258) rfl rfl rfl (by decide +kernel) ⟨Nat.le_of_ble_eq_true rfl, Nat.le_of_ble_eq_true rfl⟩) rfl rfl hl.1 rfl (Nat.le_of_ble_eq_true rfl) dL_law_268 ⟨Nat.le_of_ble_eq_true rfl, Nat.le_of_ble_eq_true rfl⟩ X (fun H locs X => ?_)
  refine lv_icmp_eq (tgt := 391) hx hb dL_law_271 (by decide) (fun _ => ?_) (fun c2 => absurd eab c2)
  exact kE _ _ hR H locs X ls hl
set_option maxHeartbeats 4000000 in
set_option maxRecDepth 100000 in
theorem kt_case6 {p : Program} {l : Launch} {e : Env} {s : State} {m : MethodId} {args : Array Value} {below : List Frame} {meth : Method} {c : Code} {Q : State → Prop} {dC : Nat → ClassId} {dI : Nat → Nat → Nat} {d1 d2 : ClassId} {A : Nat → Prop} {h1 h2 b L : Nat} {ad1 ad2 : Nat → Nat} {xs : Nat → Int32} (N : Nat) (Rl : KSt → KSt → Prop) (hop : kt_Ops N Rl) (hL : L ≤ 192) (K : kt_E R_law p s m meth c cL_law 4 ret args) (hK : va_K (dC, dI) vwCl (kt_T d1 d2) s) (hA : ∀ q : Nat, s.heap.size ≤ q → A q) (hX : va_X b L xs s s.heap) (hbl : b < s.heap.size) (hbA : ¬ A b) {i : Nat} (hi : i + 3 ≤ L) (σ τ : KSt) (hR : Rl σ τ) (H : Heap) (locs : List Loc) (X : kt_X dC dI (kt_Y h1 ad1 h2 ad2 d1 d2 σ τ) A s H locs) (ls : Array Slot) (hl : lv_has ls 4 [(0, .ref b), (1, .ref h1), (2, .ref h2), (3, .int (nI i))]) (kE : ∀ (σ τ : KSt), Rl σ τ → ∀ (H : Heap) (locs : List Loc), kt_X dC dI (kt_Y h1 ad1 h2 ad2 d1 d2 σ τ) A s H locs → ∀ (ls : Array Slot), lv_has ls 4 [(0, .ref b), (1, .ref h1), (2, .ref h2), (3, .int (nI i))] → W p l e room_1 s m args below meth c H locs 26 913 Q (F0 m 391 ls [])) : W p l e room_1 s m args below meth c H locs 26 913 Q (F0 m 276 ls []) := by
  obtain ⟨hx, hb, hml, hown, hts, hr, hlocks⟩ := id K
  obtain ⟨hi0, hi1, hi2⟩ := kt_law_ix hi hL
  refine lv_aload_n hx hb dL_law_276 rfl (lv_at hl 1 rfl) ?_
  refine lv_aload_n hx hb dL_law_277 rfl (lv_at hl 0 rfl) ?_
  refine lv_iload_n hx hb dL_law_278 rfl (lv_at hl 3 rfl) ?_
  refine lv_iconst (v := 1) hx hb dL_law_279 (by decide) ?_
  refine lv_iadd hx hb dL_law_280 ?_
  refine va_sld hx hb hX hbl hbA X.2.2 hi1 dL_law_281 ?_
  refine lv_aload_n hx hb dL_law_282 rfl (lv_at hl 0 rfl) ?_
  refine lv_iload_n hx hb dL_law_283 rfl (lv_at hl 3 rfl) ?_
  refine lv_iconst (v := 2) hx hb dL_law_284 (by decide) ?_
  refine lv_iadd hx hb dL_law_285 ?_
  refine va_sld hx hb hX hbl hbA X.2.2 hi2 dL_law_286 ?_
  obtain ⟨a, b2, ea, eb, eab, hR⟩ := (hop σ τ hR).2.2.2.2.2.2.1 (xs (((nI i) + 1)).toNatClampNeg) (xs (((nI i) + 2)).toNatClampNeg)
  refine kt_lawk (As := [.int (xs (((nI i) + 1)).toNatClampNeg), .int (xs (((nI i) + 2)).toNatClampNeg)]) (rest := []) K hK hA (met_k_guards l dC dI h1 ad1 d1 d2 N σ (xs (((nI i) + 1)).toNatClampNeg) (xs (((nI i) + 2)).toNatClampNeg) a ea) (cwV 2 hts (lw_V q165 q166 q167 q18 q168) rfl rfl rfl (by decide +kernel) ⟨Nat.le_of_ble_eq_true rfl, Nat.le_of_ble_eq_true rfl⟩) rfl rfl hl.1 rfl (Nat.le_of_ble_eq_true rfl) dL_law_287 ⟨Nat.le_of_ble_eq_true rfl, Nat.le_of_ble_eq_true rfl⟩ X (fun H locs X => ?_)
  refine lv_aload_n hx hb dL_law_290 rfl (lv_at hl 2 rfl) ?_
  refine lv_aload_n hx hb dL_law_291 rfl (lv_at hl 0 rfl) ?_
  refine lv_iload_n hx hb dL_law_292 rfl (lv_at hl 3 rfl) ?_
  refine lv_iconst (v := 1) hx hb dL_law_293 (by decide) ?_
  refine lv_iadd hx hb dL_law_294 ?_
  refine va_sld hx hb hX hbl hbA X.2.2 hi1 dL_law_295 ?_
  refine lv_aload_n hx hb dL_law_296 rfl (lv_at hl 0 rfl) ?_
  refine lv_iload_n hx hb dL_law_297 rfl (lv_at hl 3 rfl) ?_
  refine lv_iconst (v := 2) hx hb dL_law_298 (by decide) ?_
  refine lv_iadd hx hb dL_law_299 ?_
  refine va_sld hx hb hX hbl hbA X.2.2 hi2 dL_law_300 ?_
  refine kt_lawm (As := [.int (xs (((nI i) + 1)).toNatClampNeg), .int (xs (((nI i) + 2)).toNatClampNeg)]) (rest := [.int a.1]) K hK hA (met_m_guards l dC dI h2 ad2 d1 d2 N τ (xs (((nI i) + 1)).toNatClampNeg) (xs (((nI i) + 2)).toNatClampNeg) b2 eb) (cwV 2 hts (lw_V q263 q264 q265 q19 q266) rfl rfl rfl (by decide +kernel) ⟨Nat.le_of_ble_eq_true rfl, Nat.le_of_ble_eq_true rfl⟩) rfl rfl hl.1 rfl (Nat.le_of_ble_eq_true rfl) dL_law_301 ⟨Nat.le_of_ble_eq_true rfl, Nat.le_of_ble_eq_true rfl⟩ X (fun H locs X => ?_)
  refine lv_icmp_eq (tgt := 391) hx hb dL_law_304 (by decide) (fun _ => ?_) (fun c2 => absurd eab c2)
  exact kE _ _ hR H locs X ls hl
set_option maxHeartbeats 4000000 in
set_option maxRecDepth 100000 in
theorem kt_case7 {p : Program} {l : Launch} {e : Env} {s : State} {m : MethodId} {args : Array Value} {below : List Frame} {meth : Method} {c : Code} {Q : State → Prop} {dC : Nat → ClassId} {dI : Nat → Nat → Nat} {d1 d2 : ClassId} {A : Nat → Prop} {h1 h2 b L : Nat} {ad1 ad2 : Nat → Nat} {xs : Nat → Int32} (N : Nat) (Rl : KSt → KSt → Prop) (hop : kt_Ops N Rl) (hL : L ≤ 192) (K : kt_E R_law p s m meth c cL_law 4 ret args) (hK : va_K (dC, dI) vwCl (kt_T d1 d2) s) (hA : ∀ q : Nat, s.heap.size ≤ q → A q) (hX : va_X b L xs s s.heap) (hbl : b < s.heap.size) (hbA : ¬ A b) {i : Nat} (hi : i + 3 ≤ L) (σ τ : KSt) (hR : Rl σ τ) (H : Heap) (locs : List Loc) (X : kt_X dC dI (kt_Y h1 ad1 h2 ad2 d1 d2 σ τ) A s H locs) (ls : Array Slot) (hl : lv_has ls 4 [(0, .ref b), (1, .ref h1), (2, .ref h2), (3, .int (nI i))]) (kE : ∀ (σ τ : KSt), Rl σ τ → ∀ (H : Heap) (locs : List Loc), kt_X dC dI (kt_Y h1 ad1 h2 ad2 d1 d2 σ τ) A s H locs → ∀ (ls : Array Slot), lv_has ls 4 [(0, .ref b), (1, .ref h1), (2, .ref h2), (3, .int (nI i))] → W p l e room_1 s m args below meth c H locs 26 913 Q (F0 m 391 ls [])) : W p l e room_1 s m args below meth c H locs 26 913 Q (F0 m 309 ls []) := by
  obtain ⟨hx, hb, hml, hown, hts, hr, hlocks⟩ := id K
  obtain ⟨hi0, hi1, hi2⟩ := kt_law_ix hi hL
  refine lv_aload_n hx hb dL_law_309 rfl (lv_at hl 1 rfl) ?_
  refine lv_aload_n hx hb dL_law_310 rfl (lv_at hl 0 rfl) ?_
  refine lv_iload_n hx hb dL_law_311 rfl (lv_at hl 3 rfl) ?_
  refine lv_iconst (v := 1) hx hb dL_law_312 (by decide) ?_
  refine lv_iadd hx hb dL_law_313 ?_
  refine va_sld hx hb hX hbl hbA X.2.2 hi1 dL_law_314 ?_
  obtain ⟨a, b2, ea, eb, eab, hR⟩ := (hop σ τ hR).2.2.2.2.2.2.2.1 (xs (((nI i) + 1)).toNatClampNeg)
  refine kt_lawk (As := [.int (xs (((nI i) + 1)).toNatClampNeg)]) (rest := []) K hK hA (met_k_depth l dC dI h1 ad1 d1 d2 N σ (xs (((nI i) + 1)).toNatClampNeg) a ea) (cwV 1 hts (lw_V q173 q174 q175 q18 q176) rfl rfl rfl (by decide +kernel) ⟨Nat.le_of_ble_eq_true rfl, Nat.le_of_ble_eq_true rfl⟩) rfl rfl hl.1 rfl (Nat.le_of_ble_eq_true rfl) dL_law_315 ⟨Nat.le_of_ble_eq_true rfl, Nat.le_of_ble_eq_true rfl⟩ X (fun H locs X => ?_)
  refine lv_aload_n hx hb dL_law_318 rfl (lv_at hl 2 rfl) ?_
  refine lv_aload_n hx hb dL_law_319 rfl (lv_at hl 0 rfl) ?_
  refine lv_iload_n hx hb dL_law_320 rfl (lv_at hl 3 rfl) ?_
  refine lv_iconst (v := 1) hx hb dL_law_321 (by decide) ?_
  refine lv_iadd hx hb dL_law_322 ?_
  refine va_sld hx hb hX hbl hbA X.2.2 hi1 dL_law_323 ?_
  refine kt_lawm (As := [.int (xs (((nI i) + 1)).toNatClampNeg)]) (rest := [.int a.1]) K hK hA (met_m_depth l dC dI h2 ad2 d1 d2 N τ (xs (((nI i) + 1)).toNatClampNeg) b2 eb) (cwV 1 hts (lw_V q271 q272 q273 q19 q274) rfl rfl rfl (by decide +kernel) ⟨Nat.le_of_ble_eq_true rfl, Nat.le_of_ble_eq_true rfl⟩) rfl rfl hl.1 rfl (Nat.le_of_ble_eq_true rfl) dL_law_324 ⟨Nat.le_of_ble_eq_true rfl, Nat.le_of_ble_eq_true rfl⟩ X (fun H locs X => ?_)
  refine lv_icmp_eq (tgt := 391) hx hb dL_law_327 (by decide) (fun _ => ?_) (fun c2 => absurd eab c2)
  exact kE _ _ hR H locs X ls hl
set_option maxHeartbeats 4000000 in
set_option maxRecDepth 100000 in
theorem kt_case8 {p : Program} {l : Launch} {e : Env} {s : State} {m : MethodId} {args : Array Value} {below : List Frame} {meth : Method} {c : Code} {Q : State → Prop} {dC : Nat → ClassId} {dI : Nat → Nat → Nat} {d1 d2 : ClassId} {A : Nat → Prop} {h1 h2 b L : Nat} {ad1 ad2 : Nat → Nat} {xs : Nat → Int32} (N : Nat) (Rl : KSt → KSt → Prop) (hop : kt_Ops N Rl) (hL : L ≤ 192) (K : kt_E R_law p s m meth c cL_law 4 ret args) (hK : va_K (dC, dI) vwCl (kt_T d1 d2) s) (hA : ∀ q : Nat, s.heap.size ≤ q → A q) (hX : va_X b L xs s s.heap) (hbl : b < s.heap.size) (hbA : ¬ A b) {i : Nat} (hi : i + 3 ≤ L) (σ τ : KSt) (hR : Rl σ τ) (H : Heap) (locs : List Loc) (X : kt_X dC dI (kt_Y h1 ad1 h2 ad2 d1 d2 σ τ) A s H locs) (ls : Array Slot) (hl : lv_has ls 4 [(0, .ref b), (1, .ref h1), (2, .ref h2), (3, .int (nI i))]) (kE : ∀ (σ τ : KSt), Rl σ τ → ∀ (H : Heap) (locs : List Loc), kt_X dC dI (kt_Y h1 ad1 h2 ad2 d1 d2 σ τ) A s H locs → ∀ (ls : Array Slot), lv_has ls 4 [(0, .ref b), (1, .ref h1), (2, .ref h2), (3, .int (nI i))] → W p l e room_1 s m args below meth c H locs 26 913 Q (F0 m 391 ls [])) : W p l e room_1 s m args below meth c H locs 26 913 Q (F0 m 332 ls []) := by
  obtain ⟨hx, hb, hml, hown, hts, hr, hlocks⟩ := id K
  obtain ⟨hi0, hi1, hi2⟩ := kt_law_ix hi hL
  refine lv_aload_n hx hb dL_law_332 rfl (lv_at hl 1 rfl) ?_
  refine lv_aload_n hx hb dL_law_333 rfl (lv_at hl 0 rfl) ?_
  refine lv_iload_n hx hb dL_law_334 rfl (lv_at hl 3 rfl) ?_
  refine lv_iconst (v := 1) hx hb dL_law_335 (by decide) ?_
  refine lv_iadd hx hb dL_law_336 ?_
  refine va_sld hx hb hX hbl hbA X.2.2 hi1 dL_law_337 ?_
  refine lv_aload_n hx hb dL_law_338 rfl (lv_at hl 0 rfl) ?_
  refine lv_iload_n hx hb dL_law_339 rfl (lv_at hl 3 rfl) ?_
  refine lv_iconst (v := 2) hx hb dL_law_340 (by decide) ?_
  refine lv_iadd hx hb dL_law_341 ?_
  refine va_sld hx hb hX hbl hbA X.2.2 hi2 dL_law_342 ?_
  obtain ⟨a, b2, ea, eb, eab, hR⟩ := (hop σ τ hR).2.2.2.2.2.2.2.2.1 (xs (((nI i) + 1)).toNatClampNeg) (xs (((nI i) + 2)).toNatClampNeg)
  refine kt_lawk (As := [.int (xs (((nI i) + 1)).toNatClampNeg), .int (xs (((nI i) + 2)).toNatClampNeg)]) (rest := []) K hK hA (met_k_common l dC dI h1 ad1 d1 d2 N σ (xs (((nI i) + 1)).toNatClampNeg) (xs (((nI i) + 2)).toNatClampNeg) a ea) (cwV 2 hts (lw_V q177 q178 q179 q18 q180) rfl rfl rfl (by decide +kernel) ⟨Nat.le_of_ble_eq_true rfl, Nat.le_of_ble_eq_true rfl⟩) rfl rfl hl.1 rfl (Nat.le_of_ble_eq_true rfl) dL_law_343 ⟨Nat.le_of_ble_eq_true rfl, Nat.le_of_ble_eq_true rfl⟩ X (fun H locs X => ?_)
  refine lv_aload_n hx hb dL_law_346 rfl (lv_at hl 2 rfl) ?_
  refine lv_aload_n hx hb dL_law_347 rfl (lv_at hl 0 rfl) ?_
  refine lv_iload_n hx hb dL_law_348 rfl (lv_at hl 3 rfl) ?_
  refine lv_iconst (v := 1) hx hb dL_law_349 (by decide) ?_
  refine lv_iadd hx hb dL_law_350 ?_
  refine va_sld hx hb hX hbl hbA X.2.2 hi1 dL_law_351 ?_
  refine lv_aload_n hx hb dL_law_352 rfl (lv_at hl 0 rfl) ?_
  refine lv_iload_n hx hb dL_law_353 rfl (lv_at hl 3 rfl) ?_
  refine lv_iconst (v := 2) hx hb dL_law_354 (by decide) ?_
  refine lv_iadd hx hb dL_law_355 ?_
  refine va_sld hx hb hX hbl hbA X.2.2 hi2 dL_law_356 ?_
  refine kt_lawm (As := [.int (xs (((nI i) + 1)).toNatClampNeg), .int (xs (((nI i) + 2)).toNatClampNeg)]) (rest := [.int a.1]) K hK hA (met_m_common l dC dI h2 ad2 d1 d2 N τ (xs (((nI i) + 1)).toNatClampNeg) (xs (((nI i) + 2)).toNatClampNeg) b2 eb) (cwV 2 hts (lw_V q275 q276 q277 q19 q278) rfl rfl rfl (by decide +kernel) ⟨Nat.le_of_ble_eq_true rfl, Nat.le_of_ble_eq_true rfl⟩) rfl rfl hl.1 rfl (Nat.le_of_ble_eq_true rfl) dL_law_357 ⟨Nat.le_of_ble_eq_true rfl, Nat.le_of_ble_eq_true rfl⟩ X (fun H locs X => ?_)
  refine lv_icmp_eq (tgt := 391) hx hb dL_law_360 (by decide) (fun _ => ?_) (fun c2 => absurd eab c2)
  exact kE _ _ hR H locs X ls hl
set_option maxHeartbeats 4000000 in
set_option maxRecDepth 100000 in
theorem kt_case9 {p : Program} {l : Launch} {e : Env} {s : State} {m : MethodId} {args : Array Value} {below : List Frame} {meth : Method} {c : Code} {Q : State → Prop} {dC : Nat → ClassId} {dI : Nat → Nat → Nat} {d1 d2 : ClassId} {A : Nat → Prop} {h1 h2 b L : Nat} {ad1 ad2 : Nat → Nat} {xs : Nat → Int32} (N : Nat) (Rl : KSt → KSt → Prop) (hop : kt_Ops N Rl) (hL : L ≤ 192) (K : kt_E R_law p s m meth c cL_law 4 ret args) (hK : va_K (dC, dI) vwCl (kt_T d1 d2) s) (hA : ∀ q : Nat, s.heap.size ≤ q → A q) (hX : va_X b L xs s s.heap) (hbl : b < s.heap.size) (hbA : ¬ A b) {i : Nat} (hi : i + 3 ≤ L) (σ τ : KSt) (hR : Rl σ τ) (H : Heap) (locs : List Loc) (X : kt_X dC dI (kt_Y h1 ad1 h2 ad2 d1 d2 σ τ) A s H locs) (ls : Array Slot) (hl : lv_has ls 4 [(0, .ref b), (1, .ref h1), (2, .ref h2), (3, .int (nI i))]) (kE : ∀ (σ τ : KSt), Rl σ τ → ∀ (H : Heap) (locs : List Loc), kt_X dC dI (kt_Y h1 ad1 h2 ad2 d1 d2 σ τ) A s H locs → ∀ (ls : Array Slot), lv_has ls 4 [(0, .ref b), (1, .ref h1), (2, .ref h2), (3, .int (nI i))] → W p l e room_1 s m args below meth c H locs 26 913 Q (F0 m 391 ls [])) : W p l e room_1 s m args below meth c H locs 26 913 Q (F0 m 365 ls []) := by
  obtain ⟨hx, hb, hml, hown, hts, hr, hlocks⟩ := id K
  obtain ⟨hi0, hi1, hi2⟩ := kt_law_ix hi hL
  refine lv_aload_n hx hb dL_law_365 rfl (lv_at hl 1 rfl) ?_
  obtain ⟨a, b2, ea, eb, eab, hR⟩ := (hop σ τ hR).2.2.2.2.2.2.2.2.2.1
  refine kt_lawk (As := []) (rest := []) K hK hA (met_k_heaviest l dC dI h1 ad1 d1 d2 N σ a ea) (cwV 0 hts (lw_V q181 q182 q183 q18 q184) rfl rfl rfl (by decide +kernel) ⟨Nat.le_of_ble_eq_true rfl, Nat.le_of_ble_eq_true rfl⟩) rfl rfl hl.1 rfl (Nat.le_of_ble_eq_true rfl) dL_law_366 ⟨Nat.le_of_ble_eq_true rfl, Nat.le_of_ble_eq_true rfl⟩ X (fun H locs X => ?_)
  refine lv_aload_n hx hb dL_law_369 rfl (lv_at hl 2 rfl) ?_
  refine kt_lawm (As := []) (rest := [.int a.1]) K hK hA (met_m_heaviest l dC dI h2 ad2 d1 d2 N τ b2 eb) (cwV 0 hts (lw_V q279 q280 q281 q19 q282) rfl rfl rfl (by decide +kernel) ⟨Nat.le_of_ble_eq_true rfl, Nat.le_of_ble_eq_true rfl⟩) rfl rfl hl.1 rfl (Nat.le_of_ble_eq_true rfl) dL_law_370 ⟨Nat.le_of_ble_eq_true rfl, Nat.le_of_ble_eq_true rfl⟩ X (fun H locs X => ?_)
  refine lv_icmp_eq (tgt := 391) hx hb dL_law_373 (by decide) (fun _ => ?_) (fun c2 => absurd eab c2)
  exact kE _ _ hR H locs X ls hl
set_option maxHeartbeats 4000000 in
set_option maxRecDepth 100000 in
theorem kt_case10 {p : Program} {l : Launch} {e : Env} {s : State} {m : MethodId} {args : Array Value} {below : List Frame} {meth : Method} {c : Code} {Q : State → Prop} {dC : Nat → ClassId} {dI : Nat → Nat → Nat} {d1 d2 : ClassId} {A : Nat → Prop} {h1 h2 b L : Nat} {ad1 ad2 : Nat → Nat} {xs : Nat → Int32} (N : Nat) (Rl : KSt → KSt → Prop) (hop : kt_Ops N Rl) (hL : L ≤ 192) (K : kt_E R_law p s m meth c cL_law 4 ret args) (hK : va_K (dC, dI) vwCl (kt_T d1 d2) s) (hA : ∀ q : Nat, s.heap.size ≤ q → A q) (hX : va_X b L xs s s.heap) (hbl : b < s.heap.size) (hbA : ¬ A b) {i : Nat} (hi : i + 3 ≤ L) (σ τ : KSt) (hR : Rl σ τ) (H : Heap) (locs : List Loc) (X : kt_X dC dI (kt_Y h1 ad1 h2 ad2 d1 d2 σ τ) A s H locs) (ls : Array Slot) (hl : lv_has ls 4 [(0, .ref b), (1, .ref h1), (2, .ref h2), (3, .int (nI i))]) (kE : ∀ (σ τ : KSt), Rl σ τ → ∀ (H : Heap) (locs : List Loc), kt_X dC dI (kt_Y h1 ad1 h2 ad2 d1 d2 σ τ) A s H locs → ∀ (ls : Array Slot), lv_has ls 4 [(0, .ref b), (1, .ref h1), (2, .ref h2), (3, .int (nI i))] → W p l e room_1 s m args below meth c H locs 26 913 Q (F0 m 391 ls [])) : W p l e room_1 s m args below meth c H locs 26 913 Q (F0 m 378 ls []) := by
  obtain ⟨hx, hb, hml, hown, hts, hr, hlocks⟩ := id K
  obtain ⟨hi0, hi1, hi2⟩ := kt_law_ix hi hL
  refine lv_aload_n hx hb dL_law_378 rfl (lv_at hl 1 rfl) ?_
  obtain ⟨a, b2, ea, eb, eab, hR⟩ := (hop σ τ hR).2.2.2.2.2.2.2.2.2.2
  refine kt_lawk (As := []) (rest := []) K hK hA (met_k_total l dC dI h1 ad1 d1 d2 N σ a ea) (cwV 0 hts (lw_V q185 q186 q187 q18 q188) rfl rfl rfl (by decide +kernel) ⟨Nat.le_of_ble_eq_true rfl, Nat.le_of_ble_eq_true rfl⟩) rfl rfl hl.1 rfl (Nat.le_of_ble_eq_true rfl) dL_law_379 ⟨Nat.le_of_ble_eq_true rfl, Nat.le_of_ble_eq_true rfl⟩ X (fun H locs X => ?_)
  refine lv_aload_n hx hb dL_law_382 rfl (lv_at hl 2 rfl) ?_
  refine kt_lawm (As := []) (rest := [.int a.1]) K hK hA (met_m_total l dC dI h2 ad2 d1 d2 N τ b2 eb) (cwV 0 hts (lw_V q283 q284 q285 q19 q286) rfl rfl rfl (by decide +kernel) ⟨Nat.le_of_ble_eq_true rfl, Nat.le_of_ble_eq_true rfl⟩) rfl rfl hl.1 rfl (Nat.le_of_ble_eq_true rfl) dL_law_383 ⟨Nat.le_of_ble_eq_true rfl, Nat.le_of_ble_eq_true rfl⟩ X (fun H locs X => ?_)
  refine lv_icmp_eq (tgt := 391) hx hb dL_law_386 (by decide) (fun _ => ?_) (fun c2 => absurd eab c2)
  exact kE _ _ hR H locs X ls hl
set_option maxHeartbeats 4000000 in
set_option maxRecDepth 100000 in
theorem kt_loop {p : Program} {l : Launch} {e : Env} {s : State} {m : MethodId} {args : Array Value} {below : List Frame} {meth : Method} {c : Code} {Q : State → Prop} {dC : Nat → ClassId} {dI : Nat → Nat → Nat} {d1 d2 : ClassId} {A : Nat → Prop} {h1 h2 b L : Nat} {ad1 ad2 : Nat → Nat} {xs : Nat → Int32} (N : Nat) (Rl : KSt → KSt → Prop) (hop : kt_Ops N Rl) (hL : L ≤ 192) (K : kt_E R_law p s m meth c cL_law 4 ret args) (hK : va_K (dC, dI) vwCl (kt_T d1 d2) s) (hA : ∀ q : Nat, s.heap.size ≤ q → A q) (hX : va_X b L xs s s.heap) (hbl : b < s.heap.size) (hbA : ¬ A b) (kF : ∀ (H : Heap) (locs : List Loc), va_S A s.heap H locs → ∀ (ls : Array Slot), W p l e room_1 s m args below meth c H locs 26 913 Q (F0 m 398 ls [.int 1])) :
    ∀ (n i : Nat), i ≤ 195 → 195 ≤ i + n → ∀ (σ τ : KSt), Rl σ τ → ∀ (H : Heap) (locs : List Loc), kt_X dC dI (kt_Y h1 ad1 h2 ad2 d1 d2 σ τ) A s H locs → ∀ (ls : Array Slot), lv_has ls 4 [(0, .ref b), (1, .ref h1), (2, .ref h2), (3, .int (nI i))] → W p l e room_1 s m args below meth c H locs 26 913 Q (F0 m 18 ls []) := by
  obtain ⟨hx, hb, hml, hown, hts, hr, hlocks⟩ := id K
  intro n
  induction n with
  | zero =>
    intro i h195 hn σ τ hR H locs X ls hl
    refine lv_iload_n hx hb dL_law_18 rfl (lv_at hl 3 rfl) ?_
    refine lv_aload_n hx hb dL_law_19 rfl (lv_at hl 0 rfl) ?_
    refine va_slen hx hb hX hbl hbA X.2.2 dL_law_20 ?_
    refine lv_iconst (v := 3) hx hb dL_law_21 (by decide) ?_
    refine lv_isub hx hb dL_law_22 ?_
    refine lv_icmp_gt (tgt := 397) hx hb dL_law_23 (by decide) (fun c1 => ?_) (fun c1 => ?_)
    · refine lv_iconst (v := 1) hx hb dL_law_397 (by decide) ?_
      exact kF H locs X.2.2 ls
    · exact absurd (kt_law_in hL h195 c1) (by omega)
  | succ n ih =>
    intro i h195 hn σ τ hR H locs X ls hl
    refine lv_iload_n hx hb dL_law_18 rfl (lv_at hl 3 rfl) ?_
    refine lv_aload_n hx hb dL_law_19 rfl (lv_at hl 0 rfl) ?_
    refine va_slen hx hb hX hbl hbA X.2.2 dL_law_20 ?_
    refine lv_iconst (v := 3) hx hb dL_law_21 (by decide) ?_
    refine lv_isub hx hb dL_law_22 ?_
    refine lv_icmp_gt (tgt := 397) hx hb dL_law_23 (by decide) (fun c1 => ?_) (fun c1 => ?_)
    · refine lv_iconst (v := 1) hx hb dL_law_397 (by decide) ?_
      exact kF H locs X.2.2 ls
    · have hi := kt_law_in hL h195 c1
      obtain ⟨hi0, hi1, hi2⟩ := kt_law_ix hi hL
      have kE : ∀ (σ τ : KSt), Rl σ τ → ∀ (H : Heap) (locs : List Loc), kt_X dC dI (kt_Y h1 ad1 h2 ad2 d1 d2 σ τ) A s H locs → ∀ (ls : Array Slot), lv_has ls 4 [(0, .ref b), (1, .ref h1), (2, .ref h2), (3, .int (nI i))] → W p l e room_1 s m args below meth c H locs 26 913 Q (F0 m 391 ls []) := by
        intro σ τ hR H locs X ls hl
        refine lv_iinc (v := nI (i + 3)) (lv' := [(3, .int (nI (i + 3))), (0, .ref b), (1, .ref h1), (2, .ref h2)]) hx hb dL_law_391 hl (k := 3) rfl (nI_add i 3) (by decide) rfl (fun ls hl => ?_)
        refine lv_goto (tgt := 18) hx hb dL_law_394 (by decide) ?_
        exact ih (i + 3) (by omega) (by omega) σ τ hR H locs X ls (lv_sub hl [1, 2, 3, 0] rfl)
      refine lv_aload_n hx hb dL_law_26 rfl (lv_at hl 0 rfl) ?_
      refine lv_iload_n hx hb dL_law_27 rfl (lv_at hl 3 rfl) ?_
      refine va_sld hx hb hX hbl hbA X.2.2 hi0 dL_law_28 ?_
      refine lv_bipush (v := 15) hx hb dL_law_29 (by decide) ?_
      refine lv_iand hx hb dL_law_31 ?_
      refine lv_topi (fun y ey => ?_)
      obtain ⟨j, hj, ej⟩ := pk_andE (xs (nI i).toNatClampNeg) (m := 15) 4 (by decide)
      have ey : y = nI j := ey.trans ej
      rcases Nat.lt_or_ge j 11 with hj2 | hj2
      · rcases (show j = 0 ∨ j = 1 ∨ j = 2 ∨ j = 3 ∨ j = 4 ∨ j = 5 ∨ j = 6 ∨ j = 7 ∨ j = 8 ∨ j = 9 ∨ j = 10 by omega) with rfl | rfl | rfl | rfl | rfl | rfl | rfl | rfl | rfl | rfl | rfl
        · rw [ey]
          refine lv_tableIn (off := 60) (tgt := 92) hx hb dL_law_32 (by decide) (by decide) rfl (by decide) ?_
          exact kt_case0 N Rl hop hL K hK hA hX hbl hbA hi σ τ hR H locs X ls hl kE
        · rw [ey]
          refine lv_tableIn (off := 93) (tgt := 125) hx hb dL_law_32 (by decide) (by decide) rfl (by decide) ?_
          exact kt_case1 N Rl hop hL K hK hA hX hbl hbA hi σ τ hR H locs X ls hl kE
        · rw [ey]
          refine lv_tableIn (off := 126) (tgt := 158) hx hb dL_law_32 (by decide) (by decide) rfl (by decide) ?_
          exact kt_case2 N Rl hop hL K hK hA hX hbl hbA hi σ τ hR H locs X ls hl kE
        · rw [ey]
          refine lv_tableIn (off := 175) (tgt := 207) hx hb dL_law_32 (by decide) (by decide) rfl (by decide) ?_
          exact kt_case3 N Rl hop hL K hK hA hX hbl hbA hi σ τ hR H locs X ls hl kE
        · rw [ey]
          refine lv_tableIn (off := 198) (tgt := 230) hx hb dL_law_32 (by decide) (by decide) rfl (by decide) ?_
          exact kt_case4 N Rl hop hL K hK hA hX hbl hbA hi σ τ hR H locs X ls hl kE
        · rw [ey]
          refine lv_tableIn (off := 221) (tgt := 253) hx hb dL_law_32 (by decide) (by decide) rfl (by decide) ?_
          exact kt_case5 N Rl hop hL K hK hA hX hbl hbA hi σ τ hR H locs X ls hl kE
        · rw [ey]
          refine lv_tableIn (off := 244) (tgt := 276) hx hb dL_law_32 (by decide) (by decide) rfl (by decide) ?_
          exact kt_case6 N Rl hop hL K hK hA hX hbl hbA hi σ τ hR H locs X ls hl kE
        · rw [ey]
          refine lv_tableIn (off := 277) (tgt := 309) hx hb dL_law_32 (by decide) (by decide) rfl (by decide) ?_
          exact kt_case7 N Rl hop hL K hK hA hX hbl hbA hi σ τ hR H locs X ls hl kE
        · rw [ey]
          refine lv_tableIn (off := 300) (tgt := 332) hx hb dL_law_32 (by decide) (by decide) rfl (by decide) ?_
          exact kt_case8 N Rl hop hL K hK hA hX hbl hbA hi σ τ hR H locs X ls hl kE
        · rw [ey]
          refine lv_tableIn (off := 333) (tgt := 365) hx hb dL_law_32 (by decide) (by decide) rfl (by decide) ?_
          exact kt_case9 N Rl hop hL K hK hA hX hbl hbA hi σ τ hR H locs X ls hl kE
        · rw [ey]
          refine lv_tableIn (off := 346) (tgt := 378) hx hb dL_law_32 (by decide) (by decide) rfl (by decide) ?_
          exact kt_case10 N Rl hop hL K hK hA hX hbl hbA hi σ τ hR H locs X ls hl kE
      · rw [ey]
        refine lv_tableOut (tgt := 391) hx hb dL_law_32 (Or.inr (by rw [nI_toInt (by omega)]; omega)) (by decide) ?_
        exact kE σ τ hR H locs X ls hl
end
section
set_option maxRecDepth 100000
set_option maxHeartbeats 4000000 in
set_option maxRecDepth 100000 in
/-- the law, over a relation that the plain law keeps -/
theorem kt_start (N : Nat) (Rl : KSt → KSt → Prop) (hop : kt_Ops N Rl) (hR0 : Rl (fun _ _ => 0) (fun _ _ => 0)) {p : Program} {e : Env} {s : State} {m : MethodId} {below : List Frame} {meth : Method} {c : Code} (l : Launch) {b L : Nat} {xs : Nat → Int32} (hL : L ≤ 192) (C0 : lw_At p s m meth c b L xs) : W p l e room_1 s m #[Value.ref b] below meth c s.heap [] 0 0 (lw_Z below #[Value.ref b] s) (entryFrame m ([Value.ref b] : List Value).toArray 4) := by
  obtain ⟨hx, hb, hr, hml, hown, hts0, hX, hbl, hlocks, hgv⟩ := C0
  have hts : ∀ w ∈ lw_all, w.before #[Value.ref b] s = true := fun w h => hts0 w (lw_all_tbl h)
  have K : kt_E R_law p s m meth c cL_law 4 ret #[Value.ref b] := ⟨hx, hb, hml, hown, hts, hr, hlocks⟩
  obtain ⟨c0_, iS0, hKn0⟩ := u_known (C := RX0) (T := TX0) (N := 22) (n := 22) hts0 (fun w h => lw_all_tbl (in_X0 w h)) (hts _ q21)
  obtain ⟨c1_, iS1, hKn1⟩ := u_known (C := RX1) (T := TX1) (N := 5) (n := 5) hts0 (fun w h => lw_all_tbl (in_X1 w h)) (hts _ q190)
  obtain ⟨d1, kA, comp, g1, g2, g3⟩ := Cond.arrayClass_spec (hts _ q95)
  obtain ⟨d2, kA2, comp2, g4, g5, g6⟩ := Cond.arrayClass_spec (hts _ q211)
  obtain ⟨dC, hdC⟩ : ∃ dC : Nat → ClassId, dC = fun k => if k = 0 then c0_ else c1_ := ⟨_, rfl⟩
  obtain ⟨dI, hdI⟩ : ∃ dI : Nat → Nat → Nat, dI = fun k => if k = 0 then iS0 else iS1 := ⟨_, rfl⟩
  have hK : va_K (dC, dI) vwCl (kt_T d1 d2) s := by
    constructor
    · intro k q hq
      match k, hq with
      | 0, hq => cases hq; rw [hdC, hdI]; exact hKn0
      | 1, hq => cases hq; rw [hdC, hdI]; exact hKn1
      | k + 2, hq => simp [vwCl] at hq
    · intro k q hq
      match k, hq with
      | 0, hq => cases hq; exact ⟨fun n z => ⟨fun k h => (by cases h), kA, g2, comp, g3⟩, g1⟩
      | 1, hq => cases hq; exact ⟨fun n z => ⟨fun k h => (by cases h), kA2, g5, comp2, g6⟩, g4⟩
      | k + 2, hq => simp at hq
  obtain ⟨A, hAe⟩ : ∃ A : Nat → Prop, A = fun q => s.heap.size ≤ q := ⟨_, rfl⟩
  have hA : ∀ q : Nat, s.heap.size ≤ q → A q := fun q h => by rw [hAe]; exact h
  have hbA : ¬ A b := fun h => by rw [hAe] at h; exact absurd hbl (Nat.not_lt.mpr h)
  have hS : va_S A s.heap s.heap [] := va_S.rf
  have hP : va_P (dC, dI) vwCl [] s.heap := fun k q h => by simp at h
  have hD : va_D A [] := ⟨fun i j p q h => by simp at h, fun k q h => by simp at h⟩
  have hl := lv_entry ([.ref b]) (n := 4) (Nat.le_of_ble_eq_true rfl)
  rw [lg_entry_eq]
  generalize (lg_sl ([.ref b]) ++ List.replicate (4 - (lg_sl ([.ref b])).length) Slot.unset).toArray = ls at hl ⊢
  have hl : lv_has ls 4 [(0, .ref b)] := hl
  refine va_new (ci := 0) (fs := [.null, .null, .int 0, .int 0, .int 0, .null, .null, .null, .null, .null, .null, .null, .null, .null, .null, .null, .null, .null, .null, .null, .null, .null]) (C := RX0) (T := TX0) (N := 22) hx hb hts in_X0 tyX0 tyX0_ok hown (hts _ q20) (hts _ q21) (hts _ q18) hK hP hD hS hA rfl (fun j hj => by rcases (show j = 0 ∨ j = 1 ∨ j = 2 ∨ j = 3 ∨ j = 4 ∨ j = 5 ∨ j = 6 ∨ j = 7 ∨ j = 8 ∨ j = 9 ∨ j = 10 ∨ j = 11 ∨ j = 12 ∨ j = 13 ∨ j = 14 ∨ j = 15 ∨ j = 16 ∨ j = 17 ∨ j = 18 ∨ j = 19 ∨ j = 20 ∨ j = 21 by omega) with rfl | rfl | rfl | rfl | rfl | rfl | rfl | rfl | rfl | rfl | rfl | rfl | rfl | rfl | rfl | rfl | rfl | rfl | rfl | rfl | rfl | rfl <;> rfl) (Nat.le_of_ble_eq_true rfl) (Nat.le_of_ble_eq_true rfl) dL_law_0 (fun h1 H hP hD hS => ?_)
  refine W.widen (k := 1) (n := 22) (Nat.le_refl _) (Nat.le_refl _) ?_
  have hP : va_P (dC, dI) vwCl [(h1, .inr (0, [.null, .null, .int 0, .int 0, .int 0, .null, .null, .null, .null, .null, .null, .null, .null, .null, .null, .null, .null, .null, .null, .null, .null, .null]))] H := hP
  have hD : va_D A [(h1, .inr (0, [.null, .null, .int 0, .int 0, .int 0, .null, .null, .null, .null, .null, .null, .null, .null, .null, .null, .null, .null, .null, .null, .null, .null, .null]))] := hD
  refine lv_dup hx hb dL_law_3 rfl ?_
  have hFc := va_free (wc := [(h1, .inr (0, [.null, .null, .int 0, .int 0, .int 0, .null, .null, .null, .null, .null, .null, .null, .null, .null, .null, .null, .null, .null, .null, .null, .null, .null]))]) hD hS hA [0] rfl
  refine va_callv (va_runI (As := []) (rest := [.ref h1]) ⟨hx, hb, hml, hown, hts⟩ (met_k_init l dC dI h1 d1 d2 H.size) (cwI 0 hts (lw_meth q24) rfl rfl rfl (hts _ q18) (hts _ q22) (hts _ q23) rfl (by decide +kernel) ⟨Nat.le_of_ble_eq_true rfl, Nat.le_of_ble_eq_true rfl⟩) ⟨kt_blind, fun U hU hW => ⟨rfl, by rw [hU], by rw [hU]; exact hP, va_K.moved hW.alike hK, hD.weaken (fun _ _ _ _ => trivial)⟩⟩ rfl rfl hl.1 rfl (lv_room (Nat.le_of_ble_eq_true rfl)) dL_law_4 ⟨Nat.le_of_ble_eq_true rfl, Nat.le_of_ble_eq_true rfl⟩) hS (fun q _ h => hFc q h) hFc (fun ad1 t H1 locs ht hvm hw hB hz1 hk1 hS => ?_)
  refine W.widen (k := 20) (n := 348) (Nat.le_refl _) (Nat.le_refl _) ?_
  obtain ⟨hP1, hK1, hD1⟩ := hB
  rw [ht] at hP1
  have hD1 := hD1.weaken (B := A) (fun _ _ _ h => hFc _ h)
  refine lv_astore_n (lv' := [(1, .ref h1), (0, .ref b)]) hx hb dL_law_7 rfl hl (by decide) rfl (fun ls hl => ?_)
  refine va_new (ci := 1) (fs := [.null, .null, .null, .null, .null]) (C := RX1) (T := TX1) (N := 5) hx hb hts in_X1 tyX1 tyX1_ok hown (hts _ q189) (hts _ q190) (hts _ q19) hK hP1 hD1 hS hA rfl (fun j hj => by rcases (show j = 0 ∨ j = 1 ∨ j = 2 ∨ j = 3 ∨ j = 4 by omega) with rfl | rfl | rfl | rfl | rfl <;> rfl) (Nat.le_of_ble_eq_true rfl) (Nat.le_of_ble_eq_true rfl) dL_law_8 (fun h2 H hP hD hS => ?_)
  refine W.widen (k := 21) (n := 353) (Nat.le_refl _) (Nat.le_refl _) ?_
  refine lv_dup hx hb dL_law_11 rfl ?_
  have hPc : va_P (dC, dI) vwCl [(h2, .inr (1, [.null, .null, .null, .null, .null]))] H := hP.sub [20] rfl
  have hDc : va_D A [(h2, .inr (1, [.null, .null, .null, .null, .null]))] := hD.sub [20] (by decide) rfl
  have hFc := va_free (wc := [(h2, .inr (1, [.null, .null, .null, .null, .null]))]) hD hS hA [20] rfl
  refine va_callv (va_runI (As := []) (rest := [.ref h2]) ⟨hx, hb, hml, hown, hts⟩ (met_m_init l dC dI h2 d1 d2 H.size) (cwI 0 hts (lw_meth q193) rfl rfl rfl (hts _ q19) (hts _ q191) (hts _ q192) rfl (by decide +kernel) ⟨Nat.le_of_ble_eq_true rfl, Nat.le_of_ble_eq_true rfl⟩) ⟨kt_blind, fun U hU hW => ⟨rfl, by rw [hU], by rw [hU]; exact hPc, va_K.moved hW.alike hK, hDc.weaken (fun _ _ _ _ => trivial)⟩⟩ rfl rfl hl.1 rfl (lv_room (Nat.le_of_ble_eq_true rfl)) dL_law_12 ⟨Nat.le_of_ble_eq_true rfl, Nat.le_of_ble_eq_true rfl⟩) hS (fun q _ h => hFc q h) hFc (fun ad2 t H1 locs ht hvm hw hB hz1 hk1 hS => ?_)
  refine W.widen (k := 26) (n := 913) (Nat.le_refl _) (Nat.le_refl _) ?_
  obtain ⟨hP2, hK2, hD2⟩ := hB
  rw [ht] at hP2
  obtain ⟨hP, hD⟩ := va_join (wr := kt_W h1 ad1 d1 (fun _ _ => 0)) (w1 := kt_M h2 ad2 d1 d2 (fun _ _ => 0)) hP hD [20] [0, 1, 2, 3, 4, 5, 6, 7, 8, 9, 10, 11, 12, 13, 14, 15, 16, 17, 18, 19] rfl rfl (by decide) (by decide) hk1 hFc hP2 hD2
  have X : kt_X dC dI (kt_Y h1 ad1 h2 ad2 d1 d2 (fun _ _ => 0) (fun _ _ => 0)) A s H1 locs := ⟨hP, hD, hS⟩
  refine lv_astore_n (lv' := [(2, .ref h2), (1, .ref h1), (0, .ref b)]) hx hb dL_law_15 rfl hl (by decide) rfl (fun ls hl => ?_)
  refine lv_iconst (v := nI 0) hx hb dL_law_16 (by decide) ?_
  refine lv_istore_n (lv' := [(3, .int (nI 0)), (2, .ref h2), (1, .ref h1), (0, .ref b)]) hx hb dL_law_17 rfl hl (by decide) rfl (fun ls hl => ?_)
  refine kt_loop N Rl hop hL K hK hA hX hbl hbA (fun H locs hS ls => ?_) 195 0 (by omega) (by omega) _ _ hR0 H1 locs X ls (lv_sub hl [3, 2, 1, 0] rfl)
  refine va_forget (fun q hq => by have := hS.2.2 q hq; rw [hAe] at this; exact this) ?_
  refine W.widen (k := 600000) (n := 7290000) (by omega) (by omega) ?_
  exact lw_ret hx hb hr hlocks dL_law_398
end
section
set_option maxRecDepth 100000
theorem whole_start {p : Program} {e : Env} {s : State} {m : MethodId} {below : List Frame} {meth : Method} {c : Code} (l : Launch) {b L : Nat} {xs : Nat → Int32} (hL : L ≤ 192) (C0 : lw_At p s m meth c b L xs) : W p l e room_1 s m #[Value.ref b] below meth c s.heap [] 0 0 (lw_Z below #[Value.ref b] s) (entryFrame m ([Value.ref b] : List Value).toArray 4) := by
  exact kt_start kt_N kt_Rl kt_ops kt_R0 l hL C0
set_option maxHeartbeats 4000000 in
theorem lw_walk (l : Launch) (b : Addr) (xs : List Int32) : MetFree l x (headSpec (Jvm.Cond.code x code maxLocals ret :: tables_1) room_1) (lw_P b xs) (fun _ _ _ _ _ => True) lw_Q := by
  refine MetFree.of_bodyS (code := code) (maxLocals := maxLocals) (ret := ret) (by decide) ?_ ?_
  · intro args s m h hn
    obtain ⟨meth, c, h1, h2, h3, h4, h5, h6, -, -⟩ := Cond.code_spec hn (atoms_spec (ws := Jvm.Cond.code x code maxLocals ret :: tables_1) h _ List.mem_cons_self)
    exact ⟨meth, c, h1, h2, h3, h4, h5, h6⟩
  · intro p e s m args below meth c s₁ B hml0 hP _
    obtain ⟨rfl, hx, hbd, hgv⟩ := hP
    obtain ⟨scr, harrAt, hlist, hof, hsmall⟩ := hx
    obtain ⟨hcb, hkn, -, -⟩ := State.arrayAt?_spec harrAt
    have hown : s.vm.findClass R_law = some m.cls := findClass_of_methodNamed B.named
    have hts0 : ∀ c ∈ (Jvm.Cond.code x code maxLocals ret :: tables_1), c.before #[Value.ref b] s = true := atoms_spec (ws := Jvm.Cond.code x code maxLocals ret :: tables_1) B.pre
    have hts : ∀ w ∈ lw_tbl, w.before #[Value.ref b] s = true := k2_hts_sels lw_privs (fun w hw => hts0 w (List.mem_cons_of_mem _ hw)) lw_privs_ok
    have hml : c.maxLocals = 4 := B.maxLocals_eq (hts0 _ List.mem_cons_self)
    have X₀ : Stand p l e room_1 s m #[Value.ref b] below meth c s₁ [] 0 0 := Stand.of_body B
    have hh0 : s₁.heap = s.heap := by rw [B.state]; rfl
    have hsz : scr.slots.size = xs.length := by rw [← Array.length_toList, hlist, List.length_map]
    have hval : ∀ j : Nat, j < xs.length → scr.slots[j]? = some (.int (xs.getD j 0)) := fun j hj => by
      rw [← Array.getElem?_toList, hlist]
      simp [hj]
    have hbl : b < s.heap.size := (Array.getElem?_eq_some_iff.mp hcb).1
    have hX : va_X b xs.length (fun j => xs.getD j 0) s s.heap := ⟨scr, hcb, hof, hkn, hsz, hval⟩
    have K : W p l e room_1 s m #[Value.ref b] below meth c s₁.heap [] 0 0 (lw_Z below #[Value.ref b] s) (entryFrame m ([Value.ref b] : List Value).toArray 4) := by
      rw [hh0]
      exact whole_start l hbd ⟨B.exec, B.bytes, B.returns, hml, hown, hts, hX, hbl, B.notSynchronized, hgv⟩
    obtain ⟨t, a1, o, b1, b2, b3⟩ := K s₁ rfl X₀
    exact ⟨t, o, a1, b1, b2, b3⟩
theorem lw_pre_spec {args : Array Value} {s : State} (h : (Jvm.Cond.and given_1 narrow_1).before args s = true) (hr : rest_1_c.before args s = true) : ∃ (b : Addr) (xs : List Int32), lw_P b xs args s := by
  have hs := flat_of_before _ h
  have hq := flat_of_before _ hr
  have hc : (Cond.count 1).before args s = true := hs _ (by decide +kernel)
  have harr : (Cond.arrayOf (.arg 0) .int).before args s = true := hs _ (by decide +kernel)
  have hle : (Cond.le (.length (.arg 0)) (.int 192)).before args s = true := hs _ (by decide +kernel)
  have hlen : (Cond.isInt (.length (.arg 0))).before args s = true := hq _ (by decide +kernel)
  have hall : (Cond.all (.arg 0) (.isInt (.elem (.arg 0) (.index 0)))).before args s = true := hq _ (by decide +kernel)
  obtain ⟨b, xs, hb, hx⟩ := State.ints_of_pre rfl harr hlen hall
  have hsm : xs.length < 2 ^ 31 := hx.choose_spec.2.2.2
  have hev : (Term.length (.arg 0)).eval args s none [] s = some (.int xs.length.toInt32) := hx.length_eval hb
  have hv := Cond.le_ints hev (show (Term.int 192).eval args s none [] s = some (.int 192) from rfl)
  have hd : xs.length.toInt32 ≤ 192 := by
    simpa [Cond.before, Cond.holds, hv] using hle
  have hN : xs.length ≤ 192 := (Int32.ofNat_le_ofNat hsm (by decide)).mp (show Int32.ofNat xs.length ≤ Int32.ofNat 192 from hd)
  exact ⟨b, xs, Cond.one_arg hc (show args[0]? = some (.ref b) from hb), hx, hN, h⟩
theorem lw_comes (l : Launch) : Comes l x (Jvm.Cond.code x code maxLocals ret :: tables_1) room_1 (fun tb e args s => Calls_1 tb e args s ∧ rest_1 tb e args s ∧ Pre_1 tb e args s)
    (fun _ _ args s o t => lw_Q args s o t) := by
  intro p e ha hc hk s m args below hf hfit hheap happ hpre
  obtain ⟨b, xs, hP⟩ := lw_pre_spec hpre.2.2 hpre.2.1
  obtain ⟨k, o, h1, h2, h3, hQ⟩ := lw_walk l b xs p e ha hc hk s m args below hf ((Spec.applies_iff_loose hf).mp happ).1 hP trivial
  exact ⟨k, o, h1, h2, h3, hQ⟩
theorem lw_frame {s t : State} {o : Outcome} {args : Array Value} (h : Framed s o t [] 600000 7290000) :
    Framed s o t (fieldLocs frame_1_writes args s ++ arrayLocs frame_1_arrays args s ++ staticLocs frame_1_statics s) 600000 7290000 := h
theorem lw_limb (L : Cond) (hL : ∀ (args : Array Value) (s t : State), L.after args s (.returned (some (.int 1))) t = true) :
    ArmFor flags0 classFile x code maxLocals ret World_1 tables_1 room_1 Calls_1 rest_1 Pre_1
      (fun tb e a s o t => postC L tb e a s o t ∧ Framed s o t (fieldLocs frame_1_writes a s ++ arrayLocs frame_1_arrays a s ++ staticLocs frame_1_statics s) 600000 7290000) := by
  intro l _ _ _ p e ha hc hk s m args below hf hfit hheap happ hpre
  obtain ⟨k, o, h1, h2, h3, rfl, hF⟩ := lw_comes l p e ha hc hk s m args below hf hfit hheap happ hpre
  exact ⟨k, _, h1, h2, h3, hL args s _, lw_frame hF⟩
theorem i_vc : Claimed_1_1 ∧ Claimed_1_2 := ⟨lw_limb limb_1_1 (fun args s t => by simp [limb_1_1, Cond.after, Cond.holds, Cond.value]), lw_limb limb_1_2 (fun args s t => Cond.after_iff.mpr (by
  first | (rw [show limb_1_2 = Cond.eq .result (.int 1) from rfl, Cond.eq_ints (x := 1) (y := 1) rfl rfl]; simp; done) | (simp [limb_1_2, Cond.value, Term.eval]; done)))⟩
end
