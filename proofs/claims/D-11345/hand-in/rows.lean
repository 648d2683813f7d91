section
/-! ===== 01: pictures and the operation list ===== -/
abbrev gc_O : Type := Int32 × Int32 × Int32 × Int32 × Int32
/-- the operations of the list stand in the arrays -/
def gc_ops (L : List gc_O) (a7 a8 a9 a10 a11 : Nat → Int32) : Prop := ∀ j o, L[j]? = some o → a7 j = o.1 ∧ a8 j = o.2.1 ∧ a9 j = o.2.2.1 ∧ a10 j = o.2.2.2.1 ∧ a11 j = o.2.2.2.2
/-- an array holds a list -/
def gc_rel (M : List Int32) (a : Nat → Int32) : Prop := ∀ j x, M[j]? = some x → a j = x
/-- all operations that are made; bend's number is i -/
def gc_P (i : Nat) : List gc_O := [(0, -1, -1, 0, 1), (0, -1, -1, 2, 1), (4, nI 1, nI 0, 0, 1), (5, nI 2, -1, 0, 0), (1, -1, -1, 1, 0), (8, nI 4, -1, 0, 1), (4, nI 5, nI 0, 0, 1), (4, nI 5, nI 1, 0, 1), (7, nI 7, -1, nI i, 0), (12, nI 4, -1, nI i, 1), (4, nI 9, nI 1, 0, 1), (4, nI 9, nI 5, 0, 1), (5, nI 10, -1, 0, 0)]
/-- no operation of the list is this one -/
def gc_no (L : List gc_O) (p0 p1 p2 p3 : Int32) : Bool := L.all (fun o => !(decide (o.1 = p0) && decide (o.2.1 = p1) && decide (o.2.2.1 = p2) && decide (o.2.2.2.1 = p3)))
theorem gc_no_at {L : List gc_O} {p0 p1 p2 p3 : Int32} (h : gc_no L p0 p1 p2 p3 = true) {j : Nat} {o : gc_O} (hj : L[j]? = some o) : ¬ (o.1 = p0 ∧ o.2.1 = p1 ∧ o.2.2.1 = p2 ∧ o.2.2.2.1 = p3) := by
  intro ⟨h0, h1, h2, h3⟩
  have := (List.all_eq_true.mp h) o (List.mem_of_getElem? hj)
  simp [h0, h1, h2, h3] at this
theorem gc_rd {a : Nat → Int32} {j : Nat} {x : Int32} (h : a j = x) (hj : j < 2 ^ 31 := by omega) : a (nI j).toNatClampNeg = x := by rw [nI_clamp hj]; exact h
theorem gc_rn {a : Nat → Int32} {j : Nat} {x y : Int32} (h : a j = x) (hne : ¬ x = y) (hj : j < 2 ^ 31 := by omega) : ¬ a (nI j).toNatClampNeg = y := by rw [nI_clamp hj, h]; exact hne
theorem gc_s16 : ∀ s, s < 512 → (nI s).toInt16.toInt32 = nI s := by decide +kernel
theorem gc_ops_nil {a7 a8 a9 a10 a11 : Nat → Int32} : gc_ops [] a7 a8 a9 a10 a11 := fun j o h => by simp at h
theorem gc_ops_app {L : List gc_O} {a7 a8 a9 a10 a11 : Nat → Int32} {n : Nat} {p0 p1 p2 p3 p4 : Int32} (hn : L.length = n) (h : gc_ops L a7 a8 a9 a10 a11) : gc_ops (L ++ [(p0, p1, p2, p3, p4)]) (upd a7 n p0) (upd a8 n p1) (upd a9 n p2) (upd a10 n p3) (upd a11 n p4) := by
  subst hn
  intro j o hj
  by_cases e : j = L.length
  · subst e
    rw [List.getElem?_concat_length] at hj
    have ho : (p0, p1, p2, p3, p4) = o := Option.some.inj hj
    subst ho
    exact ⟨pk_us, pk_us, pk_us, pk_us, pk_us⟩
  · have hlt := (List.getElem?_eq_some_iff.mp hj).1
    rw [List.length_append] at hlt
    have hlt2 : j < L.length := by
      have : [(p0, p1, p2, p3, p4)].length = 1 := rfl
      omega
    rw [List.getElem?_append_left hlt2] at hj
    have := h j o hj
    rw [pk_un e, pk_un e, pk_un e, pk_un e, pk_un e]
    exact this
theorem gc_rel_set {M : List Int32} {a : Nat → Int32} {t : Nat} {x : Int32} (h : gc_rel M a) : gc_rel (M.set t x) (upd a t x) := by
  intro j y hj
  by_cases e : j = t
  · subst e
    rw [pk_us]
    rw [List.getElem?_set] at hj
    simp only [if_true] at hj
    split at hj
    · exact Option.some.inj hj
    · exact absurd hj (by simp)
  · rw [pk_un e]
    rw [List.getElem?_set_ne (fun z => e z.symm)] at hj
    exact h j y hj
section
variable {nc lv le fc : Int32} {a1 a2 a3 a4 a5 a6 a7 a8 a9 a10 a11 a12 a13 a14 a15 a16 a17 : Nat → Int32}
theorem gc_append {post : Int32 → St2 → Prop} {L L' : List gc_O} {n : Nat} {p0 p1 p2 p3 p4 : Int32} (hn : L.length = n) (hL : L' = L ++ [(p0, p1, p2, p3, p4)]) (h : gc_ops L a7 a8 a9 a10 a11)
    (h450 : n < 450) (h0 : p0.toInt8.toInt32 = p0) (h1 : p1.toInt16.toInt32 = p1) (h2 : p2.toInt16.toInt32 = p2) (h4 : vp_nar .boolean p4 = p4)
    (H : ∀ b7 b8 b9 b10 b11 : Nat → Int32, gc_ops L' b7 b8 b9 b10 b11 → post (nI n) (nc, lv, nI (n + 1), fc, a1, a2, a3, a4, a5, a6, b7, b8, b9, b10, b11, a12, a13, a14, a15, a16, a17)) :
    wpX_append post (nc, lv, nI n, fc, a1, a2, a3, a4, a5, a6, a7, a8, a9, a10, a11, a12, a13, a14, a15, a16, a17) p0 p1 p2 p3 p4 := by
  have hc : (nI n).toNatClampNeg = n := nI_clamp (by omega)
  have hi : vp_in (nI n) 450 := vp_in_nI h450 (by decide)
  unfold wpX_append
  dsimp only
  rw [hc, h0, h1, h2, h4]
  refine ⟨hi, nm_e ⟨hi, nm_e ⟨hi, nm_e ⟨hi, nm_e ⟨hi, nm_e (nm_r (nI_1 n) ?_)⟩⟩⟩⟩⟩
  subst hL
  exact H _ _ _ _ _ (gc_ops_app hn h)
/-- the search: nothing like it is there ahead of m -/
theorem gc_share_to {post : Int32 → St2 → Prop} {L : List gc_O} {n m : Nat} {p0 p1 p2 p3 p4 : Int32} (hn : L.length = n) (h : gc_ops L a7 a8 a9 a10 a11) (h450 : n < 450) (hm : m ≤ n)
    (hno : ∀ j o, j < m → L[j]? = some o → ¬ (o.1 = p0 ∧ o.2.1 = p1 ∧ o.2.2.1 = p2 ∧ o.2.2.2.1 = p3))
    (H : ∀ q, wX_share_11 post p0 p1 p2 p3 p4 nc lv (nI n) fc a1 a2 a3 a4 a5 a6 a7 a8 a9 a10 a11 a12 a13 a14 a15 a16 a17 (q + 1) (nI m)) :
    ∃ q, wX_share_11 post p0 p1 p2 p3 p4 nc lv (nI n) fc a1 a2 a3 a4 a5 a6 a7 a8 a9 a10 a11 a12 a13 a14 a15 a16 a17 q (nI 0) :=
  pk_loop (σ := Unit) (fun q i _ => wX_share_11 post p0 p1 p2 p3 p4 nc lv (nI n) fc a1 a2 a3 a4 a5 a6 a7 a8 a9 a10 a11 a12 a13 a14 a15 a16 a17 q (nI i)) (fun _ _ => True) m 0 () (by omega) trivial
    (fun q _ _ => H q)
    (fun q i _ hi _ hw => pk_le n i (fun z => absurd z (by omega)) (fun z => by
      have hin : vp_in (nI i) 450 := vp_in_nI (by omega) (by decide)
      have hc : (nI i).toNatClampNeg = i := nI_clamp (by omega)
      have hw' := hw () trivial
      obtain ⟨o, ho⟩ : ∃ o, L[i]? = some o := ⟨L[i]'(by omega), List.getElem?_eq_getElem (by omega)⟩
      obtain ⟨e7, e8, e9, e10, e11⟩ := h i o ho
      have hne := hno i o hi ho
      rw [hc, e7, e8, e9, e10]
      exact ⟨hin, br_c (fun g7 => ⟨hin, br_c (fun g8 => ⟨hin, br_c (fun g9 => ⟨hin, br_f (fun g10 => hne ⟨g7, g8, g9, g10⟩) (nm_r (nI_1 i) hw')⟩) (fun _ => nm_r (nI_1 i) hw')⟩) (fun _ => nm_r (nI_1 i) hw')⟩) (fun _ => nm_r (nI_1 i) hw')⟩))
theorem gc_share {post : Int32 → St2 → Prop} {L L' : List gc_O} {n : Nat} {p0 p1 p2 p3 p4 : Int32} (hn : L.length = n) (hL : L' = L ++ [(p0, p1, p2, p3, p4)]) (h : gc_ops L a7 a8 a9 a10 a11) (hno : gc_no L p0 p1 p2 p3 = true)
    (h450 : n < 450) (h0 : p0.toInt8.toInt32 = p0) (h1 : p1.toInt16.toInt32 = p1) (h2 : p2.toInt16.toInt32 = p2) (h4 : vp_nar .boolean p4 = p4)
    (H : ∀ b7 b8 b9 b10 b11 : Nat → Int32, gc_ops L' b7 b8 b9 b10 b11 → post (nI n) (nc, 2, nI (n + 1), fc, a1, a2, a3, a4, a5, a6, b7, b8, b9, b10, b11, a12, a13, a14, a15, a16, a17)) :
    wpX_share post (nc, 2, nI n, fc, a1, a2, a3, a4, a5, a6, a7, a8, a9, a10, a11, a12, a13, a14, a15, a16, a17) p0 p1 p2 p3 p4 := by
  unfold wpX_share
  dsimp only
  refine br_t rfl (gc_share_to hn h h450 (Nat.le_refl n) (fun j o _ hj => gc_no_at hno hj) (fun q => pk_le n n (fun _ => ?_) (fun z => absurd z (by omega))))
  unfold wX_share_74
  exact gc_append hn hL h h450 h0 h1 h2 h4 H
theorem gc_share_old {post : Int32 → St2 → Prop} {L : List gc_O} {n m : Nat} {p0 p1 p2 p3 p4 : Int32} (hn : L.length = n) (h : gc_ops L a7 a8 a9 a10 a11) (h450 : n < 450) (hm : m < n)
    (hno : gc_no (L.take m) p0 p1 p2 p3 = true) {o : gc_O} (ho : L[m]? = some o) (g0 : o.1 = p0) (g1 : o.2.1 = p1) (g2 : o.2.2.1 = p2) (g3 : o.2.2.2.1 = p3)
    (H : post (nI m) (nc, 2, nI n, fc, a1, a2, a3, a4, a5, a6, a7, a8, a9, a10, a11, a12, a13, a14, a15, a16, a17)) :
    wpX_share post (nc, 2, nI n, fc, a1, a2, a3, a4, a5, a6, a7, a8, a9, a10, a11, a12, a13, a14, a15, a16, a17) p0 p1 p2 p3 p4 := by
  unfold wpX_share
  dsimp only
  refine br_t rfl (gc_share_to hn h h450 (m := m) (by omega) (fun j o hj ho => gc_no_at hno (by rw [List.getElem?_take_of_lt hj]; exact ho)) (fun q => pk_le n m (fun z => absurd z (by omega)) (fun _ => ?_)))
  have hin : vp_in (nI m) 450 := vp_in_nI (by omega) (by decide)
  have hc : (nI m).toNatClampNeg = m := nI_clamp (by omega)
  obtain ⟨e7, e8, e9, e10, e11⟩ := h m o ho
  rw [hc, e7, e8, e9, e10]
  exact ⟨hin, br_t g0 ⟨hin, br_t g1 ⟨hin, br_t g2 ⟨hin, br_t g3 H⟩⟩⟩⟩
theorem gc_append2 {post : Int32 → St2 → Prop} {L L' : List gc_O} {n : Nat} {p0 p1 p2 p3 p4 : Int32} (hn : L.length = n) (hL : L' = L ++ [(p0, p1, p2, p3, p4)]) (h : gc_ops L a7 a8 a9 a10 a11)
    (h450 : n < 450) (h0 : p0.toInt8.toInt32 = p0) (h1 : p1.toInt16.toInt32 = p1) (h2 : p2.toInt16.toInt32 = p2) (h4 : vp_nar .boolean p4 = p4)
    (H : ∀ b7 b8 b9 b10 b11 : Nat → Int32, gc_ops L' b7 b8 b9 b10 b11 → post (nI n) (nc, lv, nI (n + 1), fc, a1, a2, a3, a4, a5, a6, b7, b8, b9, b10, b11, a12, a13, a14, a15, a16, a17)) :
    wpX_append_2 post (nc, lv, nI n, fc, a1, a2, a3, a4, a5, a6, a7, a8, a9, a10, a11, a12, a13, a14, a15, a16, a17) p0 p1 p2 p3 p4 := by
  have hc : (nI n).toNatClampNeg = n := nI_clamp (by omega)
  have hi : vp_in (nI n) 450 := vp_in_nI h450 (by decide)
  unfold wpX_append_2
  dsimp only
  rw [hc, h0, h1, h2, h4]
  refine ⟨hi, nm_e ⟨hi, nm_e ⟨hi, nm_e ⟨hi, nm_e ⟨hi, nm_e (nm_r (nI_1 n) ?_)⟩⟩⟩⟩⟩
  subst hL
  exact H _ _ _ _ _ (gc_ops_app hn h)
/-- the search: nothing like it is there ahead of m -/
theorem gc_shareB_to {post : Int32 → St2 → Prop} {L : List gc_O} {n m : Nat} {p0 p1 p2 p3 p4 : Int32} (hn : L.length = n) (h : gc_ops L a7 a8 a9 a10 a11) (h450 : n < 450) (hm : m ≤ n)
    (hno : ∀ j o, j < m → L[j]? = some o → ¬ (o.1 = p0 ∧ o.2.1 = p1 ∧ o.2.2.1 = p2 ∧ o.2.2.2.1 = p3))
    (H : ∀ q, wX_share_2_11 post p0 p1 p2 p3 p4 nc lv (nI n) fc a1 a2 a3 a4 a5 a6 a7 a8 a9 a10 a11 a12 a13 a14 a15 a16 a17 (q + 1) (nI m)) :
    ∃ q, wX_share_2_11 post p0 p1 p2 p3 p4 nc lv (nI n) fc a1 a2 a3 a4 a5 a6 a7 a8 a9 a10 a11 a12 a13 a14 a15 a16 a17 q (nI 0) :=
  pk_loop (σ := Unit) (fun q i _ => wX_share_2_11 post p0 p1 p2 p3 p4 nc lv (nI n) fc a1 a2 a3 a4 a5 a6 a7 a8 a9 a10 a11 a12 a13 a14 a15 a16 a17 q (nI i)) (fun _ _ => True) m 0 () (by omega) trivial
    (fun q _ _ => H q)
    (fun q i _ hi _ hw => pk_le n i (fun z => absurd z (by omega)) (fun z => by
      have hin : vp_in (nI i) 450 := vp_in_nI (by omega) (by decide)
      have hc : (nI i).toNatClampNeg = i := nI_clamp (by omega)
      have hw' := hw () trivial
      obtain ⟨o, ho⟩ : ∃ o, L[i]? = some o := ⟨L[i]'(by omega), List.getElem?_eq_getElem (by omega)⟩
      obtain ⟨e7, e8, e9, e10, e11⟩ := h i o ho
      have hne := hno i o hi ho
      rw [hc, e7, e8, e9, e10]
      exact ⟨hin, br_c (fun g7 => ⟨hin, br_c (fun g8 => ⟨hin, br_c (fun g9 => ⟨hin, br_f (fun g10 => hne ⟨g7, g8, g9, g10⟩) (nm_r (nI_1 i) hw')⟩) (fun _ => nm_r (nI_1 i) hw')⟩) (fun _ => nm_r (nI_1 i) hw')⟩) (fun _ => nm_r (nI_1 i) hw')⟩))
theorem gc_shareB {post : Int32 → St2 → Prop} {L L' : List gc_O} {n : Nat} {p0 p1 p2 p3 p4 : Int32} (hn : L.length = n) (hL : L' = L ++ [(p0, p1, p2, p3, p4)]) (h : gc_ops L a7 a8 a9 a10 a11) (hno : gc_no L p0 p1 p2 p3 = true)
    (h450 : n < 450) (h0 : p0.toInt8.toInt32 = p0) (h1 : p1.toInt16.toInt32 = p1) (h2 : p2.toInt16.toInt32 = p2) (h4 : vp_nar .boolean p4 = p4)
    (H : ∀ b7 b8 b9 b10 b11 : Nat → Int32, gc_ops L' b7 b8 b9 b10 b11 → post (nI n) (nc, 2, nI (n + 1), fc, a1, a2, a3, a4, a5, a6, b7, b8, b9, b10, b11, a12, a13, a14, a15, a16, a17)) :
    wpX_share_2 post (nc, 2, nI n, fc, a1, a2, a3, a4, a5, a6, a7, a8, a9, a10, a11, a12, a13, a14, a15, a16, a17) p0 p1 p2 p3 p4 := by
  unfold wpX_share_2
  dsimp only
  refine br_t rfl (gc_shareB_to hn h h450 (Nat.le_refl n) (fun j o _ hj => gc_no_at hno hj) (fun q => pk_le n n (fun _ => ?_) (fun z => absurd z (by omega))))
  unfold wX_share_2_74
  exact gc_append2 hn hL h h450 h0 h1 h2 h4 H
theorem gc_shareB_old {post : Int32 → St2 → Prop} {L : List gc_O} {n m : Nat} {p0 p1 p2 p3 p4 : Int32} (hn : L.length = n) (h : gc_ops L a7 a8 a9 a10 a11) (h450 : n < 450) (hm : m < n)
    (hno : gc_no (L.take m) p0 p1 p2 p3 = true) {o : gc_O} (ho : L[m]? = some o) (g0 : o.1 = p0) (g1 : o.2.1 = p1) (g2 : o.2.2.1 = p2) (g3 : o.2.2.2.1 = p3)
    (H : post (nI m) (nc, 2, nI n, fc, a1, a2, a3, a4, a5, a6, a7, a8, a9, a10, a11, a12, a13, a14, a15, a16, a17)) :
    wpX_share_2 post (nc, 2, nI n, fc, a1, a2, a3, a4, a5, a6, a7, a8, a9, a10, a11, a12, a13, a14, a15, a16, a17) p0 p1 p2 p3 p4 := by
  unfold wpX_share_2
  dsimp only
  refine br_t rfl (gc_shareB_to hn h h450 (m := m) (by omega) (fun j o hj ho => gc_no_at hno (by rw [List.getElem?_take_of_lt hj]; exact ho)) (fun q => pk_le n m (fun z => absurd z (by omega)) (fun _ => ?_)))
  have hin : vp_in (nI m) 450 := vp_in_nI (by omega) (by decide)
  have hc : (nI m).toNatClampNeg = m := nI_clamp (by omega)
  obtain ⟨e7, e8, e9, e10, e11⟩ := h m o ho
  rw [hc, e7, e8, e9, e10]
  exact ⟨hin, br_t g0 ⟨hin, br_t g1 ⟨hin, br_t g2 ⟨hin, br_t g3 H⟩⟩⟩⟩
end
end
section
/-! ===== 02: simplified answers -1; make; give; passOn ===== -/
def gc_nkb (L : List gc_O) (j : Nat) : Bool := match L[j]? with
  | some o => !decide (o.1 = 1)
  | none => false
def gc_nzb (L : List gc_O) (j : Nat) : Bool := match L[j]? with
  | some o => if o.1 = 1 then !decide (o.2.2.2.1 = 0) else if o.1 = 8 then (match L[o.2.1.toNatClampNeg]? with
    | some q => !decide (o.2.1 < 0) && (decide (q.1 = 1) && !decide (q.2.2.2.1 = 0))
    | none => false) else true
  | none => false
/-- operation j is there and makes a vector (w = 1) or a number (w = 0) -/
def gc_wd (L : List gc_O) (j : Nat) (w : Int32) : Prop := ∃ o, L[j]? = some o ∧ o.2.2.2.2 = w
theorem gc_wd_lt {L : List gc_O} {j : Nat} {w : Int32} (h : gc_wd L j w) : j < L.length := by
  obtain ⟨o, ho, _⟩ := h
  exact (List.getElem?_eq_some_iff.mp ho).1
theorem gc_wd_at {L : List gc_O} {j : Nat} {w : Int32} {a7 a8 a9 a10 a11 : Nat → Int32} (hL : gc_ops L a7 a8 a9 a10 a11) (h : gc_wd L j w) : a11 j = w := by
  obtain ⟨o, ho, e⟩ := h
  rw [← e]
  exact (hL j o ho).2.2.2.2
section
variable {nc lv le fc : Int32} {a1 a2 a3 a4 a5 a6 a7 a8 a9 a10 a11 a12 a13 a14 a15 a16 a17 : Nat → Int32}
theorem gc_isKnown {post : Int32 → Prop} {L : List gc_O} {j : Nat} (h : gc_ops L a7 a8 a9 a10 a11) (hl : L.length < 450) (hk : gc_nkb L j = true) (H : post 0) : wpX_isKnown post (nc, lv, le, fc, a1, a2, a3, a4, a5, a6, a7, a8, a9, a10, a11, a12, a13, a14, a15, a16, a17) (nI j) := by
  unfold gc_nkb at hk
  split at hk
  · rename_i o ho
    have hj := (List.getElem?_eq_some_iff.mp ho).1
    have h1 : ¬ o.1 = 1 := by simpa using hk
    unfold wpX_isKnown
    dsimp only
    exact ⟨vp_in_nI (by omega) (by decide), br_f (gc_rn (h j o ho).1 h1) H⟩
  · exact absurd hk (by decide)
theorem gc_isZero {post : Int32 → Prop} {L : List gc_O} {j : Nat} (h : gc_ops L a7 a8 a9 a10 a11) (hl : L.length < 450) (hk : gc_nzb L j = true) (H : post 0) : wpX_isZero post (nc, lv, le, fc, a1, a2, a3, a4, a5, a6, a7, a8, a9, a10, a11, a12, a13, a14, a15, a16, a17) (nI j) := by
  unfold gc_nzb at hk
  split at hk
  · rename_i o ho
    have hj := (List.getElem?_eq_some_iff.mp ho).1
    have hin : vp_in (nI j) 450 := vp_in_nI (by omega) (by decide)
    have hc : (nI j).toNatClampNeg = j := nI_clamp (by omega)
    obtain ⟨e7, e8, e9, e10, e11⟩ := h j o ho
    unfold wpX_isZero
    dsimp only
    rw [hc, e7, e8, e10]
    split at hk
    · rename_i h1
      have h2 : ¬ o.2.2.2.1 = 0 := by simpa using hk
      exact ⟨hin, br_t h1 ⟨hin, br_f h2 H⟩⟩
    · rename_i h1
      split at hk
      · rename_i h8
        split at hk
        · rename_i q hq
          have hf := (List.getElem?_eq_some_iff.mp hq).1
          rw [Bool.and_eq_true, Bool.and_eq_true] at hk
          have g0 : ¬ o.2.1 < 0 := by simpa using hk.1
          have g1 : q.1 = 1 := by simpa using hk.2.1
          have g2 : ¬ q.2.2.2.1 = 0 := by simpa using hk.2.2
          obtain ⟨f7, f8, f9, f10, f11⟩ := h _ q hq
          have hin2 : vp_in o.2.1 450 := fun z => z.elim g0 (fun z2 => by omega)
          rw [f7, f10]
          exact ⟨hin, br_f h1 ⟨hin, br_t h8 ⟨hin, hin2, br_t g1 ⟨hin, hin2, br_f g2 H⟩⟩⟩⟩
        · exact absurd hk (by decide)
      · rename_i h8
        exact ⟨hin, br_f h1 ⟨hin, br_f h8 H⟩⟩
  · exact absurd hk (by decide)
/-! simplified -/
theorem gc_sim0 {p1 p2 p3 p4 : Int32} (post : Int32 → St2 → Prop) (H : post (-1) (nc, lv, le, fc, a1, a2, a3, a4, a5, a6, a7, a8, a9, a10, a11, a12, a13, a14, a15, a16, a17)) : wpX_simplified post (nc, lv, le, fc, a1, a2, a3, a4, a5, a6, a7, a8, a9, a10, a11, a12, a13, a14, a15, a16, a17) 0 p1 p2 p3 p4 := by
  unfold wpX_simplified
  dsimp only
  exact br_t rfl H
theorem gc_sim8 {p1 p2 p3 p4 : Int32} (post : Int32 → St2 → Prop) (H : post (-1) (nc, lv, le, fc, a1, a2, a3, a4, a5, a6, a7, a8, a9, a10, a11, a12, a13, a14, a15, a16, a17)) : wpX_simplified post (nc, lv, le, fc, a1, a2, a3, a4, a5, a6, a7, a8, a9, a10, a11, a12, a13, a14, a15, a16, a17) 8 p1 p2 p3 p4 := by
  unfold wpX_simplified
  dsimp only
  exact br_f (by decide) (br_f (by decide) (br_f (by decide) (br_f (by decide) (br_f (by decide) (br_f (by decide) (br_f (by decide) (br_t rfl H)))))))
theorem gc_sim4 {L : List gc_O} {a b : Nat} {p3 p4 : Int32} (h : gc_ops L a7 a8 a9 a10 a11) (hl : L.length < 450) (ka : gc_nkb L a = true) (za : gc_nzb L a = true) (kb : gc_nkb L b = true) (zb : gc_nzb L b = true)
    (post : Int32 → St2 → Prop) (H : post (-1) (nc, lv, le, fc, a1, a2, a3, a4, a5, a6, a7, a8, a9, a10, a11, a12, a13, a14, a15, a16, a17)) : wpX_simplified post (nc, lv, le, fc, a1, a2, a3, a4, a5, a6, a7, a8, a9, a10, a11, a12, a13, a14, a15, a16, a17) 4 (nI a) (nI b) p3 p4 := by
  unfold wpX_simplified
  dsimp only
  refine br_f (by decide) (br_f (by decide) (br_f (by decide) (br_f (by decide) (br_f (by decide) (br_t rfl ?_)))))
  unfold wX_simplified_32 wpX_simplerCombined
  dsimp only
  refine gc_isKnown h hl ka (br_t rfl ?_)
  unfold wX_simplerCombined_68
  refine br_t rfl (gc_isZero h hl za (br_t rfl (gc_isZero h hl zb (br_t rfl (gc_isKnown h hl ka (br_t rfl ?_))))))
  unfold wX_simplerCombined_116
  exact gc_isKnown h hl kb (br_t rfl H)
theorem gc_sim5 {L : List gc_O} {a : Nat} {x p2 p3 p4 : Int32} (h : gc_ops L a7 a8 a9 a10 a11) (hl : L.length < 450) (za : gc_nzb L a = true) (ea : a7 a = x) (hx : ¬ x = 12)
    (post : Int32 → St2 → Prop) (H : post (-1) (nc, lv, le, fc, a1, a2, a3, a4, a5, a6, a7, a8, a9, a10, a11, a12, a13, a14, a15, a16, a17)) : a < 450 → wpX_simplified post (nc, lv, le, fc, a1, a2, a3, a4, a5, a6, a7, a8, a9, a10, a11, a12, a13, a14, a15, a16, a17) 5 (nI a) p2 p3 p4 := by
  intro ha
  unfold wpX_simplified
  dsimp only
  refine br_f (by decide) (br_f (by decide) (br_f (by decide) (br_f (by decide) (br_f (by decide) (br_f (by decide) (br_f (by decide) (br_f (by decide) (gc_isZero h hl za (br_t rfl (br_f (by decide) ?_))))))))))
  unfold wX_simplified_122
  refine br_f (by decide) ?_
  unfold wX_simplified_165
  exact br_t rfl ⟨vp_in_nI ha (by decide), br_f (gc_rn ea hx) H⟩
theorem gc_sim7 {L : List gc_O} {a : Nat} {x p2 p3 p4 : Int32} (h : gc_ops L a7 a8 a9 a10 a11) (hl : L.length < 450) (za : gc_nzb L a = true) (ea : a7 a = x) (hx : ¬ x = 12) (hx8 : ¬ x = 8)
    (post : Int32 → St2 → Prop) (H : post (-1) (nc, lv, le, fc, a1, a2, a3, a4, a5, a6, a7, a8, a9, a10, a11, a12, a13, a14, a15, a16, a17)) : a < 450 → wpX_simplified post (nc, lv, le, fc, a1, a2, a3, a4, a5, a6, a7, a8, a9, a10, a11, a12, a13, a14, a15, a16, a17) 7 (nI a) p2 p3 p4 := by
  intro ha
  have hin : vp_in (nI a) 450 := vp_in_nI ha (by decide)
  unfold wpX_simplified
  dsimp only
  refine br_f (by decide) (br_f (by decide) (br_f (by decide) (br_f (by decide) (br_f (by decide) (br_f (by decide) (br_f (by decide) (br_f (by decide) (gc_isZero h hl za (br_t rfl (br_t rfl ⟨hin, br_f (gc_rn ea hx8) ?_⟩))))))))))
  unfold wX_simplified_122
  refine br_t rfl ⟨hin, br_f (gc_rn ea hx) ?_⟩
  unfold wX_simplified_165
  exact br_f (by decide) H
theorem gc_sim12 {L : List gc_O} {a : Nat} {p2 p3 p4 : Int32} (h : gc_ops L a7 a8 a9 a10 a11) (hl : L.length < 450) (za : gc_nzb L a = true)
    (post : Int32 → St2 → Prop) (H : post (-1) (nc, lv, le, fc, a1, a2, a3, a4, a5, a6, a7, a8, a9, a10, a11, a12, a13, a14, a15, a16, a17)) : wpX_simplified post (nc, lv, le, fc, a1, a2, a3, a4, a5, a6, a7, a8, a9, a10, a11, a12, a13, a14, a15, a16, a17) 12 (nI a) p2 p3 p4 := by
  unfold wpX_simplified
  dsimp only
  refine br_f (by decide) (br_f (by decide) (br_f (by decide) (br_f (by decide) (br_f (by decide) (br_f (by decide) (br_f (by decide) (br_f (by decide) (gc_isZero h hl za (br_t rfl (br_f (by decide) ?_))))))))))
  unfold wX_simplified_122
  refine br_f (by decide) ?_
  unfold wX_simplified_165
  exact br_f (by decide) H
/-- make: nothing simpler, nothing like it there -/
theorem gc_make {post : Int32 → St2 → Prop} {L L' : List gc_O} {n : Nat} {p0 p1 p2 p3 p4 : Int32} (hn : L.length = n) (hL : L' = L ++ [(p0, p1, p2, p3, p4)]) (h : gc_ops L a7 a8 a9 a10 a11) (hno : gc_no L p0 p1 p2 p3 = true)
    (hs : ∀ ps : Int32 → St2 → Prop, ps (-1) (nc, 2, nI n, fc, a1, a2, a3, a4, a5, a6, a7, a8, a9, a10, a11, a12, a13, a14, a15, a16, a17) → wpX_simplified ps (nc, 2, nI n, fc, a1, a2, a3, a4, a5, a6, a7, a8, a9, a10, a11, a12, a13, a14, a15, a16, a17) p0 p1 p2 p3 p4)
    (h450 : n < 450) (h0 : p0.toInt8.toInt32 = p0) (h1 : p1.toInt16.toInt32 = p1) (h2 : p2.toInt16.toInt32 = p2) (h4 : vp_nar .boolean p4 = p4)
    (H : ∀ b7 b8 b9 b10 b11 : Nat → Int32, gc_ops L' b7 b8 b9 b10 b11 → post (nI n) (nc, 2, nI (n + 1), fc, a1, a2, a3, a4, a5, a6, b7, b8, b9, b10, b11, a12, a13, a14, a15, a16, a17)) :
    wpX_make post (nc, 2, nI n, fc, a1, a2, a3, a4, a5, a6, a7, a8, a9, a10, a11, a12, a13, a14, a15, a16, a17) p0 p1 p2 p3 p4 := by
  unfold wpX_make
  dsimp only
  refine br_f (by decide) (hs _ (br_t (by decide) ?_))
  unfold wX_make_28
  exact gc_share hn hL h hno h450 h0 h1 h2 h4 H
/-! give -/
theorem gc_give59 {post : St2 → Prop} {t g : Nat} (ht : t < 450) (hg : g < 450) (h13 : a13 t = -1) (H : post (nc, lv, le, fc, a1, a2, a3, a4, a5, a6, a7, a8, a9, a10, a11, a12, upd a13 t (nI g), a14, a15, a16, a17)) : wX_give_59 post (nI t) (nI g) nc lv le fc a1 a2 a3 a4 a5 a6 a7 a8 a9 a10 a11 a12 a13 a14 a15 a16 a17 := by
  have hin : vp_in (nI t) 450 := vp_in_nI ht (by decide)
  unfold wX_give_59
  refine ⟨hin, br_t (by rw [gc_rd h13]; decide) ⟨hin, nm_r (e' := upd a13 t (nI g)) (by rw [nI_clamp (by omega), gc_s16 g (by omega)]) H⟩⟩
theorem gc_giveWW {post : St2 → Prop} {t g : Nat} (ht : t < 450) (hg : g < 450) (wt : a11 t = 1) (wg : a11 g = 1) (h13 : a13 t = -1) (H : post (nc, lv, le, fc, a1, a2, a3, a4, a5, a6, a7, a8, a9, a10, a11, a12, upd a13 t (nI g), a14, a15, a16, a17)) : wpX_give post (nc, lv, le, fc, a1, a2, a3, a4, a5, a6, a7, a8, a9, a10, a11, a12, a13, a14, a15, a16, a17) (nI t) (nI g) := by
  have hin : vp_in (nI t) 450 := vp_in_nI ht (by decide)
  have hin2 : vp_in (nI g) 450 := vp_in_nI hg (by decide)
  unfold wpX_give
  dsimp only
  refine ⟨hin, br_f (gc_rn wt (by decide)) ⟨hin2, br_f (gc_rn wg (by decide)) ?_⟩⟩
  unfold wX_give_31
  exact ⟨hin, br_f (gc_rn wt (by decide)) (gc_give59 ht hg h13 H)⟩
/-- a number goes to a vector: spread -/
theorem gc_giveWN {post : St2 → Prop} {L L' : List gc_O} {n t g : Nat} (hn : L.length = n) (hL : L' = L ++ [(8, nI g, -1, 0, 1)]) (h : gc_ops L a7 a8 a9 a10 a11) (h450 : n < 450) (wt : gc_wd L t 1) (wg : gc_wd L g 0) (wt' : gc_wd L' t 1) (hno : gc_no L 8 (nI g) (-1) 0 = true) (h13 : a13 t = -1)
    (H : ∀ b7 b8 b9 b10 b11 : Nat → Int32, gc_ops L' b7 b8 b9 b10 b11 → post (nc, 2, nI (n + 1), fc, a1, a2, a3, a4, a5, a6, b7, b8, b9, b10, b11, a12, upd a13 t (nI n), a14, a15, a16, a17)) :
    wpX_give post (nc, 2, nI n, fc, a1, a2, a3, a4, a5, a6, a7, a8, a9, a10, a11, a12, a13, a14, a15, a16, a17) (nI t) (nI g) := by
  have ht := gc_wd_lt wt
  have hg := gc_wd_lt wg
  have hin : vp_in (nI t) 450 := vp_in_nI (by omega) (by decide)
  have hin2 : vp_in (nI g) 450 := vp_in_nI (by omega) (by decide)
  unfold wpX_give
  dsimp only
  refine ⟨hin, br_f (gc_rn (gc_wd_at h wt) (by decide)) ⟨hin2, br_t (gc_rd (gc_wd_at h wg)) (gc_make hn hL h hno gc_sim8 h450 (by decide) (gc_s16 g (by omega)) (by decide) (by decide) (fun b7 b8 b9 b10 b11 hb => ?_))⟩⟩
  show wX_give_31 post (nI t) (nI g) (nI n) nc 2 (nI (n + 1)) fc a1 a2 a3 a4 a5 a6 b7 b8 b9 b10 b11 a12 a13 a14 a15 a16 a17
  unfold wX_give_31
  exact ⟨hin, br_f (gc_rn (gc_wd_at hb wt') (by decide)) (gc_give59 (by omega) h450 h13 (H b7 b8 b9 b10 b11 hb))⟩
/-- a vector goes to a number: its sum -/
theorem gc_giveNW {post : St2 → Prop} {L L' : List gc_O} {n t g : Nat} {x : Int32} (hn : L.length = n) (hL : L' = L ++ [(5, nI g, -1, 0, 0)]) (h : gc_ops L a7 a8 a9 a10 a11) (h450 : n < 450) (wt : gc_wd L t 0) (wg : gc_wd L g 1) (zg : gc_nzb L g = true) (eg : a7 g = x) (hx : ¬ x = 12) (hno : gc_no L 5 (nI g) (-1) 0 = true) (h13 : a13 t = -1)
    (H : ∀ b7 b8 b9 b10 b11 : Nat → Int32, gc_ops L' b7 b8 b9 b10 b11 → post (nc, 2, nI (n + 1), fc, a1, a2, a3, a4, a5, a6, b7, b8, b9, b10, b11, a12, upd a13 t (nI n), a14, a15, a16, a17)) :
    wpX_give post (nc, 2, nI n, fc, a1, a2, a3, a4, a5, a6, a7, a8, a9, a10, a11, a12, a13, a14, a15, a16, a17) (nI t) (nI g) := by
  have ht := gc_wd_lt wt
  have hg := gc_wd_lt wg
  have hin : vp_in (nI t) 450 := vp_in_nI (by omega) (by decide)
  have hin2 : vp_in (nI g) 450 := vp_in_nI (by omega) (by decide)
  unfold wpX_give
  dsimp only
  refine ⟨hin, br_t (gc_rd (gc_wd_at h wt)) ?_⟩
  unfold wX_give_31
  refine ⟨hin, br_t (gc_rd (gc_wd_at h wt)) ⟨hin2, br_f (gc_rn (gc_wd_at h wg) (by decide)) (gc_make hn hL h hno (fun ps hp => gc_sim5 h (by omega) zg eg hx ps hp (by omega)) h450 (by decide) (gc_s16 g (by omega)) (by decide) (by decide) (fun b7 b8 b9 b10 b11 hb => ?_))⟩⟩
  exact gc_give59 (by omega) h450 h13 (H b7 b8 b9 b10 b11 hb)
/-! passOn -/
theorem gc_passIn {post : St2 → Prop} {j k g : Nat} (hj : j < 450) (hk : k < 3) (hg : g < 450) (e7 : a7 j = 0) (e10 : a10 j = nI k) (h14 : a14 k = -1) (H : post (nc, lv, le, fc, a1, a2, a3, a4, a5, a6, a7, a8, a9, a10, a11, a12, a13, upd a14 k (nI g), a15, a16, a17)) : wpX_passOn post (nc, lv, le, fc, a1, a2, a3, a4, a5, a6, a7, a8, a9, a10, a11, a12, a13, a14, a15, a16, a17) (nI j) (nI g) := by
  have hin : vp_in (nI j) 450 := vp_in_nI hj (by decide)
  have hin2 : vp_in (nI k) 3 := vp_in_nI hk (by decide)
  unfold wpX_passOn
  dsimp only
  refine ⟨hin, nm_r (gc_rd e7) ⟨hin, nm_e ⟨hin, nm_e ⟨hin, nm_r (gc_rd e10) (br_t rfl ?_)⟩⟩⟩⟩
  unfold wpX_giveInput
  dsimp only
  exact ⟨hin2, br_t (by rw [gc_rd h14]; decide) ⟨hin2, nm_r (e' := upd a14 k (nI g)) (by rw [nI_clamp (by omega), gc_s16 g (by omega)]) H⟩⟩
theorem gc_passConst {post : St2 → Prop} {j : Nat} {g : Int32} (hj : j < 450) (e7 : a7 j = 1) (H : post (nc, lv, le, fc, a1, a2, a3, a4, a5, a6, a7, a8, a9, a10, a11, a12, a13, a14, a15, a16, a17)) : wpX_passOn post (nc, lv, le, fc, a1, a2, a3, a4, a5, a6, a7, a8, a9, a10, a11, a12, a13, a14, a15, a16, a17) (nI j) g := by
  have hin : vp_in (nI j) 450 := vp_in_nI hj (by decide)
  unfold wpX_passOn
  dsimp only
  exact ⟨hin, nm_r (gc_rd e7) ⟨hin, nm_e ⟨hin, nm_e ⟨hin, nm_e (br_f (by decide) (br_f (by decide) (br_f (by decide) (br_f (by decide) (br_t rfl H)))))⟩⟩⟩⟩
/-- SUM: a number goes to a vector -/
theorem gc_passSum {post : St2 → Prop} {L L' : List gc_O} {n j t g : Nat} (hj : j < 450) (e7 : a7 j = 5) (e8 : a8 j = nI t) (hn : L.length = n) (hL : L' = L ++ [(8, nI g, -1, 0, 1)]) (h : gc_ops L a7 a8 a9 a10 a11) (h450 : n < 450) (wt : gc_wd L t 1) (wg : gc_wd L g 0) (wt' : gc_wd L' t 1) (hno : gc_no L 8 (nI g) (-1) 0 = true) (h13 : a13 t = -1)
    (H : ∀ b7 b8 b9 b10 b11 : Nat → Int32, gc_ops L' b7 b8 b9 b10 b11 → post (nc, 2, nI (n + 1), fc, a1, a2, a3, a4, a5, a6, b7, b8, b9, b10, b11, a12, upd a13 t (nI n), a14, a15, a16, a17)) :
    wpX_passOn post (nc, 2, nI n, fc, a1, a2, a3, a4, a5, a6, a7, a8, a9, a10, a11, a12, a13, a14, a15, a16, a17) (nI j) (nI g) := by
  have hin : vp_in (nI j) 450 := vp_in_nI hj (by decide)
  unfold wpX_passOn
  dsimp only
  refine ⟨hin, nm_r (gc_rd e7) ⟨hin, nm_r (gc_rd e8) ⟨hin, nm_e ⟨hin, nm_e (br_f (by decide) (br_f (by decide) (br_f (by decide) (br_f (by decide) (br_f (by decide) (br_f (by decide) ?_))))))⟩⟩⟩⟩
  unfold wpX_passUnary
  dsimp only
  refine br_f (by decide) (br_t rfl ?_)
  unfold wX_passUnary_44
  exact gc_giveWN hn hL h h450 wt wg wt' hno h13 H
/-- SPREAD: a vector goes to a number -/
theorem gc_passSpread {post : St2 → Prop} {L L' : List gc_O} {n j t g : Nat} {x : Int32} (hj : j < 450) (e7 : a7 j = 8) (e8 : a8 j = nI t) (hn : L.length = n) (hL : L' = L ++ [(5, nI g, -1, 0, 0)]) (h : gc_ops L a7 a8 a9 a10 a11) (h450 : n < 450) (wt : gc_wd L t 0) (wg : gc_wd L g 1) (zg : gc_nzb L g = true) (eg : a7 g = x) (hx : ¬ x = 12) (hno : gc_no L 5 (nI g) (-1) 0 = true) (h13 : a13 t = -1)
    (H : ∀ b7 b8 b9 b10 b11 : Nat → Int32, gc_ops L' b7 b8 b9 b10 b11 → post (nc, 2, nI (n + 1), fc, a1, a2, a3, a4, a5, a6, b7, b8, b9, b10, b11, a12, upd a13 t (nI n), a14, a15, a16, a17)) :
    wpX_passOn post (nc, 2, nI n, fc, a1, a2, a3, a4, a5, a6, a7, a8, a9, a10, a11, a12, a13, a14, a15, a16, a17) (nI j) (nI g) := by
  have hin : vp_in (nI j) 450 := vp_in_nI hj (by decide)
  unfold wpX_passOn
  dsimp only
  refine ⟨hin, nm_r (gc_rd e7) ⟨hin, nm_r (gc_rd e8) ⟨hin, nm_e ⟨hin, nm_e (br_f (by decide) (br_f (by decide) (br_f (by decide) (br_f (by decide) (br_f (by decide) (br_f (by decide) ?_))))))⟩⟩⟩⟩
  unfold wpX_passUnary
  dsimp only
  refine br_f (by decide) (br_f (by decide) (br_t rfl ?_))
  unfold wX_passUnary_44
  exact gc_giveNW hn hL h h450 wt wg zg eg hx hno h13 H
/-- PICK: the number's place in a vector -/
theorem gc_passPick {post : St2 → Prop} {L L' : List gc_O} {n j t g : Nat} {p3 : Int32} (hj : j < 450) (e7 : a7 j = 7) (e8 : a8 j = nI t) (e10 : a10 j = p3) (hn : L.length = n) (hL : L' = L ++ [(12, nI g, -1, p3, 1)]) (h : gc_ops L a7 a8 a9 a10 a11) (h450 : n < 450) (wt' : gc_wd L' t 1) (wn' : gc_wd L' n 1) (wg : gc_wd L g 0) (zg : gc_nzb L g = true) (hno : gc_no L 12 (nI g) (-1) p3 = true) (ht : t < 450) (h13 : a13 t = -1)
    (H : ∀ b7 b8 b9 b10 b11 : Nat → Int32, gc_ops L' b7 b8 b9 b10 b11 → post (nc, 2, nI (n + 1), fc, a1, a2, a3, a4, a5, a6, b7, b8, b9, b10, b11, a12, upd a13 t (nI n), a14, a15, a16, a17)) :
    wpX_passOn post (nc, 2, nI n, fc, a1, a2, a3, a4, a5, a6, a7, a8, a9, a10, a11, a12, a13, a14, a15, a16, a17) (nI j) (nI g) := by
  have hin : vp_in (nI j) 450 := vp_in_nI hj (by decide)
  have hg := gc_wd_lt wg
  unfold wpX_passOn
  dsimp only
  refine ⟨hin, nm_r (gc_rd e7) ⟨hin, nm_r (gc_rd e8) ⟨hin, nm_e ⟨hin, nm_r (gc_rd e10) (br_f (by decide) (br_f (by decide) (br_f (by decide) (br_f (by decide) (br_f (by decide) (br_f (by decide) ?_))))))⟩⟩⟩⟩
  unfold wpX_passUnary
  dsimp only
  refine br_f (by decide) (br_f (by decide) (br_f (by decide) (br_f (by decide) (br_t rfl (gc_make hn hL h hno (gc_sim12 h (by omega) zg) h450 (by decide) (gc_s16 g (by omega)) (by decide) (by decide) (fun b7 b8 b9 b10 b11 hb => ?_))))))
  show wX_passUnary_150 _ (nI t) (nI n) nc 2 (nI (n + 1)) fc a1 a2 a3 a4 a5 a6 b7 b8 b9 b10 b11 a12 a13 a14 a15 a16 a17
  unfold wX_passUnary_150
  exact gc_giveWW ht h450 (gc_wd_at hb wt') (gc_wd_at hb wn') h13 (H b7 b8 b9 b10 b11 hb)
/-- MUL of vectors -/
theorem gc_passMul {post : St2 → Prop} {L L' L'' : List gc_O} {n j a b g : Nat} (hj : j < 450) (e7 : a7 j = 4) (e8 : a8 j = nI a) (e9 : a9 j = nI b) (hn : L.length = n) (hL : L' = L ++ [(4, nI g, nI b, 0, 1)]) (hL' : L'' = L' ++ [(4, nI g, nI a, 0, 1)]) (h : gc_ops L a7 a8 a9 a10 a11) (h450 : n + 1 < 450)
    (wg : gc_wd L g 1) (wg' : gc_wd L' g 1) (wa : gc_wd L'' a 1) (wb : gc_wd L'' b 1) (wn : gc_wd L'' n 1) (wn' : gc_wd L'' (n + 1) 1)
    (kg : gc_nkb L g = true) (zg : gc_nzb L g = true) (kb : gc_nkb L b = true) (zb : gc_nzb L b = true) (kg' : gc_nkb L' g = true) (zg' : gc_nzb L' g = true) (ka : gc_nkb L' a = true) (za : gc_nzb L' a = true)
    (hno : gc_no L 4 (nI g) (nI b) 0 = true) (hno' : gc_no L' 4 (nI g) (nI a) 0 = true) (hab : b ≠ a) (ha13 : a13 a = -1) (hb13 : a13 b = -1) (ha : a < 450) (hb : b < 450)
    (H : ∀ b7 b8 b9 b10 b11 : Nat → Int32, gc_ops L'' b7 b8 b9 b10 b11 → post (nc, 2, nI (n + 1 + 1), fc, a1, a2, a3, a4, a5, a6, b7, b8, b9, b10, b11, a12, upd (upd a13 a (nI n)) b (nI (n + 1)), a14, a15, a16, a17)) :
    wpX_passOn post (nc, 2, nI n, fc, a1, a2, a3, a4, a5, a6, a7, a8, a9, a10, a11, a12, a13, a14, a15, a16, a17) (nI j) (nI g) := by
  have hg := gc_wd_lt wg
  have hin : vp_in (nI j) 450 := vp_in_nI hj (by decide)
  have hin2 : vp_in (nI g) 450 := vp_in_nI (by omega) (by decide)
  have hn' : L'.length = n + 1 := by rw [hL, List.length_append, hn]; rfl
  unfold wpX_passOn
  dsimp only
  refine ⟨hin, nm_r (gc_rd e7) ⟨hin, nm_r (gc_rd e8) ⟨hin, nm_r (gc_rd e9) ⟨hin, nm_e (br_f (by decide) (br_f (by decide) (br_f (by decide) (br_t rfl ⟨hin2, br_f (gc_rn (gc_wd_at h wg) (by decide)) ?_⟩))))⟩⟩⟩⟩
  unfold wX_passOn_149 wX_passOn_154
  refine gc_make hn hL h hno (gc_sim4 h (by omega) kg zg kb zb) (by omega) (by decide) (gc_s16 g (by omega)) (gc_s16 b (by omega)) (by decide) (fun b7 b8 b9 b10 b11 hb1 => ⟨hin2, br_f (gc_rn (gc_wd_at hb1 wg') (by decide)) ?_⟩)
  unfold wX_passOn_184 wX_passOn_189
  refine gc_make hn' hL' hb1 hno' (gc_sim4 hb1 (by omega) kg' zg' ka za) (by omega) (by decide) (gc_s16 g (by omega)) (gc_s16 a (by omega)) (by decide) (fun c7 c8 c9 c10 c11 hc1 => ?_)
  refine gc_giveWW ha (by omega) (gc_wd_at hc1 wa) (gc_wd_at hc1 wn) ha13 ?_
  exact gc_giveWW hb (by omega) (gc_wd_at hc1 wb) (gc_wd_at hc1 wn') (by rw [pk_un hab]; exact hb13) (H c7 c8 c9 c10 c11 hc1)
end
end
section
/-! ===== 03: trace and backwards ===== -/
theorem gc_no1 : ∀ i, i < 4 → gc_no ((gc_P i).take 0) 0 (-1) (-1) 0 = true ∧ gc_no ((gc_P i).take 1) 0 (-1) (-1) 2 = true ∧ gc_no ((gc_P i).take 2) 4 (nI 1) (nI 0) 0 = true ∧ gc_no ((gc_P i).take 3) 5 (nI 2) (-1) 0 = true := by decide +kernel
theorem gc_no2 : ∀ i, i < 4 → gc_no ((gc_P i).take 4) 1 (-1) (-1) 1 = true ∧ gc_no ((gc_P i).take 5) 8 (nI 4) (-1) 0 = true ∧ gc_no ((gc_P i).take 6) 4 (nI 5) (nI 0) 0 = true ∧ gc_no ((gc_P i).take 7) 4 (nI 5) (nI 1) 0 = true := by decide +kernel
theorem gc_no3 : ∀ i, i < 4 → gc_no ((gc_P i).take 8) 7 (nI 7) (-1) (nI i) = true ∧ gc_no (((gc_P i).take 9).take 4) 1 (-1) (-1) 1 = true ∧ gc_no ((gc_P i).take 9) 12 (nI 4) (-1) (nI i) = true ∧ gc_no ((gc_P i).take 10) 4 (nI 9) (nI 1) 0 = true ∧ gc_no ((gc_P i).take 11) 4 (nI 9) (nI 5) 0 = true ∧ gc_no ((gc_P i).take 12) 5 (nI 10) (-1) 0 = true := by decide +kernel
theorem gc_k1 : ∀ i, i < 4 → gc_nkb ((gc_P i).take 2) 1 = true ∧ gc_nzb ((gc_P i).take 2) 1 = true ∧ gc_nkb ((gc_P i).take 2) 0 = true ∧ gc_nzb ((gc_P i).take 2) 0 = true ∧ gc_nzb ((gc_P i).take 3) 2 = true := by decide +kernel
theorem gc_k2 : ∀ i, i < 4 → (gc_nkb ((gc_P i).take 6) 5 = true ∧ gc_nzb ((gc_P i).take 6) 5 = true ∧ gc_nkb ((gc_P i).take 6) 0 = true ∧ gc_nzb ((gc_P i).take 6) 0 = true) ∧ (gc_nkb ((gc_P i).take 7) 5 = true ∧ gc_nzb ((gc_P i).take 7) 5 = true ∧ gc_nkb ((gc_P i).take 7) 1 = true ∧ gc_nzb ((gc_P i).take 7) 1 = true) := by decide +kernel
theorem gc_k3 : ∀ i, i < 4 → gc_nzb ((gc_P i).take 8) 7 = true ∧ gc_nzb ((gc_P i).take 9) 4 = true ∧ gc_nzb ((gc_P i).take 12) 10 = true := by decide +kernel
theorem gc_k4 : ∀ i, i < 4 → (gc_nkb ((gc_P i).take 10) 9 = true ∧ gc_nzb ((gc_P i).take 10) 9 = true ∧ gc_nkb ((gc_P i).take 10) 1 = true ∧ gc_nzb ((gc_P i).take 10) 1 = true) ∧ (gc_nkb ((gc_P i).take 11) 9 = true ∧ gc_nzb ((gc_P i).take 11) 9 = true ∧ gc_nkb ((gc_P i).take 11) 5 = true ∧ gc_nzb ((gc_P i).take 11) 5 = true) := by decide +kernel
/-- the four nodes -/
def gc_nd (a1 a2 a3 a4 : Nat → Int32) : Prop := a1 0 = 0 ∧ a1 1 = 0 ∧ a1 2 = 4 ∧ a1 3 = 5 ∧ a2 0 = 0 ∧ a2 1 = 2 ∧ a2 2 = nI 1 ∧ a2 3 = nI 2 ∧ a3 2 = nI 0 ∧ a4 2 = 1 ∧ a4 3 = 0
theorem gc_m1 {x : Int32} (h : x = -1) : x < 0 := by rw [h]; decide
theorem gc_p1 {x : Int32} {g : Nat} (h : x = nI g) (hg : g < 450) : ¬ x < 0 := by rw [h]; exact nI_pos (by omega)
theorem gc_fill {s : Nat → Int32} {x : Int32} {i : Nat} (hi : i < 2 ^ 31) (h : ∀ j, j < i → s j = x) : ∀ j, j < i + 1 → upd s (nI i).toNatClampNeg x j = x := by
  intro j hj
  rw [nI_clamp hi]
  by_cases e : j = i
  · rw [e, pk_us]
  · rw [pk_un e]
    exact h j (by omega)
section
variable {nc lv le fc : Int32} {a1 a2 a3 a4 a5 a6 a7 a8 a9 a10 a11 a12 a13 a14 a15 a16 a17 : Nat → Int32}
theorem gc_tnIn {post : Int32 → St2 → Prop} {L L' : List gc_O} {n j : Nat} {x : Int32} (hj : j < 12) (e1 : a1 j = 0) (e2 : a2 j = x) (hn : L.length = n) (hL : L' = L ++ [(0, -1, -1, x, 1)]) (h : gc_ops L a7 a8 a9 a10 a11) (h450 : n < 450) (hno : gc_no L 0 (-1) (-1) x = true)
    (H : ∀ b7 b8 b9 b10 b11 : Nat → Int32, gc_ops L' b7 b8 b9 b10 b11 → post (nI n) (nc, 2, nI (n + 1), fc, a1, a2, a3, a4, a5, a6, b7, b8, b9, b10, b11, a12, a13, a14, a15, a16, a17)) :
    wpX_traceNode post (nc, 2, nI n, fc, a1, a2, a3, a4, a5, a6, a7, a8, a9, a10, a11, a12, a13, a14, a15, a16, a17) (nI j) := by
  have hin : vp_in (nI j) 12 := vp_in_nI hj (by decide)
  unfold wpX_traceNode
  dsimp only
  exact ⟨hin, nm_r (gc_rd e1) ⟨hin, nm_r (gc_rd e2) (br_t rfl (gc_make hn hL h hno gc_sim0 h450 (by decide) (by decide) (by decide) (by decide) H))⟩⟩
theorem gc_tnMul {post : Int32 → St2 → Prop} {L L' : List gc_O} {n j x y a b : Nat} (hj : j < 12) (e1 : a1 j = 4) (e2 : a2 j = nI x) (hx : x < 12) (e12 : a12 x = nI a) (e3 : a3 j = nI y) (hy : y < 12) (f12 : a12 y = nI b) (e4 : a4 j = 1) (ha : a < 450) (hb : b < 450)
    (hn : L.length = n) (hL : L' = L ++ [(4, nI a, nI b, 0, 1)]) (h : gc_ops L a7 a8 a9 a10 a11) (h450 : n < 450) (hno : gc_no L 4 (nI a) (nI b) 0 = true) (ka : gc_nkb L a = true) (za : gc_nzb L a = true) (kb : gc_nkb L b = true) (zb : gc_nzb L b = true)
    (H : ∀ b7 b8 b9 b10 b11 : Nat → Int32, gc_ops L' b7 b8 b9 b10 b11 → post (nI n) (nc, 2, nI (n + 1), fc, a1, a2, a3, a4, a5, a6, b7, b8, b9, b10, b11, a12, a13, a14, a15, a16, a17)) :
    wpX_traceNode post (nc, 2, nI n, fc, a1, a2, a3, a4, a5, a6, a7, a8, a9, a10, a11, a12, a13, a14, a15, a16, a17) (nI j) := by
  have hin : vp_in (nI j) 12 := vp_in_nI hj (by decide)
  have hc : (nI j).toNatClampNeg = j := nI_clamp (by omega)
  have hcy : (nI y).toNatClampNeg = y := nI_clamp (by omega)
  unfold wpX_traceNode
  dsimp only
  refine ⟨hin, nm_r (gc_rd e1) ⟨hin, nm_r (gc_rd e2) (br_f (by decide) (br_f (by decide) ⟨vp_in_nI hx (by decide), nm_r (gc_rd e12) (br_f (by decide) ?_)⟩))⟩⟩
  rw [hc, e3, e4, hcy, f12]
  exact ⟨hin, vp_in_nI hy (by decide), hin, gc_make hn hL h hno (gc_sim4 h (by omega) ka za kb zb) h450 (by decide) (gc_s16 a (by omega)) (gc_s16 b (by omega)) (by decide) H⟩
theorem gc_tnSum {post : Int32 → St2 → Prop} {L L' : List gc_O} {n j x a : Nat} {y : Int32} (hj : j < 12) (e1 : a1 j = 5) (e2 : a2 j = nI x) (hx : x < 12) (e12 : a12 x = nI a) (e4 : a4 j = 0) (ha : a < 450)
    (hn : L.length = n) (hL : L' = L ++ [(5, nI a, -1, 0, 0)]) (h : gc_ops L a7 a8 a9 a10 a11) (h450 : n < 450) (hno : gc_no L 5 (nI a) (-1) 0 = true) (za : gc_nzb L a = true) (e7 : a7 a = y) (hy : ¬ y = 12)
    (H : ∀ b7 b8 b9 b10 b11 : Nat → Int32, gc_ops L' b7 b8 b9 b10 b11 → post (nI n) (nc, 2, nI (n + 1), fc, a1, a2, a3, a4, a5, a6, b7, b8, b9, b10, b11, a12, a13, a14, a15, a16, a17)) :
    wpX_traceNode post (nc, 2, nI n, fc, a1, a2, a3, a4, a5, a6, a7, a8, a9, a10, a11, a12, a13, a14, a15, a16, a17) (nI j) := by
  have hin : vp_in (nI j) 12 := vp_in_nI hj (by decide)
  have hc : (nI j).toNatClampNeg = j := nI_clamp (by omega)
  unfold wpX_traceNode
  dsimp only
  refine ⟨hin, nm_r (gc_rd e1) ⟨hin, nm_r (gc_rd e2) (br_f (by decide) (br_f (by decide) ⟨vp_in_nI hx (by decide), nm_r (gc_rd e12) (br_t (by decide) (br_f (by decide) (br_f (by decide) (br_f (by decide) ?_))))⟩))⟩⟩
  unfold wX_traceNode_132
  rw [hc, e4]
  exact ⟨hin, gc_make hn hL h hno (fun ps hp => gc_sim5 h (by omega) za e7 hy ps hp ha) h450 (by decide) (gc_s16 a (by omega)) (by decide) (by decide) H⟩
theorem gc_trace {post : St2 → Prop} {i : Nat} (hi : i < 4) (hnd : gc_nd a1 a2 a3 a4)
    (H : ∀ b7 b8 b9 b10 b11 b12 : Nat → Int32, gc_ops ((gc_P i).take 4) b7 b8 b9 b10 b11 → b12 3 = nI 3 → post (nc, 2, nI 4, fc, a1, a2, a3, a4, a5, a6, b7, b8, b9, b10, b11, b12, a13, a14, a15, a16, a17)) :
    wpX_trace post (nc, 2, le, fc, a1, a2, a3, a4, a5, a6, a7, a8, a9, a10, a11, a12, a13, a14, a15, a16, a17) (nI 3) := by
  obtain ⟨n10, n11, n12, n13, n20, n21, n22, n23, n32, n42, n43⟩ := hnd
  obtain ⟨o1, o2, o3, o4⟩ := gc_no1 i hi
  obtain ⟨k1, k2, k3, k4, k5⟩ := gc_k1 i hi
  unfold wpX_trace
  dsimp only
  refine ⟨5, br_f (by decide) (gc_tnIn (L := (gc_P i).take 0) (L' := (gc_P i).take 1) (n := 0) (j := 0) (x := 0) (by omega) n10 n20 rfl rfl gc_ops_nil (by omega) o1 (fun b7 b8 b9 b10 b11 hb => ⟨vp_in_nI (n := 0) (by omega) (by decide), nm_r (e' := upd a12 0 (nI 0)) rfl (nm_r (nI_1 0) ?_)⟩))⟩
  refine br_f (by decide) (gc_tnIn (L := (gc_P i).take 1) (L' := (gc_P i).take 2) (n := 1) (j := 1) (x := 2) (by omega) n11 n21 rfl rfl hb (by omega) o2 (fun c7 c8 c9 c10 c11 hc => ⟨vp_in_nI (n := 1) (by omega) (by decide), nm_r (e' := upd (upd a12 0 (nI 0)) 1 (nI 1)) rfl (nm_r (nI_1 1) ?_)⟩))
  refine br_f (by decide) (gc_tnMul (L := (gc_P i).take 2) (L' := (gc_P i).take 3) (n := 2) (j := 2) (x := 1) (y := 0) (a := 1) (b := 0) (by omega) n12 n22 (by omega) rfl n32 (by omega) rfl n42 (by omega) (by omega) rfl rfl hc (by omega) o3 k1 k2 k3 k4 (fun d7 d8 d9 d10 d11 hd => ⟨vp_in_nI (n := 2) (by omega) (by decide), nm_r (e' := upd (upd (upd a12 0 (nI 0)) 1 (nI 1)) 2 (nI 2)) rfl (nm_r (nI_1 2) ?_)⟩))
  refine br_f (by decide) (gc_tnSum (L := (gc_P i).take 3) (L' := (gc_P i).take 4) (n := 3) (j := 3) (x := 2) (a := 2) (y := 4) (by omega) n13 n23 (by omega) rfl n43 (by omega) rfl rfl hd (by omega) o4 k5 (hd 2 _ rfl).1 (by decide) (fun f7 f8 f9 f10 f11 hf => ⟨vp_in_nI (n := 3) (by omega) (by decide), nm_r (e' := upd (upd (upd (upd a12 0 (nI 0)) 1 (nI 1)) 2 (nI 2)) 3 (nI 3)) rfl (nm_r (nI_1 3) ?_)⟩))
  exact br_t (by decide) (H f7 f8 f9 f10 f11 _ hf pk_us)
/-! backwards: its beginning -/
theorem gc_bw22 {post : St2 → Prop} {R : Nat} (hR : R < 450) (H : ∀ (q : Nat) (b13 : Nat → Int32), (∀ j, j < R + 1 → b13 j = -1) → wX_backwards_22 post (nI R) nc lv le fc (q + 1) (nI (R + 1)) a1 a2 a3 a4 a5 a6 a7 a8 a9 a10 a11 a12 b13 a14 a15 a16 a17) : ∃ q, wX_backwards_22 post (nI R) nc lv le fc q (nI 0) a1 a2 a3 a4 a5 a6 a7 a8 a9 a10 a11 a12 a13 a14 a15 a16 a17 :=
  pk_loop (fun q i s => wX_backwards_22 post (nI R) nc lv le fc q (nI i) a1 a2 a3 a4 a5 a6 a7 a8 a9 a10 a11 a12 s a14 a15 a16 a17) (fun i s => ∀ j, j < i → s j = -1) (R + 1) 0 a13 (by omega) (fun j hj => absurd hj (by omega)) (fun q s h => H q s h)
    (fun q i s hi h hw => pk_lt R i (fun z => absurd z (by omega)) (fun _ => ⟨pk_in i 450 (by omega), nm_e (nm_r (nI_1 i) (hw _ (gc_fill (by omega) h)))⟩))
theorem gc_bw2 {post : St2 → Prop} {x1 : Int32} (H : ∀ b14 : Nat → Int32, (∀ j, j < 3 → b14 j = -1) → ∃ q, wX_backwards_22 post x1 nc lv le fc q 0 a1 a2 a3 a4 a5 a6 a7 a8 a9 a10 a11 a12 a13 b14 a15 a16 a17) : wpX_backwards post (nc, lv, le, fc, a1, a2, a3, a4, a5, a6, a7, a8, a9, a10, a11, a12, a13, a14, a15, a16, a17) x1 := by
  unfold wpX_backwards
  dsimp only
  exact pk_loop (fun q i s => wX_backwards_2 post x1 nc lv le fc q (nI i) a1 a2 a3 a4 a5 a6 a7 a8 a9 a10 a11 a12 a13 s a15 a16 a17) (fun i s => ∀ j, j < i → s j = -1) 3 0 a14 (by omega) (fun j hj => absurd hj (by omega)) (fun q s h => pk_le 3 3 (fun _ => H s h) (fun z => absurd z (by omega)))
    (fun q i s hi h hw => pk_le 3 i (fun z => absurd z (by omega)) (fun _ => ⟨pk_in i 3 (by omega), nm_e (nm_r (nI_1 i) (hw _ (gc_fill (by omega) h)))⟩))
theorem gc_bwNew {post : St2 → Prop} {L L' : List gc_O} {n R : Nat} (hn : L.length = n) (hL : L' = L ++ [(1, -1, -1, 1, 0)]) (h : gc_ops L a7 a8 a9 a10 a11) (hno : gc_no L 1 (-1) (-1) 1 = true) (h450 : n < 450) (hR : R < 450)
    (H : ∀ b7 b8 b9 b10 b11 b13 b14 : Nat → Int32, gc_ops L' b7 b8 b9 b10 b11 → (∀ j, j < R → b13 j = -1) → b13 R = nI n → (∀ j, j < 3 → b14 j = -1) → ∃ q, wX_backwards_54 post q (nI R) nc 2 (nI (n + 1)) fc a1 a2 a3 a4 a5 a6 b7 b8 b9 b10 b11 a12 b13 b14 a15 a16 a17) :
    wpX_backwards post (nc, 2, nI n, fc, a1, a2, a3, a4, a5, a6, a7, a8, a9, a10, a11, a12, a13, a14, a15, a16, a17) (nI R) := by
  refine gc_bw2 (fun b14 h14 => gc_bw22 hR (fun q b13 h13 => pk_lt R (R + 1) (fun _ => ?_) (fun z => absurd z (by omega))))
  unfold wpX_constant_2
  dsimp only
  refine gc_shareB hn hL h hno h450 (by decide) (by decide) (by decide) (by decide) (fun b7 b8 b9 b10 b11 hb => ⟨vp_in_nI hR (by decide), nm_r (e' := upd b13 R (nI n)) (by rw [nI_clamp (by omega), gc_s16 n (by omega)]) ?_⟩)
  exact H b7 b8 b9 b10 b11 (upd b13 R (nI n)) b14 hb (fun j hj => by rw [pk_un (by omega)]; exact h13 j (by omega)) pk_us h14
theorem gc_bwOld {post : St2 → Prop} {L : List gc_O} {n m R : Nat} (hn : L.length = n) (h : gc_ops L a7 a8 a9 a10 a11) (h450 : n < 450) (hm : m < n) (hno : gc_no (L.take m) 1 (-1) (-1) 1 = true) {o : gc_O} (ho : L[m]? = some o) (g0 : o.1 = 1) (g1 : o.2.1 = -1) (g2 : o.2.2.1 = -1) (g3 : o.2.2.2.1 = 1) (hR : R < 450)
    (H : ∀ b13 b14 : Nat → Int32, (∀ j, j < R → b13 j = -1) → b13 R = nI m → (∀ j, j < 3 → b14 j = -1) → ∃ q, wX_backwards_54 post q (nI R) nc 2 (nI n) fc a1 a2 a3 a4 a5 a6 a7 a8 a9 a10 a11 a12 b13 b14 a15 a16 a17) :
    wpX_backwards post (nc, 2, nI n, fc, a1, a2, a3, a4, a5, a6, a7, a8, a9, a10, a11, a12, a13, a14, a15, a16, a17) (nI R) := by
  refine gc_bw2 (fun b14 h14 => gc_bw22 hR (fun q b13 h13 => pk_lt R (R + 1) (fun _ => ?_) (fun z => absurd z (by omega))))
  unfold wpX_constant_2
  dsimp only
  refine gc_shareB_old hn h h450 hm hno ho g0 g1 g2 g3 ⟨vp_in_nI hR (by decide), nm_r (e' := upd b13 R (nI m)) (by rw [nI_clamp (by omega), gc_s16 m (by omega)]) ?_⟩
  exact H (upd b13 R (nI m)) b14 (fun j hj => by rw [pk_un (by omega)]; exact h13 j (by omega)) pk_us h14
/-- backwards from the sum -/
theorem gc_B1 {post : St2 → Prop} {i : Nat} (hi : i < 4) (h : gc_ops ((gc_P i).take 4) a7 a8 a9 a10 a11)
    (H : ∀ b7 b8 b9 b10 b11 b13 b14 : Nat → Int32, gc_ops ((gc_P i).take 8) b7 b8 b9 b10 b11 → b14 0 = nI 7 → b14 2 = nI 6 → post (nc, 2, nI 8, fc, a1, a2, a3, a4, a5, a6, b7, b8, b9, b10, b11, a12, b13, b14, a15, a16, a17)) :
    wpX_backwards post (nc, 2, nI 4, fc, a1, a2, a3, a4, a5, a6, a7, a8, a9, a10, a11, a12, a13, a14, a15, a16, a17) (nI 3) := by
  obtain ⟨o1, o2, o3, o4⟩ := gc_no2 i hi
  obtain ⟨⟨k1, k2, k3, k4⟩, k5, k6, k7, k8⟩ := gc_k2 i hi
  refine gc_bwNew (L := (gc_P i).take 4) (L' := (gc_P i).take 5) (n := 4) rfl rfl h o1 (by omega) (by omega) (fun b7 b8 b9 b10 b11 b13 b14 hb h13 hR h14 => ⟨5, ?_⟩)
  refine br_f (by decide) ⟨vp_in_nI (n := 3) (by omega) (by decide), br_f (gc_p1 (gc_rd hR) (by omega)) ⟨vp_in_nI (n := 3) (by omega) (by decide), ?_⟩⟩
  rw [gc_rd hR]
  refine gc_passSum (L := (gc_P i).take 5) (L' := (gc_P i).take 6) (n := 5) (j := 3) (t := 2) (g := 4) (by omega) (hb 3 _ rfl).1 (hb 3 _ rfl).2.1 rfl rfl hb (by omega) ⟨_, rfl, rfl⟩ ⟨_, rfl, rfl⟩ ⟨_, rfl, rfl⟩ o2 (h13 2 (by omega)) (fun c7 c8 c9 c10 c11 hc => nm_r (pk_m1 2) ?_)
  have e2 : upd b13 2 (nI 5) 2 = nI 5 := pk_us
  refine br_f (by decide) ⟨vp_in_nI (n := 2) (by omega) (by decide), br_f (gc_p1 (gc_rd e2) (by omega)) ⟨vp_in_nI (n := 2) (by omega) (by decide), ?_⟩⟩
  rw [gc_rd e2]
  refine gc_passMul (L := (gc_P i).take 6) (L' := (gc_P i).take 7) (L'' := (gc_P i).take 8) (n := 6) (j := 2) (a := 1) (b := 0) (g := 5) (by omega) (hc 2 _ rfl).1 (hc 2 _ rfl).2.1 (hc 2 _ rfl).2.2.1 rfl rfl rfl hc (by omega) ⟨_, rfl, rfl⟩ ⟨_, rfl, rfl⟩ ⟨_, rfl, rfl⟩ ⟨_, rfl, rfl⟩ ⟨_, rfl, rfl⟩ ⟨_, rfl, rfl⟩
    k1 k2 k3 k4 k5 k6 k7 k8 o3 o4 (by omega) (by rw [pk_un (by omega)]; exact h13 1 (by omega)) (by rw [pk_un (by omega)]; exact h13 0 (by omega)) (by omega) (by omega) (fun d7 d8 d9 d10 d11 hd => nm_r (pk_m1 1) ?_)
  have e1 : upd (upd (upd b13 2 (nI 5)) 1 (nI 6)) 0 (nI (6 + 1)) 1 = nI 6 := rfl
  have e0 : upd (upd (upd b13 2 (nI 5)) 1 (nI 6)) 0 (nI (6 + 1)) 0 = nI 7 := rfl
  refine br_f (by decide) ⟨vp_in_nI (n := 1) (by omega) (by decide), br_f (gc_p1 (gc_rd e1) (by omega)) ⟨vp_in_nI (n := 1) (by omega) (by decide), ?_⟩⟩
  rw [gc_rd e1]
  refine gc_passIn (j := 1) (k := 2) (g := 6) (by omega) (by omega) (by omega) (hd 1 _ rfl).1 (hd 1 _ rfl).2.2.2.1 (h14 2 (by omega)) (nm_r (pk_m1 0) ?_)
  refine br_f (by decide) ⟨vp_in_nI (n := 0) (by omega) (by decide), br_f (gc_p1 (gc_rd e0) (by omega)) ⟨vp_in_nI (n := 0) (by omega) (by decide), ?_⟩⟩
  rw [gc_rd e0]
  refine gc_passIn (j := 0) (k := 0) (g := 7) (by omega) (by omega) (by omega) (hd 0 _ rfl).1 (hd 0 _ rfl).2.2.2.1 (by rw [pk_un (by omega)]; exact h14 0 (by omega)) (nm_r (e' := -1) (by decide) ?_)
  exact br_t (by decide) (H d7 d8 d9 d10 d11 _ _ hd pk_us rfl)
/-- backwards from one component of the slope -/
theorem gc_B2 {post : St2 → Prop} {i : Nat} (hi : i < 4) (h : gc_ops ((gc_P i).take 9) a7 a8 a9 a10 a11)
    (H : ∀ b7 b8 b9 b10 b11 b13 b14 : Nat → Int32, gc_ops ((gc_P i).take 13) b7 b8 b9 b10 b11 → b14 2 = nI 11 → post (nc, 2, nI 13, fc, a1, a2, a3, a4, a5, a6, b7, b8, b9, b10, b11, a12, b13, b14, a15, a16, a17)) :
    wpX_backwards post (nc, 2, nI 9, fc, a1, a2, a3, a4, a5, a6, a7, a8, a9, a10, a11, a12, a13, a14, a15, a16, a17) (nI 8) := by
  obtain ⟨o1, o2, o3, o4, o5, o6⟩ := gc_no3 i hi
  obtain ⟨z1, z2, z3⟩ := gc_k3 i hi
  obtain ⟨⟨k1, k2, k3, k4⟩, k5, k6, k7, k8⟩ := gc_k4 i hi
  refine gc_bwOld (L := (gc_P i).take 9) (n := 9) (m := 4) rfl h (by omega) (by omega) o2 (o := (1, -1, -1, 1, 0)) rfl rfl rfl rfl rfl (by omega) (fun b13 b14 h13 hR h14 => ⟨10, ?_⟩)
  refine br_f (by decide) ⟨vp_in_nI (n := 8) (by omega) (by decide), br_f (gc_p1 (gc_rd hR) (by omega)) ⟨vp_in_nI (n := 8) (by omega) (by decide), ?_⟩⟩
  rw [gc_rd hR]
  refine gc_passPick (L := (gc_P i).take 9) (L' := (gc_P i).take 10) (n := 9) (j := 8) (t := 7) (g := 4) (p3 := nI i) (by omega) (h 8 _ rfl).1 (h 8 _ rfl).2.1 (h 8 _ rfl).2.2.2.1 rfl rfl h (by omega) ⟨_, rfl, rfl⟩ ⟨_, rfl, rfl⟩ ⟨_, rfl, rfl⟩ z2 o3 (by omega) (h13 7 (by omega)) (fun c7 c8 c9 c10 c11 hc => nm_r (pk_m1 7) ?_)
  have e7 : upd b13 7 (nI 9) 7 = nI 9 := pk_us
  refine br_f (by decide) ⟨vp_in_nI (n := 7) (by omega) (by decide), br_f (gc_p1 (gc_rd e7) (by omega)) ⟨vp_in_nI (n := 7) (by omega) (by decide), ?_⟩⟩
  rw [gc_rd e7]
  refine gc_passMul (L := (gc_P i).take 10) (L' := (gc_P i).take 11) (L'' := (gc_P i).take 12) (n := 10) (j := 7) (a := 5) (b := 1) (g := 9) (by omega) (hc 7 _ rfl).1 (hc 7 _ rfl).2.1 (hc 7 _ rfl).2.2.1 rfl rfl rfl hc (by omega) ⟨_, rfl, rfl⟩ ⟨_, rfl, rfl⟩ ⟨_, rfl, rfl⟩ ⟨_, rfl, rfl⟩ ⟨_, rfl, rfl⟩ ⟨_, rfl, rfl⟩
    k1 k2 k3 k4 k5 k6 k7 k8 o4 o5 (by omega) (by rw [pk_un (by omega)]; exact h13 5 (by omega)) (by rw [pk_un (by omega)]; exact h13 1 (by omega)) (by omega) (by omega) (fun d7 d8 d9 d10 d11 hd => nm_r (pk_m1 6) ?_)
  have f6 : upd (upd (upd b13 7 (nI 9)) 5 (nI 10)) 1 (nI (10 + 1)) 6 = -1 := h13 6 (by omega)
  have f5 : upd (upd (upd b13 7 (nI 9)) 5 (nI 10)) 1 (nI (10 + 1)) 5 = nI 10 := rfl
  have f4 : upd (upd (upd b13 7 (nI 9)) 5 (nI 10)) 1 (nI (10 + 1)) 4 = -1 := h13 4 (by omega)
  refine br_f (by decide) ⟨vp_in_nI (n := 6) (by omega) (by decide), br_t (gc_m1 (gc_rd f6)) (nm_r (pk_m1 5) ?_)⟩
  refine br_f (by decide) ⟨vp_in_nI (n := 5) (by omega) (by decide), br_f (gc_p1 (gc_rd f5) (by omega)) ⟨vp_in_nI (n := 5) (by omega) (by decide), ?_⟩⟩
  rw [gc_rd f5]
  refine gc_passSpread (L := (gc_P i).take 12) (L' := (gc_P i).take 13) (n := 12) (j := 5) (t := 4) (g := 10) (x := 4) (by omega) (hd 5 _ rfl).1 (hd 5 _ rfl).2.1 rfl rfl hd (by omega) ⟨_, rfl, rfl⟩ ⟨_, rfl, rfl⟩ z3 (hd 10 _ rfl).1 (by decide) o6 f4 (fun g7 g8 g9 g10 g11 hg => nm_r (pk_m1 4) ?_)
  have m4 : upd (upd (upd (upd b13 7 (nI 9)) 5 (nI 10)) 1 (nI (10 + 1))) 4 (nI 12) 4 = nI 12 := rfl
  have m3 : upd (upd (upd (upd b13 7 (nI 9)) 5 (nI 10)) 1 (nI (10 + 1))) 4 (nI 12) 3 = -1 := h13 3 (by omega)
  have m2 : upd (upd (upd (upd b13 7 (nI 9)) 5 (nI 10)) 1 (nI (10 + 1))) 4 (nI 12) 2 = -1 := h13 2 (by omega)
  have m1 : upd (upd (upd (upd b13 7 (nI 9)) 5 (nI 10)) 1 (nI (10 + 1))) 4 (nI 12) 1 = nI 11 := rfl
  have m0 : upd (upd (upd (upd b13 7 (nI 9)) 5 (nI 10)) 1 (nI (10 + 1))) 4 (nI 12) 0 = -1 := h13 0 (by omega)
  refine br_f (by decide) ⟨vp_in_nI (n := 4) (by omega) (by decide), br_f (gc_p1 (gc_rd m4) (by omega)) ⟨vp_in_nI (n := 4) (by omega) (by decide), ?_⟩⟩
  refine gc_passConst (j := 4) (by omega) (hg 4 _ rfl).1 (nm_r (pk_m1 3) ?_)
  refine br_f (by decide) ⟨vp_in_nI (n := 3) (by omega) (by decide), br_t (gc_m1 (gc_rd m3)) (nm_r (pk_m1 2) ?_)⟩
  refine br_f (by decide) ⟨vp_in_nI (n := 2) (by omega) (by decide), br_t (gc_m1 (gc_rd m2)) (nm_r (pk_m1 1) ?_)⟩
  refine br_f (by decide) ⟨vp_in_nI (n := 1) (by omega) (by decide), br_f (gc_p1 (gc_rd m1) (by omega)) ⟨vp_in_nI (n := 1) (by omega) (by decide), ?_⟩⟩
  rw [gc_rd m1]
  refine gc_passIn (j := 1) (k := 2) (g := 11) (by omega) (by omega) (by omega) (hg 1 _ rfl).1 (hg 1 _ rfl).2.2.2.1 (h14 2 (by omega)) (nm_r (pk_m1 0) ?_)
  refine br_f (by decide) ⟨vp_in_nI (n := 0) (by omega) (by decide), br_t (gc_m1 (gc_rd m0)) (nm_r (e' := -1) (by decide) ?_)⟩
  exact br_t (by decide) (H g7 g8 g9 g10 g11 _ _ hg pk_us)
end
end
section
/-! ===== 04: workOut, its pieces ===== -/
def gc_lk (L : List gc_O) (j : Nat) : gc_O := L.getD j (0, 0, 0, 0, 0)
def gc_mk (M : List Int32) (x : Int32) (j : Nat) : List Int32 := if x < 0 then M else if 0 ≤ M.getD x.toNatClampNeg 0 then M else M.set x.toNatClampNeg (nI j)
/-- the last uses, from the end -/
def gc_lu (L : List gc_O) : Nat → List Int32 → List Int32
  | 0, M => M
  | n + 1, M => gc_lu L n (if 0 ≤ M.getD n 0 then gc_mk (gc_mk M (gc_lk L n).2.1 n) (gc_lk L n).2.2.1 n else M)
theorem gc_lk_some {L : List gc_O} {j : Nat} (h : j < L.length) : L[j]? = some (gc_lk L j) := by
  unfold gc_lk
  rw [List.getD_eq_getElem?_getD, List.getElem?_eq_getElem h]
  rfl
theorem gc_rel_at {M : List Int32} {a : Nat → Int32} {k : Nat} (h : gc_rel M a) (hk : k < M.length) : a k = M.getD k 0 :=
  h k _ (by rw [List.getD_eq_getElem?_getD, List.getElem?_eq_getElem hk]; rfl)
theorem gc_mk_len {M : List Int32} {x : Int32} {j : Nat} : (gc_mk M x j).length = M.length := by
  unfold gc_mk
  split
  · rfl
  · split
    · rfl
    · exact List.length_set
theorem gc_ix (s e c : Nat) : (12 * nI s + 4 * nI e) + nI c = nI (12 * s + 4 * e + c) := by
  rw [show (12 : Int32) = nI 12 from rfl, show (4 : Int32) = nI 4 from rfl, pk_mul, pk_mul, nI_add, nI_add]
theorem gc_ix0 (s e : Nat) : 12 * nI s + 4 * nI e = nI (12 * s + 4 * e) := by
  rw [show (12 : Int32) = nI 12 from rfl, show (4 : Int32) = nI 4 from rfl, pk_mul, pk_mul, nI_add]
/-- the value of operation j lies in place s: w components in each example -/
def gc_v (w : Nat) (a16 a17 : Nat → Int32) (j s : Nat) (v : Nat → Nat → Int32) : Prop := s < 160 ∧ a16 j = nI s ∧ ∀ e c, e < 3 → c < w → a17 (12 * s + 4 * e + c) = v e c
/-- what lies outside a place is kept -/
def gc_out (s : Nat) (b a : Nat → Int32) : Prop := ∀ p, p < 12 * s ∨ 12 * s + 12 ≤ p → b p = a p
theorem gc_v_keep {w : Nat} {a16 a17 y : Nat → Int32} {j s j' s' : Nat} {x : Int32} {v : Nat → Nat → Int32} (h : gc_v w a16 a17 j' s' v) (hw : w ≤ 4) (hs : s' ≠ s) (hj : j' ≠ j) (ho : gc_out s y a17) : gc_v w (upd a16 j x) y j' s' v :=
  ⟨h.1, by rw [pk_un hj]; exact h.2.1, fun e c he hc => by rw [ho _ (by omega)]; exact h.2.2 e c he hc⟩
theorem gc_row {y z : Nat → Int32} {v : Nat → Int32} {t c : Nat} {x : Int32} (hc : c < 4) (h : (∀ c', c' < c → y (t + c') = v c') ∧ (∀ p, p < t ∨ t + 4 ≤ p → y p = z p)) (hx : x = v c) : (∀ c', c' < c + 1 → upd y (t + c) x (t + c') = v c') ∧ (∀ p, p < t ∨ t + 4 ≤ p → upd y (t + c) x p = z p) := by
  refine ⟨fun c' hc' => ?_, fun p hp => ?_⟩
  · by_cases e : c' = c
    · rw [e, pk_us, hx]
    · rw [pk_un (by omega)]
      exact h.1 c' (by omega)
  · rw [pk_un (by omega)]
    exact h.2 p hp
section
variable {nc lv le fc : Int32} {a1 a2 a3 a4 a5 a6 a7 a8 a9 a10 a11 a12 a13 a14 a15 a16 a17 : Nat → Int32}
/-! findLastUses -/
theorem gc_83 {post : St2 → Prop} {J : Int32 → (Nat → Int32) → (Nat → Int32) → (Nat → Int32) → (Nat → Int32) → (Nat → Int32) → (Nat → Int32) → (Nat → Int32) → (Nat → Int32) → (Nat → Int32) → (Nat → Int32) → (Nat → Int32) → (Nat → Int32) → (Nat → Int32) → (Nat → Int32) → (Nat → Int32) → (Nat → Int32) → (Nat → Int32) → Prop} {M : List Int32} {n : Nat} {x : Int32} (hn : n < 450) (hl : M.length < 450) (h : gc_rel M a13) (e9 : a9 n = x) (hx : x < 0 ∨ x.toNatClampNeg < M.length)
    (HJ : ∀ b13 : Nat → Int32, gc_rel (gc_mk M x n) b13 → J (nI n + (-1)) a1 a2 a3 a4 a5 a6 a7 a8 a9 a10 a11 a12 b13 a14 a15 a16 a17) : wX_findLastUses_83 post J (nI n) nc lv le fc a1 a2 a3 a4 a5 a6 a7 a8 a9 a10 a11 a12 a13 a14 a15 a16 a17 := by
  have hin : vp_in (nI n) 450 := vp_in_nI hn (by decide)
  have hc : (nI n).toNatClampNeg = n := nI_clamp (by omega)
  unfold wX_findLastUses_83
  rw [hc, e9]
  unfold gc_mk at HJ
  by_cases hx0 : x < 0
  · rw [if_pos hx0] at HJ
    exact ⟨hin, br_t hx0 (nm_e (HJ a13 h))⟩
  · rw [if_neg hx0] at HJ
    have hxl : x.toNatClampNeg < M.length := hx.resolve_left hx0
    have hin2 : vp_in x 450 := fun z => z.elim hx0 (fun z2 => by omega)
    have ev := gc_rel_at h hxl
    refine ⟨hin, br_f hx0 ⟨hin, hin2, ?_⟩⟩
    rw [ev]
    by_cases h0 : 0 ≤ M.getD x.toNatClampNeg 0
    · rw [if_pos h0] at HJ
      exact br_t h0 (nm_e (HJ a13 h))
    · rw [if_neg h0] at HJ
      exact br_f h0 ⟨hin, hin2, nm_r (e' := upd a13 x.toNatClampNeg (nI n)) (by rw [gc_s16 n (by omega)]) (nm_e (HJ _ (gc_rel_set h)))⟩
theorem gc_31 {post : St2 → Prop} {L : List gc_O} (h : gc_ops L a7 a8 a9 a10 a11) : ∀ (n q : Nat) (M : List Int32) (b13 : Nat → Int32), n ≤ M.length → M.length ≤ L.length → M.length < 450 → n < q → gc_rel M b13 →
    (∀ j, j < M.length → ((gc_lk L j).2.1 < 0 ∨ (gc_lk L j).2.1.toNatClampNeg < M.length) ∧ ((gc_lk L j).2.2.1 < 0 ∨ (gc_lk L j).2.2.1.toNatClampNeg < M.length)) →
    (∀ c13 : Nat → Int32, gc_rel (gc_lu L n M) c13 → post (nc, lv, le, fc, a1, a2, a3, a4, a5, a6, a7, a8, a9, a10, a11, a12, c13, a14, a15, a16, a17)) → wX_findLastUses_31 post nc lv le fc q (nI n + (-1)) a1 a2 a3 a4 a5 a6 a7 a8 a9 a10 a11 a12 b13 a14 a15 a16 a17 := by
  intro n
  induction n with
  | zero =>
    intro q M b13 h1 h2 h3 hq hr hf H
    obtain ⟨q, rfl⟩ : ∃ q', q = q' + 1 := ⟨q - 1, by omega⟩
    exact br_t (by decide) (H b13 hr)
  | succ n ih =>
    intro q M b13 h1 h2 h3 hq hr hf H
    obtain ⟨q, rfl⟩ : ∃ q', q = q' + 1 := ⟨q - 1, by omega⟩
    have hin : vp_in (nI n) 450 := vp_in_nI (by omega) (by decide)
    have hc : (nI n).toNatClampNeg = n := nI_clamp (by omega)
    have hq' : n < q := by omega
    have hnM : n < M.length := by omega
    obtain ⟨e7, e8, e9, e10, e11⟩ := h n _ (gc_lk_some (show n < L.length by omega))
    have ev := gc_rel_at hr hnM
    obtain ⟨f8, f9⟩ := hf n hnM
    rw [pk_m1]
    unfold gc_lu at H
    refine br_f (nI_pos (by omega)) ?_
    rw [hc, ev, e8]
    refine ⟨hin, ?_⟩
    by_cases h0 : 0 ≤ M.getD n 0
    · rw [if_pos h0] at H
      refine br_t h0 ⟨hin, ?_⟩
      have main : ∀ d13 : Nat → Int32, gc_rel (gc_mk M (gc_lk L n).2.1 n) d13 → wX_findLastUses_83 post (wX_findLastUses_31 post nc lv le fc q) (nI n) nc lv le fc a1 a2 a3 a4 a5 a6 a7 a8 a9 a10 a11 a12 d13 a14 a15 a16 a17 := by
        intro d13 hd
        refine gc_83 (M := gc_mk M (gc_lk L n).2.1 n) (x := (gc_lk L n).2.2.1) (by omega) (by rw [gc_mk_len]; exact h3) hd e9 (by rw [gc_mk_len]; exact f9) (fun c13 hc13 => ?_)
        exact ih q _ c13 (by rw [gc_mk_len, gc_mk_len]; omega) (by rw [gc_mk_len, gc_mk_len]; exact h2) (by rw [gc_mk_len, gc_mk_len]; exact h3) hq' hc13 (by rw [gc_mk_len, gc_mk_len]; exact hf) H
      unfold gc_mk at main
      by_cases hx0 : (gc_lk L n).2.1 < 0
      · rw [if_pos hx0] at main
        exact br_t hx0 (main b13 hr)
      · rw [if_neg hx0] at main
        have hxl := f8.resolve_left hx0
        have hin2 : vp_in (gc_lk L n).2.1 450 := fun z => z.elim hx0 (fun z2 => by omega)
        have ev2 := gc_rel_at hr hxl
        refine br_f hx0 ⟨hin, hin2, ?_⟩
        rw [ev2]
        by_cases h1 : 0 ≤ M.getD (gc_lk L n).2.1.toNatClampNeg 0
        · rw [if_pos h1] at main
          exact br_t h1 (main b13 hr)
        · rw [if_neg h1] at main
          exact br_f h1 ⟨hin, hin2, nm_r (e' := upd b13 (gc_lk L n).2.1.toNatClampNeg (nI n)) (by rw [gc_s16 n (by omega)]) (main _ (gc_rel_set hr))⟩
    · rw [if_neg h0] at H
      exact br_f h0 (nm_e (ih q M b13 (by omega) h2 h3 hq' hr hf H))
theorem gc_flu {post : St2 → Prop} {L : List gc_O} {R : Nat} {M : List Int32} (h : gc_ops L a7 a8 a9 a10 a11) (hR : R < L.length) (hl : L.length < 450)
    (hf : ∀ j, j < R + 1 → ((gc_lk L j).2.1 < 0 ∨ (gc_lk L j).2.1.toNatClampNeg < R + 1) ∧ ((gc_lk L j).2.2.1 < 0 ∨ (gc_lk L j).2.2.1.toNatClampNeg < R + 1))
    (hM : gc_lu L (R + 1) (List.replicate R (-1) ++ [450]) = M)
    (H : ∀ b13 : Nat → Int32, gc_rel M b13 → post (nc, lv, le, fc, a1, a2, a3, a4, a5, a6, a7, a8, a9, a10, a11, a12, b13, a14, a15, a16, a17)) : wpX_findLastUses post (nc, lv, le, fc, a1, a2, a3, a4, a5, a6, a7, a8, a9, a10, a11, a12, a13, a14, a15, a16, a17) (nI R) := by
  unfold wpX_findLastUses
  dsimp only
  refine pk_loop (fun q i s => wX_findLastUses_2 post (nI R) nc lv le fc q (nI i) a1 a2 a3 a4 a5 a6 a7 a8 a9 a10 a11 a12 s a14 a15 a16 a17) (fun i s => ∀ j, j < i → s j = -1) (R + 1) 0 a13 (by omega) (fun j hj => absurd hj (by omega)) (fun q s hs => pk_lt R (R + 1) (fun _ => ⟨pk_in R 450 (by omega), nm_r (e' := upd s R 450) (by rw [nI_clamp (by omega)]) ⟨R + 2, ?_⟩⟩) (fun z => absurd z (by omega)))
    (fun q i s hi hs hw => pk_lt R i (fun z => absurd z (by omega)) (fun _ => ⟨pk_in i 450 (by omega), nm_e (nm_r (nI_1 i) (hw _ (gc_fill (by omega) hs)))⟩))
  have hlen : (List.replicate R (-1 : Int32) ++ [450]).length = R + 1 := by rw [List.length_append, List.length_replicate]; rfl
  have hr : gc_rel (List.replicate R (-1) ++ [450]) (upd s R 450) := by
    intro j x hj
    have hjl := (List.getElem?_eq_some_iff.mp hj).1
    rw [hlen] at hjl
    by_cases e : j = R
    · subst e
      rw [List.getElem?_append_right (by rw [List.length_replicate]; omega), List.length_replicate, Nat.sub_self] at hj
      rw [pk_us]
      exact Option.some.inj hj
    · rw [List.getElem?_append_left (by rw [List.length_replicate]; omega), List.getElem?_replicate, if_pos (by omega)] at hj
      rw [pk_un e, hs j (by omega)]
      exact Option.some.inj hj
  rw [← pk_m1 R]
  exact gc_31 h (R + 1) (R + 2) _ _ (by rw [hlen]; omega) (by rw [hlen]; omega) (by rw [hlen]; omega) (by omega) hr (by rw [hlen]; exact hf) (by rw [hM]; exact H)
/-! lanes -/
theorem gc_laneW {ps : Int32 → Prop} {j s c e : Nat} {v : Nat → Nat → Int32} (hj : j < 450) (w1 : a11 j = 1) (hv : gc_v 4 a16 a17 j s v) (he : e < 3) (hc : c < 4) (H : ps (v e c)) : wpX_lane ps (nc, lv, le, fc, a1, a2, a3, a4, a5, a6, a7, a8, a9, a10, a11, a12, a13, a14, a15, a16, a17) (nI j) (nI c) (nI e) := by
  obtain ⟨hs, h16, h17⟩ := hv
  have hin : vp_in (nI j) 450 := vp_in_nI hj (by decide)
  have hcj : (nI j).toNatClampNeg = j := nI_clamp (by omega)
  have hci : (nI (12 * s + 4 * e + c)).toNatClampNeg = 12 * s + 4 * e + c := nI_clamp (by omega)
  unfold wpX_lane 
  dsimp only
  rw [hcj, w1, h16, gc_ix s e c, hci, h17 e c he hc]
  exact ⟨hin, hin, br_f (by decide) ⟨vp_in_nI (by omega) (by decide), H⟩⟩
theorem gc_laneN {ps : Int32 → Prop} {j s e : Nat} {x : Int32} {v : Nat → Nat → Int32} (hj : j < 450) (w0 : a11 j = 0) (hv : gc_v 1 a16 a17 j s v) (he : e < 3) (H : ps (v e 0)) : wpX_lane ps (nc, lv, le, fc, a1, a2, a3, a4, a5, a6, a7, a8, a9, a10, a11, a12, a13, a14, a15, a16, a17) (nI j) x (nI e) := by
  obtain ⟨hs, h16, h17⟩ := hv
  have hin : vp_in (nI j) 450 := vp_in_nI hj (by decide)
  have hcj : (nI j).toNatClampNeg = j := nI_clamp (by omega)
  have hci : (nI (12 * s + 4 * e + 0)).toNatClampNeg = 12 * s + 4 * e + 0 := nI_clamp (by omega)
  unfold wpX_lane 
  dsimp only
  rw [hcj, w0, h16, ← nI_0, gc_ix s e 0, hci, h17 e 0 he (by omega)]
  exact ⟨hin, hin, br_t rfl ⟨vp_in_nI (by omega) (by decide), H⟩⟩
theorem gc_laneOfW {ps : Int32 → Prop} {j s c e : Nat} {v : Nat → Nat → Int32} (hj : j < 450) (w1 : a11 j = 1) (hv : gc_v 4 a16 a17 j s v) (he : e < 3) (hc : c < 4) (H : ps (v e c)) : wpX_laneOf ps (nc, lv, le, fc, a1, a2, a3, a4, a5, a6, a7, a8, a9, a10, a11, a12, a13, a14, a15, a16, a17) (nI j) (nI c) (nI e) := by
  obtain ⟨hs, h16, h17⟩ := hv
  have hin : vp_in (nI j) 450 := vp_in_nI hj (by decide)
  have hcj : (nI j).toNatClampNeg = j := nI_clamp (by omega)
  have hci : (nI (12 * s + 4 * e + c)).toNatClampNeg = 12 * s + 4 * e + c := nI_clamp (by omega)
  unfold wpX_laneOf 
  dsimp only
  rw [hcj, w1, h16, gc_ix s e c, hci, h17 e c he hc]
  exact ⟨hin, hin, br_f (by decide) ⟨vp_in_nI (by omega) (by decide), H⟩⟩
theorem gc_laneOfN {ps : Int32 → Prop} {j s e : Nat} {x : Int32} {v : Nat → Nat → Int32} (hj : j < 450) (w0 : a11 j = 0) (hv : gc_v 1 a16 a17 j s v) (he : e < 3) (H : ps (v e 0)) : wpX_laneOf ps (nc, lv, le, fc, a1, a2, a3, a4, a5, a6, a7, a8, a9, a10, a11, a12, a13, a14, a15, a16, a17) (nI j) x (nI e) := by
  obtain ⟨hs, h16, h17⟩ := hv
  have hin : vp_in (nI j) 450 := vp_in_nI hj (by decide)
  have hcj : (nI j).toNatClampNeg = j := nI_clamp (by omega)
  have hci : (nI (12 * s + 4 * e + 0)).toNatClampNeg = 12 * s + 4 * e + 0 := nI_clamp (by omega)
  unfold wpX_laneOf 
  dsimp only
  rw [hcj, w0, h16, ← nI_0, gc_ix s e 0, hci, h17 e 0 he (by omega)]
  exact ⟨hin, hin, br_t rfl ⟨vp_in_nI (by omega) (by decide), H⟩⟩
/-! execute -/
theorem gc_load {ps : St2 → Prop} {k t e : Nat} (hk : k < 3) (he : e < 3) (ht : t + 4 ≤ 1920)
    (H : ∀ d17 : Nat → Int32, (∀ c, c < 4 → d17 (t + c) = a5 (12 * e + 4 * k + c)) → (∀ p, p < t ∨ t + 4 ≤ p → d17 p = a17 p) → ps (nc, lv, le, fc, a1, a2, a3, a4, a5, a6, a7, a8, a9, a10, a11, a12, a13, a14, a15, a16, d17)) : wpX_load ps (nc, lv, le, fc, a1, a2, a3, a4, a5, a6, a7, a8, a9, a10, a11, a12, a13, a14, a15, a16, a17) 0 (nI k) (nI t) (nI e) := by
  unfold wpX_load
  dsimp only
  exact pk_loop (fun q c y => wX_load_3 ps 0 (nI k) (nI t) (nI e) nc lv le fc q (nI c) a1 a2 a3 a4 a5 a6 a7 a8 a9 a10 a11 a12 a13 a14 a15 a16 y) (fun c y => (∀ c', c' < c → y (t + c') = a5 (12 * e + 4 * k + c')) ∧ (∀ p, p < t ∨ t + 4 ≤ p → y p = a17 p)) 4 0 a17 (by omega) ⟨fun c' hc' => absurd hc' (by omega), fun p _ => rfl⟩
    (fun q y hy => pk_le 4 4 (fun _ => H y hy.1 hy.2) (fun z => absurd z (by omega)))
    (fun q c y hc hy hw => pk_le 4 c (fun z => absurd z (by omega)) (fun _ => br_t rfl ⟨pk_in (12 * e + 4 * k + c) 36 (by omega) (gc_ix e k c), pk_in (t + c) 1920 (by omega) (nI_add t c), nm_r (e' := upd y (t + c) (a5 (12 * e + 4 * k + c))) (by rw [gc_ix e k c, nI_add t c, nI_clamp (by omega), nI_clamp (by omega)]) (nm_r (nI_1 c) (hw _ (gc_row (v := fun c => a5 (12 * e + 4 * k + c)) hc hy rfl)))⟩))
theorem gc_ex160 {ps : St2 → Prop} {j t e : Nat} {v : Nat → Int32} (ht : t + 4 ≤ 1920)
    (hcomp : ∀ c, c < 4 → ∀ y : Nat → Int32, (∀ p, p < t ∨ t + 4 ≤ p → y p = a17 p) → ∀ pc : Int32 → Prop, pc (v c) → wpX_component pc (nc, lv, le, fc, a1, a2, a3, a4, a5, a6, a7, a8, a9, a10, a11, a12, a13, a14, a15, a16, y) (nI j) (nI c) (nI e))
    (H : ∀ d17 : Nat → Int32, (∀ c, c < 4 → d17 (t + c) = v c) → (∀ p, p < t ∨ t + 4 ≤ p → d17 p = a17 p) → ps (nc, lv, le, fc, a1, a2, a3, a4, a5, a6, a7, a8, a9, a10, a11, a12, a13, a14, a15, a16, d17)) : ∃ q, wX_execute_160 ps (nI j) (nI t) (nI e) 4 nc lv le fc q 0 a1 a2 a3 a4 a5 a6 a7 a8 a9 a10 a11 a12 a13 a14 a15 a16 a17 :=
  pk_loop (fun q c y => wX_execute_160 ps (nI j) (nI t) (nI e) 4 nc lv le fc q (nI c) a1 a2 a3 a4 a5 a6 a7 a8 a9 a10 a11 a12 a13 a14 a15 a16 y) (fun c y => (∀ c', c' < c → y (t + c') = v c') ∧ (∀ p, p < t ∨ t + 4 ≤ p → y p = a17 p)) 4 0 a17 (by omega) ⟨fun c' hc' => absurd hc' (by omega), fun p _ => rfl⟩
    (fun q y hy => pk_le 4 4 (fun _ => H y hy.1 hy.2) (fun z => absurd z (by omega)))
    (fun q c y hc hy hw => pk_le 4 c (fun z => absurd z (by omega)) (fun _ => hcomp c hc y hy.2 _ ⟨pk_in (t + c) 1920 (by omega) (nI_add t c), nm_r (e' := upd y (t + c) (v c)) (by rw [nI_add t c, nI_clamp (by omega)]) (nm_r (nI_1 c) (hw _ (gc_row (v := v) hc hy rfl)))⟩))
theorem gc_exWide {ps : St2 → Prop} {j t e : Nat} {x : Int32} {v : Nat → Int32} (hj : j < 450) (e7 : a7 j = x) (hx : ¬ x = 1 ∧ ¬ x = 0 ∧ ¬ x = 11 ∧ ¬ x = 5 ∧ ¬ x = 7 ∧ ¬ x = 10 ∧ ¬ x = 14) (w1 : a11 j = 1) (ht : t + 4 ≤ 1920)
    (hcomp : ∀ c, c < 4 → ∀ y : Nat → Int32, (∀ p, p < t ∨ t + 4 ≤ p → y p = a17 p) → ∀ pc : Int32 → Prop, pc (v c) → wpX_component pc (nc, lv, le, fc, a1, a2, a3, a4, a5, a6, a7, a8, a9, a10, a11, a12, a13, a14, a15, a16, y) (nI j) (nI c) (nI e))
    (H : ∀ d17 : Nat → Int32, (∀ c, c < 4 → d17 (t + c) = v c) → (∀ p, p < t ∨ t + 4 ≤ p → d17 p = a17 p) → ps (nc, lv, le, fc, a1, a2, a3, a4, a5, a6, a7, a8, a9, a10, a11, a12, a13, a14, a15, a16, d17)) : wpX_execute ps (nc, lv, le, fc, a1, a2, a3, a4, a5, a6, a7, a8, a9, a10, a11, a12, a13, a14, a15, a16, a17) (nI j) (nI t) (nI e) := by
  obtain ⟨h1, h0, h11, h5, h7, h10, h14⟩ := hx
  have hin : vp_in (nI j) 450 := vp_in_nI hj (by decide)
  unfold wpX_execute
  dsimp only
  exact ⟨hin, nm_r (gc_rd e7) ⟨hin, nm_e ⟨hin, nm_e (br_f h1 (br_f h0 (br_f h11 (br_f h5 (br_f h7 (br_f h10 (br_f h14 ⟨hin, br_f (gc_rn w1 (by decide)) (gc_ex160 ht hcomp H)⟩)))))))⟩⟩⟩
theorem gc_exIn {ps : St2 → Prop} {j k t e : Nat} (hj : j < 450) (e7 : a7 j = 0) (e10 : a10 j = nI k) (hk : k < 3) (he : e < 3) (ht : t + 4 ≤ 1920)
    (H : ∀ d17 : Nat → Int32, (∀ c, c < 4 → d17 (t + c) = a5 (12 * e + 4 * k + c)) → (∀ p, p < t ∨ t + 4 ≤ p → d17 p = a17 p) → ps (nc, lv, le, fc, a1, a2, a3, a4, a5, a6, a7, a8, a9, a10, a11, a12, a13, a14, a15, a16, d17)) : wpX_execute ps (nc, lv, le, fc, a1, a2, a3, a4, a5, a6, a7, a8, a9, a10, a11, a12, a13, a14, a15, a16, a17) (nI j) (nI t) (nI e) := by
  have hin : vp_in (nI j) 450 := vp_in_nI hj (by decide)
  unfold wpX_execute
  dsimp only
  refine ⟨hin, nm_r (gc_rd e7) ⟨hin, nm_e ⟨hin, nm_r (gc_rd e10) (br_f (by decide) (br_t rfl ?_))⟩⟩⟩
  unfold wX_execute_53
  exact gc_load hk he ht H
theorem gc_exConst {ps : St2 → Prop} {j t e : Nat} {x : Int32} (hj : j < 450) (e7 : a7 j = 1) (e10 : a10 j = x) (ht : t + 4 ≤ 1920)
    (H : ∀ d17 : Nat → Int32, (∀ c, c < 1 → d17 (t + c) = x) → (∀ p, p < t ∨ t + 4 ≤ p → d17 p = a17 p) → ps (nc, lv, le, fc, a1, a2, a3, a4, a5, a6, a7, a8, a9, a10, a11, a12, a13, a14, a15, a16, d17)) : wpX_execute ps (nc, lv, le, fc, a1, a2, a3, a4, a5, a6, a7, a8, a9, a10, a11, a12, a13, a14, a15, a16, a17) (nI j) (nI t) (nI e) := by
  have hin : vp_in (nI j) 450 := vp_in_nI hj (by decide)
  unfold wpX_execute
  dsimp only
  refine ⟨hin, nm_r (gc_rd e7) ⟨hin, nm_e ⟨hin, nm_r (gc_rd e10) (br_t rfl ⟨vp_in_nI (by omega) (by decide), nm_r (e' := upd a17 t x) (by rw [nI_clamp (by omega)]) (H _ (fun c hc => ?_) (fun p hp => pk_un (by omega)))⟩)⟩⟩⟩
  have : t + c = t := by omega
  rw [this, pk_us]
theorem gc_exSum {ps : St2 → Prop} {j t e a s : Nat} {v : Nat → Nat → Int32} (hj : j < 450) (e7 : a7 j = 5) (e8 : a8 j = nI a) (ha : a < 450) (w1 : a11 a = 1) (hv : gc_v 4 a16 a17 a s v) (he : e < 3) (ht : t + 4 ≤ 1920)
    (H : ∀ d17 : Nat → Int32, (∀ c, c < 1 → d17 (t + c) = 0 + v e 0 + v e 1 + v e 2 + v e 3) → (∀ p, p < t ∨ t + 4 ≤ p → d17 p = a17 p) → ps (nc, lv, le, fc, a1, a2, a3, a4, a5, a6, a7, a8, a9, a10, a11, a12, a13, a14, a15, a16, d17)) : wpX_execute ps (nc, lv, le, fc, a1, a2, a3, a4, a5, a6, a7, a8, a9, a10, a11, a12, a13, a14, a15, a16, a17) (nI j) (nI t) (nI e) := by
  have hin : vp_in (nI j) 450 := vp_in_nI hj (by decide)
  unfold wpX_execute
  dsimp only
  refine ⟨hin, nm_r (gc_rd e7) ⟨hin, nm_r (gc_rd e8) ⟨hin, nm_e (br_f (by decide) (br_f (by decide) (br_f (by decide) (br_t rfl ?_))))⟩⟩⟩
  unfold wpX_sumOf
  dsimp only
  refine ⟨5, br_f (by decide) (gc_laneW (c := 0) ha w1 hv he (by omega) (nm_e (nm_r (nI_1 0) ?_)))⟩
  refine br_f (by decide) (gc_laneW (c := 1) ha w1 hv he (by omega) (nm_e (nm_r (nI_1 1) ?_)))
  refine br_f (by decide) (gc_laneW (c := 2) ha w1 hv he (by omega) (nm_e (nm_r (nI_1 2) ?_)))
  refine br_f (by decide) (gc_laneW (c := 3) ha w1 hv he (by omega) (nm_e (nm_r (nI_1 3) ?_)))
  refine br_t (by decide) ⟨vp_in_nI (by omega) (by decide), nm_r (e' := upd a17 t (0 + v e 0 + v e 1 + v e 2 + v e 3)) (by rw [nI_clamp (by omega)]) (H _ (fun c hc => ?_) (fun p hp => pk_un (by omega)))⟩
  have : t + c = t := by omega
  rw [this, pk_us]
theorem gc_cMul {pc : Int32 → Prop} {j a b c e : Nat} {x y : Int32} (hj : j < 450) (e7 : a7 j = 4) (e8 : a8 j = nI a) (e9 : a9 j = nI b) (la : ∀ pl : Int32 → Prop, pl x → wpX_lane pl (nc, lv, le, fc, a1, a2, a3, a4, a5, a6, a7, a8, a9, a10, a11, a12, a13, a14, a15, a16, a17) (nI a) (nI c) (nI e)) (lb : ∀ pl : Int32 → Prop, pl y → wpX_lane pl (nc, lv, le, fc, a1, a2, a3, a4, a5, a6, a7, a8, a9, a10, a11, a12, a13, a14, a15, a16, a17) (nI b) (nI c) (nI e)) (H : pc (x * y)) : wpX_component pc (nc, lv, le, fc, a1, a2, a3, a4, a5, a6, a7, a8, a9, a10, a11, a12, a13, a14, a15, a16, a17) (nI j) (nI c) (nI e) := by
  have hin : vp_in (nI j) 450 := vp_in_nI hj (by decide)
  have hcj : (nI j).toNatClampNeg = j := nI_clamp (by omega)
  unfold wpX_component
  dsimp only
  rw [hcj, e9]
  exact ⟨hin, nm_r e7 ⟨hin, nm_r e8 (br_f (by decide) (br_f (by decide) (la _ (br_f (by decide) ⟨hin, lb _ (br_f (by decide) (br_f (by decide) (br_t rfl H)))⟩))))⟩⟩
theorem gc_cSpread {pc : Int32 → Prop} {j a c e : Nat} {x : Int32} (hj : j < 450) (e7 : a7 j = 8) (e8 : a8 j = nI a) (la : ∀ pl : Int32 → Prop, pl x → wpX_lane pl (nc, lv, le, fc, a1, a2, a3, a4, a5, a6, a7, a8, a9, a10, a11, a12, a13, a14, a15, a16, a17) (nI a) (nI c) (nI e)) (H : pc x) : wpX_component pc (nc, lv, le, fc, a1, a2, a3, a4, a5, a6, a7, a8, a9, a10, a11, a12, a13, a14, a15, a16, a17) (nI j) (nI c) (nI e) := by
  have hin : vp_in (nI j) 450 := vp_in_nI hj (by decide)
  have hcj : (nI j).toNatClampNeg = j := nI_clamp (by omega)
  unfold wpX_component
  dsimp only
  rw [hcj]
  exact ⟨hin, nm_r e7 ⟨hin, nm_r e8 (br_f (by decide) (br_f (by decide) (la _ (br_t rfl H))))⟩⟩
theorem gc_cPlace {pc : Int32 → Prop} {j a c e i : Nat} {x : Int32} (hj : j < 450) (e7 : a7 j = 12) (e8 : a8 j = nI a) (e10 : a10 j = nI i) (hi : i < 4) (hc : c < 4) (la : ∀ pl : Int32 → Prop, pl x → wpX_lane pl (nc, lv, le, fc, a1, a2, a3, a4, a5, a6, a7, a8, a9, a10, a11, a12, a13, a14, a15, a16, a17) (nI a) 0 (nI e)) (H : pc (if c = i then x else 0)) : wpX_component pc (nc, lv, le, fc, a1, a2, a3, a4, a5, a6, a7, a8, a9, a10, a11, a12, a13, a14, a15, a16, a17) (nI j) (nI c) (nI e) := by
  have hin : vp_in (nI j) 450 := vp_in_nI hj (by decide)
  have hcj : (nI j).toNatClampNeg = j := nI_clamp (by omega)
  unfold wpX_component
  dsimp only
  rw [hcj, e10]
  refine ⟨hin, nm_r e7 ⟨hin, nm_r e8 (br_f (by decide) (br_t rfl ⟨hin, pk_eq c i (fun z => la _ ?_) (fun z => ?_)⟩))⟩⟩
  · rw [if_pos z] at H
    exact H
  · rw [if_neg z] at H
    exact H
/-! release -/
theorem gc_relN {ps : St2 → Prop} {p0 p1 : Int32} (hp : p0 < 0) (H : ps (nc, lv, le, fc, a1, a2, a3, a4, a5, a6, a7, a8, a9, a10, a11, a12, a13, a14, a15, a16, a17)) : wpX_release ps (nc, lv, le, fc, a1, a2, a3, a4, a5, a6, a7, a8, a9, a10, a11, a12, a13, a14, a15, a16, a17) p0 p1 := by
  unfold wpX_release
  dsimp only
  exact br_t hp H
theorem gc_relNo {ps : St2 → Prop} {p : Nat} {x p1 : Int32} (hp : p < 450) (h : a13 p = x) (hne : ¬ x = p1) (H : ps (nc, lv, le, fc, a1, a2, a3, a4, a5, a6, a7, a8, a9, a10, a11, a12, a13, a14, a15, a16, a17)) : wpX_release ps (nc, lv, le, fc, a1, a2, a3, a4, a5, a6, a7, a8, a9, a10, a11, a12, a13, a14, a15, a16, a17) (nI p) p1 := by
  unfold wpX_release
  dsimp only
  exact br_f (nI_pos (by omega)) ⟨vp_in_nI hp (by decide), br_f (gc_rn h hne) H⟩
theorem gc_relYes {ps : St2 → Prop} {p f s : Nat} {p1 : Int32} (hp : p < 450) (h : a13 p = p1) (hf : f < 160) (h16 : a16 p = nI s) (hs : s < 160) (H : ps (nc, lv, le, nI (f + 1), a1, a2, a3, a4, a5, a6, a7, a8, a9, a10, a11, a12, a13, a14, upd a15 f (nI s), a16, a17)) : wpX_release ps (nc, lv, le, nI f, a1, a2, a3, a4, a5, a6, a7, a8, a9, a10, a11, a12, a13, a14, a15, a16, a17) (nI p) p1 := by
  have hin : vp_in (nI p) 450 := vp_in_nI hp (by decide)
  unfold wpX_release
  dsimp only
  exact br_f (nI_pos (by omega)) ⟨hin, br_t (gc_rd h) ⟨hin, vp_in_nI hf (by decide), nm_r (e' := upd a15 f (nI s)) (by rw [nI_clamp (by omega), nI_clamp (by omega), h16, vp_nar_short, gc_s16 s (by omega)]) (nm_r (nI_1 f) H)⟩⟩
end
end
section
/-! ===== 05: one turn of workOut ===== -/
section
variable {nc lv le fc : Int32} {a1 a2 a3 a4 a5 a6 a7 a8 a9 a10 a11 a12 a13 a14 a15 a16 a17 : Nat → Int32}
theorem gc_21 {post : Int32 → St2 → Prop} {x1 x2 x3 : Int32} (H : ∀ b15 : Nat → Int32, (∀ p, p < 160 → b15 p = nI (159 - p)) → ∃ q, wX_workOut_57 post x1 x2 x3 q 0 nc lv le (nI 160) a1 a2 a3 a4 a5 a6 a7 a8 a9 a10 a11 a12 a13 a14 b15 a16 a17) : ∃ q, wX_workOut_21 post x1 x2 x3 nc lv le q 159 0 a1 a2 a3 a4 a5 a6 a7 a8 a9 a10 a11 a12 a13 a14 a15 a16 a17 := by
  have h := pk_loop (fun q t y => wX_workOut_21 post x1 x2 x3 nc lv le q (nI (160 - t) + (-1)) (nI t) a1 a2 a3 a4 a5 a6 a7 a8 a9 a10 a11 a12 a13 a14 y a16 a17) (fun t y => ∀ p, p < t → y p = nI (159 - p)) 160 0 a15 (by omega) (fun p hp => absurd hp (by omega))
    (fun q y hy => br_t (by decide) (H y hy))
    (fun q t y ht hy hw => by
      have hw' : ∀ y' : Nat → Int32, (∀ p, p < t + 1 → y' p = nI (159 - p)) → wX_workOut_21 post x1 x2 x3 nc lv le q (nI (160 - (t + 1)) + (-1)) (nI (t + 1)) a1 a2 a3 a4 a5 a6 a7 a8 a9 a10 a11 a12 a13 a14 y' a16 a17 := hw
      show wX_workOut_21 post x1 x2 x3 nc lv le (q + 1) (nI (160 - t) + (-1)) (nI t) a1 a2 a3 a4 a5 a6 a7 a8 a9 a10 a11 a12 a13 a14 y a16 a17
      rw [show 160 - t = (160 - (t + 1)) + 1 by omega, pk_m1]
      refine br_f (nI_pos (by omega)) ⟨vp_in_nI ht (by decide), nm_r (e' := upd y t (nI (160 - (t + 1)))) (by rw [nI_clamp (by omega), gc_s16 _ (by omega)]) (nm_r (nI_1 t) (nm_e (hw' _ (fun p hp => ?_))))⟩
      by_cases e : p = t
      · rw [e, pk_us, show 160 - (t + 1) = 159 - t by omega]
      · rw [pk_un e]
        exact hy p (by omega))
  have e : (nI (160 - 0) + (-1) : Int32) = 159 := by decide
  obtain ⟨q, hq⟩ := h
  rw [e] at hq
  exact ⟨q, hq⟩
theorem gc_skip {post : Int32 → St2 → Prop} {x2 x3 : Int32} {q j R : Nat} (hjR : j ≤ R) (hR : R < 450) (h13 : a13 j = -1) (H : wX_workOut_57 post (nI R) x2 x3 q (nI (j + 1)) nc lv le fc a1 a2 a3 a4 a5 a6 a7 a8 a9 a10 a11 a12 a13 a14 a15 a16 a17) : wX_workOut_57 post (nI R) x2 x3 (q + 1) (nI j) nc lv le fc a1 a2 a3 a4 a5 a6 a7 a8 a9 a10 a11 a12 a13 a14 a15 a16 a17 :=
  pk_lt R j (fun z => absurd z (by omega)) (fun _ => ⟨vp_in_nI (by omega) (by decide), br_f (by rw [gc_rd h13]; decide) (nm_r (nI_1 j) H)⟩)
theorem gc_end {post : Int32 → St2 → Prop} {x2 x3 : Int32} {q R : Nat} (hR : R < 450) (H : wpX_laneOf (fun r => post r (nc, lv, le, fc, a1, a2, a3, a4, a5, a6, a7, a8, a9, a10, a11, a12, a13, a14, a15, a16, a17)) (nc, lv, le, fc, a1, a2, a3, a4, a5, a6, a7, a8, a9, a10, a11, a12, a13, a14, a15, a16, a17) (nI R) x2 x3) : wX_workOut_57 post (nI R) x2 x3 (q + 1) (nI (R + 1)) nc lv le fc a1 a2 a3 a4 a5 a6 a7 a8 a9 a10 a11 a12 a13 a14 a15 a16 a17 :=
  pk_lt R (R + 1) (fun _ => H) (fun z => absurd z (by omega))
theorem gc_iter {post : Int32 → St2 → Prop} {x2 x3 : Int32} {q j R r f s w : Nat} {v : Nat → Nat → Int32} (fc1 fc2 : Int32) (c15 d15 : Nat → Int32)
    (hjR : j ≤ R) (hR : R < 450) (h13 : a13 j = nI r) (hr : r < 1000) (hf : f < 160) (h15 : a15 f = nI s) (hs : s < 160) (hw4 : w ≤ 4)
    (hex : ∀ e, e < 3 → ∀ b17 : Nat → Int32, gc_out s b17 a17 → ∀ ps : St2 → Prop, (∀ d17 : Nat → Int32, (∀ c, c < w → d17 (12 * s + 4 * e + c) = v e c) → (∀ p, p < 12 * s + 4 * e ∨ 12 * s + 4 * e + 4 ≤ p → d17 p = b17 p) → ps (nc, lv, le, nI f, a1, a2, a3, a4, a5, a6, a7, a8, a9, a10, a11, a12, a13, a14, a15, upd a16 j (nI s), d17)) → wpX_execute ps (nc, lv, le, nI f, a1, a2, a3, a4, a5, a6, a7, a8, a9, a10, a11, a12, a13, a14, a15, upd a16 j (nI s), b17) (nI j) (nI (12 * s + 4 * e)) (nI e))
    (hr1 : ∀ (b17 : Nat → Int32) (ps : St2 → Prop), ps (nc, lv, le, fc1, a1, a2, a3, a4, a5, a6, a7, a8, a9, a10, a11, a12, a13, a14, c15, upd a16 j (nI s), b17) → wpX_release ps (nc, lv, le, nI f, a1, a2, a3, a4, a5, a6, a7, a8, a9, a10, a11, a12, a13, a14, a15, upd a16 j (nI s), b17) (a8 j) (nI j))
    (hr2 : (a9 j = a8 j ∧ fc2 = fc1 ∧ d15 = c15) ∨ (¬ a9 j = a8 j ∧ ∀ (b17 : Nat → Int32) (ps : St2 → Prop), ps (nc, lv, le, fc2, a1, a2, a3, a4, a5, a6, a7, a8, a9, a10, a11, a12, a13, a14, d15, upd a16 j (nI s), b17) → wpX_release ps (nc, lv, le, fc1, a1, a2, a3, a4, a5, a6, a7, a8, a9, a10, a11, a12, a13, a14, c15, upd a16 j (nI s), b17) (a9 j) (nI j)))
    (H : ∀ b17 : Nat → Int32, gc_v w (upd a16 j (nI s)) b17 j s v → gc_out s b17 a17 → wX_workOut_57 post (nI R) x2 x3 q (nI (j + 1)) nc lv le fc2 a1 a2 a3 a4 a5 a6 a7 a8 a9 a10 a11 a12 a13 a14 d15 (upd a16 j (nI s)) b17) :
    wX_workOut_57 post (nI R) x2 x3 (q + 1) (nI j) nc lv le (nI (f + 1)) a1 a2 a3 a4 a5 a6 a7 a8 a9 a10 a11 a12 a13 a14 a15 a16 a17 := by
  have hin : vp_in (nI j) 450 := vp_in_nI (by omega) (by decide)
  have hcj : (nI j).toNatClampNeg = j := nI_clamp (by omega)
  refine pk_lt R j (fun z => absurd z (by omega)) (fun _ => ⟨hin, br_t (by rw [gc_rd h13]; exact nI_pos' (by omega)) (nm_r (nI_pred f) ⟨vp_in_nI hf (by decide), hin, nm_r (e' := upd a16 j (nI s)) (by rw [hcj, nI_clamp (by omega), h15, vp_nar_short, gc_s16 s (by omega)]) ?_⟩)⟩)
  refine pk_loop (fun m e y => wX_workOut_105 post (wX_workOut_57 post (nI R) x2 x3 q) (nI R) x2 x3 (nI j) m (nI e) nc lv le (nI f) a1 a2 a3 a4 a5 a6 a7 a8 a9 a10 a11 a12 a13 a14 a15 (upd a16 j (nI s)) y) (fun e y => (∀ e' c, e' < e → c < w → y (12 * s + 4 * e' + c) = v e' c) ∧ gc_out s y a17) 3 0 a17 (by omega) ⟨fun e' c he' _ => absurd he' (by omega), fun p _ => rfl⟩ (fun m y hy => pk_le 3 3 (fun _ => ⟨hin, ?_⟩) (fun z => absurd z (by omega))) (fun m e y he hy hw => pk_le 3 e (fun z => absurd z (by omega)) (fun _ => ⟨hin, ?_⟩))
  · have hv : gc_v w (upd a16 j (nI s)) y j s v := ⟨hs, pk_us, hy.1⟩
    rw [hcj]
    refine hr1 y _ ⟨hin, hin, ?_⟩
    rcases hr2 with ⟨h1, h2, h3⟩ | ⟨h1, h2⟩
    · subst h2 h3
      exact br_t h1 (nm_r (nI_1 j) (H y hv hy.2))
    · exact br_f h1 ⟨hin, h2 y _ (nm_r (nI_1 j) (H y hv hy.2))⟩
  · rw [hcj, pk_us, gc_ix0 s e]
    refine hex e he y hy.2 _ (fun d17 hd1 hd2 => nm_r (nI_1 e) (hw _ ⟨fun e' c he' hc => ?_, fun p hp => ?_⟩))
    · by_cases ee : e' = e
      · rw [ee]
        exact hd1 c hc
      · rw [hd2 _ (by omega)]
        exact hy.1 e' c (by omega) hc
    · rw [hd2 p (by omega)]
      exact hy.2 p hp
/-! what an operation's execution leaves, by kind -/
theorem gc_hexIn {j k s : Nat} {x16 : Nat → Int32} (hj : j < 450) (e7 : a7 j = 0) (e10 : a10 j = nI k) (hk : k < 3) (hs : s < 160) :
    ∀ e, e < 3 → ∀ b17 : Nat → Int32, gc_out s b17 a17 → ∀ ps : St2 → Prop, (∀ d17 : Nat → Int32, (∀ c, c < 4 → d17 (12 * s + 4 * e + c) = a5 (12 * e + 4 * k + c)) → (∀ p, p < 12 * s + 4 * e ∨ 12 * s + 4 * e + 4 ≤ p → d17 p = b17 p) → ps (nc, lv, le, fc, a1, a2, a3, a4, a5, a6, a7, a8, a9, a10, a11, a12, a13, a14, a15, x16, d17)) → wpX_execute ps (nc, lv, le, fc, a1, a2, a3, a4, a5, a6, a7, a8, a9, a10, a11, a12, a13, a14, a15, x16, b17) (nI j) (nI (12 * s + 4 * e)) (nI e) :=
  fun e he b17 _ ps H => gc_exIn hj e7 e10 hk he (by omega) H
theorem gc_hexConst {j s : Nat} {x : Int32} {x16 : Nat → Int32} (hj : j < 450) (e7 : a7 j = 1) (e10 : a10 j = x) (hs : s < 160) :
    ∀ e, e < 3 → ∀ b17 : Nat → Int32, gc_out s b17 a17 → ∀ ps : St2 → Prop, (∀ d17 : Nat → Int32, (∀ c, c < 1 → d17 (12 * s + 4 * e + c) = x) → (∀ p, p < 12 * s + 4 * e ∨ 12 * s + 4 * e + 4 ≤ p → d17 p = b17 p) → ps (nc, lv, le, fc, a1, a2, a3, a4, a5, a6, a7, a8, a9, a10, a11, a12, a13, a14, a15, x16, d17)) → wpX_execute ps (nc, lv, le, fc, a1, a2, a3, a4, a5, a6, a7, a8, a9, a10, a11, a12, a13, a14, a15, x16, b17) (nI j) (nI (12 * s + 4 * e)) (nI e) :=
  fun e he b17 _ ps H => gc_exConst hj e7 e10 (by omega) H
theorem gc_hexSum {j a s sa : Nat} {va : Nat → Nat → Int32} (hj : j < 450) (e7 : a7 j = 5) (e8 : a8 j = nI a) (ha : a < 450) (w1 : a11 a = 1) (hs : s < 160) (Va : gc_v 4 a16 a17 a sa va) (hsa : sa ≠ s) (haj : a ≠ j) :
    ∀ e, e < 3 → ∀ b17 : Nat → Int32, gc_out s b17 a17 → ∀ ps : St2 → Prop, (∀ d17 : Nat → Int32, (∀ c, c < 1 → d17 (12 * s + 4 * e + c) = 0 + va e 0 + va e 1 + va e 2 + va e 3) → (∀ p, p < 12 * s + 4 * e ∨ 12 * s + 4 * e + 4 ≤ p → d17 p = b17 p) → ps (nc, lv, le, fc, a1, a2, a3, a4, a5, a6, a7, a8, a9, a10, a11, a12, a13, a14, a15, upd a16 j (nI s), d17)) → wpX_execute ps (nc, lv, le, fc, a1, a2, a3, a4, a5, a6, a7, a8, a9, a10, a11, a12, a13, a14, a15, upd a16 j (nI s), b17) (nI j) (nI (12 * s + 4 * e)) (nI e) :=
  fun e he b17 hb ps H => gc_exSum hj e7 e8 ha w1 (gc_v_keep Va (by omega) hsa haj hb) he (by omega) H
theorem gc_out_row {s e : Nat} {a b y : Nat → Int32} (he : e < 3) (hb : gc_out s b a) (hy : ∀ p, p < 12 * s + 4 * e ∨ 12 * s + 4 * e + 4 ≤ p → y p = b p) : gc_out s y a := fun p hp => by
  rw [hy p (by omega)]
  exact hb p hp
theorem gc_hexMul {j a b s sa sb : Nat} {va vb : Nat → Nat → Int32} (hj : j < 450) (e7 : a7 j = 4) (e8 : a8 j = nI a) (e9 : a9 j = nI b) (ha : a < 450) (hb : b < 450) (wj : a11 j = 1) (wa : a11 a = 1) (wb : a11 b = 1) (hs : s < 160) (Va : gc_v 4 a16 a17 a sa va) (Vb : gc_v 4 a16 a17 b sb vb) (hsa : sa ≠ s) (hsb : sb ≠ s) (haj : a ≠ j) (hbj : b ≠ j) :
    ∀ e, e < 3 → ∀ b17 : Nat → Int32, gc_out s b17 a17 → ∀ ps : St2 → Prop, (∀ d17 : Nat → Int32, (∀ c, c < 4 → d17 (12 * s + 4 * e + c) = va e c * vb e c) → (∀ p, p < 12 * s + 4 * e ∨ 12 * s + 4 * e + 4 ≤ p → d17 p = b17 p) → ps (nc, lv, le, fc, a1, a2, a3, a4, a5, a6, a7, a8, a9, a10, a11, a12, a13, a14, a15, upd a16 j (nI s), d17)) → wpX_execute ps (nc, lv, le, fc, a1, a2, a3, a4, a5, a6, a7, a8, a9, a10, a11, a12, a13, a14, a15, upd a16 j (nI s), b17) (nI j) (nI (12 * s + 4 * e)) (nI e) :=
  fun e he b17 hb17 ps H => gc_exWide (v := fun c => va e c * vb e c) hj e7 (by decide) wj (by omega)
    (fun c hc y hy pc hpc => gc_cMul hj e7 e8 e9 (fun pl hpl => gc_laneW ha wa (gc_v_keep Va (by omega) hsa haj (gc_out_row he hb17 hy)) he hc hpl) (fun pl hpl => gc_laneW hb wb (gc_v_keep Vb (by omega) hsb hbj (gc_out_row he hb17 hy)) he hc hpl) hpc) H
theorem gc_hexSpread {j a s sa : Nat} {va : Nat → Nat → Int32} (hj : j < 450) (e7 : a7 j = 8) (e8 : a8 j = nI a) (ha : a < 450) (wj : a11 j = 1) (wa : a11 a = 0) (hs : s < 160) (Va : gc_v 1 a16 a17 a sa va) (hsa : sa ≠ s) (haj : a ≠ j) :
    ∀ e, e < 3 → ∀ b17 : Nat → Int32, gc_out s b17 a17 → ∀ ps : St2 → Prop, (∀ d17 : Nat → Int32, (∀ c, c < 4 → d17 (12 * s + 4 * e + c) = va e 0) → (∀ p, p < 12 * s + 4 * e ∨ 12 * s + 4 * e + 4 ≤ p → d17 p = b17 p) → ps (nc, lv, le, fc, a1, a2, a3, a4, a5, a6, a7, a8, a9, a10, a11, a12, a13, a14, a15, upd a16 j (nI s), d17)) → wpX_execute ps (nc, lv, le, fc, a1, a2, a3, a4, a5, a6, a7, a8, a9, a10, a11, a12, a13, a14, a15, upd a16 j (nI s), b17) (nI j) (nI (12 * s + 4 * e)) (nI e) :=
  fun e he b17 hb17 ps H => gc_exWide (v := fun _ => va e 0) hj e7 (by decide) wj (by omega)
    (fun c hc y hy pc hpc => gc_cSpread hj e7 e8 (fun pl hpl => gc_laneN ha wa (gc_v_keep Va (by omega) hsa haj (gc_out_row he hb17 hy)) he hpl) hpc) H
theorem gc_hexPlace {j a s sa i : Nat} {va : Nat → Nat → Int32} (hj : j < 450) (e7 : a7 j = 12) (e8 : a8 j = nI a) (e10 : a10 j = nI i) (hi : i < 4) (ha : a < 450) (wj : a11 j = 1) (wa : a11 a = 0) (hs : s < 160) (Va : gc_v 1 a16 a17 a sa va) (hsa : sa ≠ s) (haj : a ≠ j) :
    ∀ e, e < 3 → ∀ b17 : Nat → Int32, gc_out s b17 a17 → ∀ ps : St2 → Prop, (∀ d17 : Nat → Int32, (∀ c, c < 4 → d17 (12 * s + 4 * e + c) = if c = i then va e 0 else 0) → (∀ p, p < 12 * s + 4 * e ∨ 12 * s + 4 * e + 4 ≤ p → d17 p = b17 p) → ps (nc, lv, le, fc, a1, a2, a3, a4, a5, a6, a7, a8, a9, a10, a11, a12, a13, a14, a15, upd a16 j (nI s), d17)) → wpX_execute ps (nc, lv, le, fc, a1, a2, a3, a4, a5, a6, a7, a8, a9, a10, a11, a12, a13, a14, a15, upd a16 j (nI s), b17) (nI j) (nI (12 * s + 4 * e)) (nI e) :=
  fun e he b17 hb17 ps H => gc_exWide (v := fun c => if c = i then va e 0 else 0) hj e7 (by decide) wj (by omega)
    (fun c hc y hy pc hpc => gc_cPlace hj e7 e8 e10 hi hc (fun pl hpl => gc_laneN ha wa (gc_v_keep Va (by omega) hsa haj (gc_out_row he hb17 hy)) he hpl) hpc) H
end
end
section
/-! ===== 06: the three runs of workOut ===== -/
def gc_m (a5 : Nat → Int32) (e c : Nat) : Int32 := a5 (12 * e + 4 * 2 + c) * a5 (12 * e + 4 * 0 + c)
theorem gc_M1 : ∀ i, i < 4 → gc_lu ((gc_P i).take 4) (3 + 1) (List.replicate 3 (-1) ++ [450]) = [nI 2, nI 2, nI 3, nI 450] := by decide +kernel
theorem gc_M2 : ∀ i, i < 4 → gc_lu ((gc_P i).take 13) (11 + 1) (List.replicate 11 (-1) ++ [450]) = [-1, -1, -1, -1, nI 9, nI 11, -1, -1, -1, nI 11, -1, nI 450] := by decide +kernel
theorem gc_M3 : ∀ i, i < 4 → gc_lu ((gc_P i).take 8) (7 + 1) (List.replicate 7 (-1) ++ [450]) = [-1, nI 7, -1, -1, nI 5, nI 7, -1, nI 450] := by decide +kernel
theorem gc_f1 : ∀ i, i < 4 → ∀ j, j < 3 + 1 → ((gc_lk ((gc_P i).take 4) j).2.1 < 0 ∨ (gc_lk ((gc_P i).take 4) j).2.1.toNatClampNeg < 3 + 1) ∧ ((gc_lk ((gc_P i).take 4) j).2.2.1 < 0 ∨ (gc_lk ((gc_P i).take 4) j).2.2.1.toNatClampNeg < 3 + 1) := by decide +kernel
theorem gc_f2 : ∀ i, i < 4 → ∀ j, j < 11 + 1 → ((gc_lk ((gc_P i).take 13) j).2.1 < 0 ∨ (gc_lk ((gc_P i).take 13) j).2.1.toNatClampNeg < 11 + 1) ∧ ((gc_lk ((gc_P i).take 13) j).2.2.1 < 0 ∨ (gc_lk ((gc_P i).take 13) j).2.2.1.toNatClampNeg < 11 + 1) := by decide +kernel
theorem gc_f3 : ∀ i, i < 4 → ∀ j, j < 7 + 1 → ((gc_lk ((gc_P i).take 8) j).2.1 < 0 ∨ (gc_lk ((gc_P i).take 8) j).2.1.toNatClampNeg < 7 + 1) ∧ ((gc_lk ((gc_P i).take 8) j).2.2.1 < 0 ∨ (gc_lk ((gc_P i).take 8) j).2.2.1.toNatClampNeg < 7 + 1) := by decide +kernel
section
variable {nc lv le fc : Int32} {a1 a2 a3 a4 a5 a6 a7 a8 a9 a10 a11 a12 a13 a14 a15 a16 a17 : Nat → Int32}
/-- value: the sum of the products -/
theorem gc_W1 {post : Int32 → St2 → Prop} {i k : Nat} (hi : i < 4) (hk : k < 3) (h : gc_ops ((gc_P i).take 4) a7 a8 a9 a10 a11)
    (H : ∀ (gf : Int32) (b13 b15 b16 b17 : Nat → Int32), post (0 + gc_m a5 k 0 + gc_m a5 k 1 + gc_m a5 k 2 + gc_m a5 k 3) (nc, lv, le, gf, a1, a2, a3, a4, a5, a6, a7, a8, a9, a10, a11, a12, b13, a14, b15, b16, b17)) : wpX_workOut post (nc, lv, le, fc, a1, a2, a3, a4, a5, a6, a7, a8, a9, a10, a11, a12, a13, a14, a15, a16, a17) (nI 3) 0 (nI k) := by
  obtain ⟨u7, u8, u9, u10, u11⟩ : a7 0 = 0 ∧ a8 0 = -1 ∧ a9 0 = -1 ∧ a10 0 = nI 0 ∧ a11 0 = 1 := h 0 _ rfl
  obtain ⟨v7, v8, v9, v10, v11⟩ : a7 1 = 0 ∧ a8 1 = -1 ∧ a9 1 = -1 ∧ a10 1 = nI 2 ∧ a11 1 = 1 := h 1 _ rfl
  obtain ⟨w7, w8, w9, w10, w11⟩ : a7 2 = 4 ∧ a8 2 = nI 1 ∧ a9 2 = nI 0 ∧ a10 2 = 0 ∧ a11 2 = 1 := h 2 _ rfl
  obtain ⟨x7, x8, x9, x10, x11⟩ : a7 3 = 5 ∧ a8 3 = nI 2 ∧ a9 3 = -1 ∧ a10 3 = 0 ∧ a11 3 = 0 := h 3 _ rfl
  unfold wpX_workOut
  dsimp only
  refine br_t (by decide) (gc_flu (R := 3) h (show 3 < 4 by omega) (show 4 < 450 by omega) (gc_f1 i hi) (gc_M1 i hi) (fun b13 hM => ?_))
  show ∃ q, wX_workOut_21 post (nI 3) 0 (nI k) nc lv le q 159 0 a1 a2 a3 a4 a5 a6 a7 a8 a9 a10 a11 a12 b13 a14 a15 a16 a17
  refine gc_21 (fun b15 hb15 => ⟨5, ?_⟩)
  have r0 : b13 0 = nI 2 := hM 0 _ rfl
  have r1 : b13 1 = nI 2 := hM 1 _ rfl
  have r2 : b13 2 = nI 3 := hM 2 _ rfl
  have r3 : b13 3 = nI 450 := hM 3 _ rfl
  refine gc_iter (j := 0) (r := 2) (f := 159) (s := 0) (w := 4) (v := fun e c => a5 (12 * e + 4 * 0 + c)) (nI 159) (nI 159) b15 b15 (by omega) (by omega) r0 (by omega) (by omega) (hb15 159 (by omega)) (by omega) (by omega)
    (gc_hexIn (by omega) u7 u10 (by omega) (by omega)) (fun b17 ps hp => by rw [u8]; exact gc_relN (by decide) hp) (Or.inl ⟨by rw [u8, u9], rfl, rfl⟩) (fun y0 V0 O0 => ?_)
  refine gc_iter (j := 1) (r := 2) (f := 158) (s := 1) (w := 4) (v := fun e c => a5 (12 * e + 4 * 2 + c)) (nI 158) (nI 158) b15 b15 (by omega) (by omega) r1 (by omega) (by omega) (hb15 158 (by omega)) (by omega) (by omega)
    (gc_hexIn (by omega) v7 v10 (by omega) (by omega)) (fun b17 ps hp => by rw [v8]; exact gc_relN (by decide) hp) (Or.inl ⟨by rw [v8, v9], rfl, rfl⟩) (fun y1 V1 O1 => ?_)
  have V0' := gc_v_keep (j := 1) (x := nI 1) V0 (by omega) (by omega) (by omega) O1
  refine gc_iter (j := 2) (r := 3) (f := 157) (s := 2) (w := 4) (v := fun e c => a5 (12 * e + 4 * 2 + c) * a5 (12 * e + 4 * 0 + c)) (nI 158) (nI 159) (upd b15 157 (nI 1)) (upd (upd b15 157 (nI 1)) 158 (nI 0)) (by omega) (by omega) r2 (by omega) (by omega) (hb15 157 (by omega)) (by omega) (by omega)
    (gc_hexMul (by omega) w7 w8 w9 (by omega) (by omega) w11 v11 u11 (by omega) V1 V0' (by omega) (by omega) (by omega) (by omega))
    (fun b17 ps hp => by rw [w8]; exact gc_relYes (p := 1) (f := 157) (s := 1) (by omega) r1 (by omega) rfl (by omega) hp)
    (Or.inr ⟨by rw [w8, w9]; decide, fun b17 ps hp => by rw [w9]; exact gc_relYes (p := 0) (f := 158) (s := 0) (by omega) r0 (by omega) rfl (by omega) hp⟩) (fun y2 V2 O2 => ?_)
  refine gc_iter (j := 3) (r := 450) (f := 158) (s := 0) (w := 1) (v := fun e _ => 0 + gc_m a5 e 0 + gc_m a5 e 1 + gc_m a5 e 2 + gc_m a5 e 3) (nI 159) (nI 159) (upd (upd (upd b15 157 (nI 1)) 158 (nI 0)) 158 (nI 2)) (upd (upd (upd b15 157 (nI 1)) 158 (nI 0)) 158 (nI 2)) (by omega) (by omega) r3 (by omega) (by omega) pk_us (by omega) (by omega)
    (gc_hexSum (by omega) x7 x8 (by omega) w11 (by omega) V2 (by omega) (by omega))
    (fun b17 ps hp => by rw [x8]; exact gc_relYes (p := 2) (f := 158) (s := 2) (by omega) r2 (by omega) rfl (by omega) hp)
    (Or.inr ⟨by rw [x8, x9]; decide, fun b17 ps hp => by rw [x9]; exact gc_relN (by decide) hp⟩) (fun y3 V3 O3 => ?_)
  exact gc_end (R := 3) (by omega) (gc_laneOfN (by omega) x11 V3 hk (H _ _ _ _ _))
/-- bend: the slope of the slope is 1 -/
theorem gc_W2 {post : Int32 → St2 → Prop} {i k : Nat} (hi : i < 4) (hk : k < 3) (h : gc_ops ((gc_P i).take 13) a7 a8 a9 a10 a11)
    (H : ∀ (gf : Int32) (b13 b15 b16 b17 : Nat → Int32), post 1 (nc, lv, le, gf, a1, a2, a3, a4, a5, a6, a7, a8, a9, a10, a11, a12, b13, a14, b15, b16, b17)) : wpX_workOut post (nc, lv, le, fc, a1, a2, a3, a4, a5, a6, a7, a8, a9, a10, a11, a12, a13, a14, a15, a16, a17) (nI 11) (nI i) (nI k) := by
  obtain ⟨u7, u8, u9, u10, u11⟩ : a7 4 = 1 ∧ a8 4 = -1 ∧ a9 4 = -1 ∧ a10 4 = 1 ∧ a11 4 = 0 := h 4 _ rfl
  obtain ⟨v7, v8, v9, v10, v11⟩ : a7 5 = 8 ∧ a8 5 = nI 4 ∧ a9 5 = -1 ∧ a10 5 = 0 ∧ a11 5 = 1 := h 5 _ rfl
  obtain ⟨w7, w8, w9, w10, w11⟩ : a7 9 = 12 ∧ a8 9 = nI 4 ∧ a9 9 = -1 ∧ a10 9 = nI i ∧ a11 9 = 1 := h 9 _ rfl
  obtain ⟨x7, x8, x9, x10, x11⟩ : a7 11 = 4 ∧ a8 11 = nI 9 ∧ a9 11 = nI 5 ∧ a10 11 = 0 ∧ a11 11 = 1 := h 11 _ rfl
  unfold wpX_workOut
  dsimp only
  refine br_t (by decide) (gc_flu (R := 11) h (show 11 < 13 by omega) (show 13 < 450 by omega) (gc_f2 i hi) (gc_M2 i hi) (fun b13 hM => ?_))
  show ∃ q, wX_workOut_21 post (nI 11) (nI i) (nI k) nc lv le q 159 0 a1 a2 a3 a4 a5 a6 a7 a8 a9 a10 a11 a12 b13 a14 a15 a16 a17
  refine gc_21 (fun b15 hb15 => ⟨13, ?_⟩)
  have r4 : b13 4 = nI 9 := hM 4 _ rfl
  have r5 : b13 5 = nI 11 := hM 5 _ rfl
  have r9 : b13 9 = nI 11 := hM 9 _ rfl
  have r11 : b13 11 = nI 450 := hM 11 _ rfl
  refine gc_skip (j := 0) (by omega) (by omega) (hM 0 _ rfl) (gc_skip (j := 1) (by omega) (by omega) (hM 1 _ rfl) (gc_skip (j := 2) (by omega) (by omega) (hM 2 _ rfl) (gc_skip (j := 3) (by omega) (by omega) (hM 3 _ rfl) ?_)))
  refine gc_iter (j := 4) (r := 9) (f := 159) (s := 0) (w := 1) (v := fun _ _ => 1) (nI 159) (nI 159) b15 b15 (by omega) (by omega) r4 (by omega) (by omega) (hb15 159 (by omega)) (by omega) (by omega)
    (gc_hexConst (by omega) u7 u10 (by omega)) (fun b17 ps hp => by rw [u8]; exact gc_relN (by decide) hp) (Or.inl ⟨by rw [u8, u9], rfl, rfl⟩) (fun y0 V0 O0 => ?_)
  refine gc_iter (j := 5) (r := 11) (f := 158) (s := 1) (w := 4) (v := fun _ _ => 1) (nI 158) (nI 158) b15 b15 (by omega) (by omega) r5 (by omega) (by omega) (hb15 158 (by omega)) (by omega) (by omega)
    (gc_hexSpread (by omega) v7 v8 (by omega) v11 u11 (by omega) V0 (by omega) (by omega))
    (fun b17 ps hp => by rw [v8]; exact gc_relNo (p := 4) (by omega) r4 (by decide) hp)
    (Or.inr ⟨by rw [v8, v9]; decide, fun b17 ps hp => by rw [v9]; exact gc_relN (by decide) hp⟩) (fun y1 V1 O1 => ?_)
  have V0' := gc_v_keep (j := 5) (x := nI 1) V0 (by omega) (by omega) (by omega) O1
  refine gc_skip (j := 6) (by omega) (by omega) (hM 6 _ rfl) (gc_skip (j := 7) (by omega) (by omega) (hM 7 _ rfl) (gc_skip (j := 8) (by omega) (by omega) (hM 8 _ rfl) ?_))
  refine gc_iter (j := 9) (r := 11) (f := 157) (s := 2) (w := 4) (v := fun _ c => if c = i then 1 else 0) (nI 158) (nI 158) (upd b15 157 (nI 0)) (upd b15 157 (nI 0)) (by omega) (by omega) r9 (by omega) (by omega) (hb15 157 (by omega)) (by omega) (by omega)
    (gc_hexPlace (by omega) w7 w8 w10 hi (by omega) w11 u11 (by omega) V0' (by omega) (by omega))
    (fun b17 ps hp => by rw [w8]; exact gc_relYes (p := 4) (f := 157) (s := 0) (by omega) r4 (by omega) rfl (by omega) hp)
    (Or.inr ⟨by rw [w8, w9]; decide, fun b17 ps hp => by rw [w9]; exact gc_relN (by decide) hp⟩) (fun y2 V2 O2 => ?_)
  have V1' := gc_v_keep (j := 9) (x := nI 2) V1 (by omega) (by omega) (by omega) O2
  refine gc_skip (j := 10) (by omega) (by omega) (hM 10 _ rfl) ?_
  refine gc_iter (j := 11) (r := 450) (f := 157) (s := 0) (w := 4) (v := fun _ c => (if c = i then 1 else 0) * 1) (nI 158) (nI 159) (upd (upd b15 157 (nI 0)) 157 (nI 2)) (upd (upd (upd b15 157 (nI 0)) 157 (nI 2)) 158 (nI 1)) (by omega) (by omega) r11 (by omega) (by omega) pk_us (by omega) (by omega)
    (gc_hexMul (by omega) x7 x8 x9 (by omega) (by omega) x11 w11 v11 (by omega) V2 V1' (by omega) (by omega) (by omega) (by omega))
    (fun b17 ps hp => by rw [x8]; exact gc_relYes (p := 9) (f := 157) (s := 2) (by omega) r9 (by omega) rfl (by omega) hp)
    (Or.inr ⟨by rw [x8, x9]; decide, fun b17 ps hp => by rw [x9]; exact gc_relYes (p := 5) (f := 158) (s := 1) (by omega) r5 (by omega) rfl (by omega) hp⟩) (fun y3 V3 O3 => ?_)
  refine gc_end (R := 11) (by omega) (gc_laneOfW (c := i) (by omega) x11 V3 hk hi ?_)
  rw [if_pos rfl]
  exact H _ _ _ _ _
/-- step: the slope by the first input is the second one -/
theorem gc_W3 {post : Int32 → St2 → Prop} {i : Nat} (hi : i < 4) (h : gc_ops ((gc_P i).take 8) a7 a8 a9 a10 a11)
    (H : ∀ (r gf : Int32) (b13 b15 b16 b17 : Nat → Int32), gc_v 4 b16 b17 7 1 (fun e c => 1 * a5 (12 * e + 4 * 2 + c)) → post r (nc, lv, le, gf, a1, a2, a3, a4, a5, a6, a7, a8, a9, a10, a11, a12, b13, a14, b15, b16, b17)) : wpX_workOut post (nc, lv, le, fc, a1, a2, a3, a4, a5, a6, a7, a8, a9, a10, a11, a12, a13, a14, a15, a16, a17) (nI 7) 0 0 := by
  obtain ⟨u7, u8, u9, u10, u11⟩ : a7 1 = 0 ∧ a8 1 = -1 ∧ a9 1 = -1 ∧ a10 1 = nI 2 ∧ a11 1 = 1 := h 1 _ rfl
  obtain ⟨v7, v8, v9, v10, v11⟩ : a7 4 = 1 ∧ a8 4 = -1 ∧ a9 4 = -1 ∧ a10 4 = 1 ∧ a11 4 = 0 := h 4 _ rfl
  obtain ⟨w7, w8, w9, w10, w11⟩ : a7 5 = 8 ∧ a8 5 = nI 4 ∧ a9 5 = -1 ∧ a10 5 = 0 ∧ a11 5 = 1 := h 5 _ rfl
  obtain ⟨x7, x8, x9, x10, x11⟩ : a7 7 = 4 ∧ a8 7 = nI 5 ∧ a9 7 = nI 1 ∧ a10 7 = 0 ∧ a11 7 = 1 := h 7 _ rfl
  unfold wpX_workOut
  dsimp only
  refine br_t (by decide) (gc_flu (R := 7) h (show 7 < 8 by omega) (show 8 < 450 by omega) (gc_f3 i hi) (gc_M3 i hi) (fun b13 hM => ?_))
  show ∃ q, wX_workOut_21 post (nI 7) 0 0 nc lv le q 159 0 a1 a2 a3 a4 a5 a6 a7 a8 a9 a10 a11 a12 b13 a14 a15 a16 a17
  refine gc_21 (fun b15 hb15 => ⟨9, ?_⟩)
  have r1 : b13 1 = nI 7 := hM 1 _ rfl
  have r4 : b13 4 = nI 5 := hM 4 _ rfl
  have r5 : b13 5 = nI 7 := hM 5 _ rfl
  have r7 : b13 7 = nI 450 := hM 7 _ rfl
  refine gc_skip (j := 0) (by omega) (by omega) (hM 0 _ rfl) ?_
  refine gc_iter (j := 1) (r := 7) (f := 159) (s := 0) (w := 4) (v := fun e c => a5 (12 * e + 4 * 2 + c)) (nI 159) (nI 159) b15 b15 (by omega) (by omega) r1 (by omega) (by omega) (hb15 159 (by omega)) (by omega) (by omega)
    (gc_hexIn (by omega) u7 u10 (by omega) (by omega)) (fun b17 ps hp => by rw [u8]; exact gc_relN (by decide) hp) (Or.inl ⟨by rw [u8, u9], rfl, rfl⟩) (fun y0 V0 O0 => ?_)
  refine gc_skip (j := 2) (by omega) (by omega) (hM 2 _ rfl) (gc_skip (j := 3) (by omega) (by omega) (hM 3 _ rfl) ?_)
  refine gc_iter (j := 4) (r := 5) (f := 158) (s := 1) (w := 1) (v := fun _ _ => 1) (nI 158) (nI 158) b15 b15 (by omega) (by omega) r4 (by omega) (by omega) (hb15 158 (by omega)) (by omega) (by omega)
    (gc_hexConst (by omega) v7 v10 (by omega)) (fun b17 ps hp => by rw [v8]; exact gc_relN (by decide) hp) (Or.inl ⟨by rw [v8, v9], rfl, rfl⟩) (fun y1 V1 O1 => ?_)
  have V0' := gc_v_keep (j := 4) (x := nI 1) V0 (by omega) (by omega) (by omega) O1
  refine gc_iter (j := 5) (r := 7) (f := 157) (s := 2) (w := 4) (v := fun _ _ => 1) (nI 158) (nI 158) (upd b15 157 (nI 1)) (upd b15 157 (nI 1)) (by omega) (by omega) r5 (by omega) (by omega) (hb15 157 (by omega)) (by omega) (by omega)
    (gc_hexSpread (by omega) w7 w8 (by omega) w11 v11 (by omega) V1 (by omega) (by omega))
    (fun b17 ps hp => by rw [w8]; exact gc_relYes (p := 4) (f := 157) (s := 1) (by omega) r4 (by omega) rfl (by omega) hp)
    (Or.inr ⟨by rw [w8, w9]; decide, fun b17 ps hp => by rw [w9]; exact gc_relN (by decide) hp⟩) (fun y2 V2 O2 => ?_)
  have V0'' := gc_v_keep (j := 5) (x := nI 2) V0' (by omega) (by omega) (by omega) O2
  refine gc_skip (j := 6) (by omega) (by omega) (hM 6 _ rfl) ?_
  refine gc_iter (j := 7) (r := 450) (f := 157) (s := 1) (w := 4) (v := fun e c => 1 * a5 (12 * e + 4 * 2 + c)) (nI 158) (nI 159) (upd (upd b15 157 (nI 1)) 157 (nI 2)) (upd (upd (upd b15 157 (nI 1)) 157 (nI 2)) 158 (nI 0)) (by omega) (by omega) r7 (by omega) (by omega) pk_us (by omega) (by omega)
    (gc_hexMul (by omega) x7 x8 x9 (by omega) (by omega) x11 w11 u11 (by omega) V2 V0'' (by omega) (by omega) (by omega) (by omega))
    (fun b17 ps hp => by rw [x8]; exact gc_relYes (p := 5) (f := 157) (s := 2) (by omega) r5 (by omega) rfl (by omega) hp)
    (Or.inr ⟨by rw [x8, x9]; decide, fun b17 ps hp => by rw [x9]; exact gc_relYes (p := 1) (f := 158) (s := 0) (by omega) r1 (by omega) rfl (by omega) hp⟩) (fun y3 V3 O3 => ?_)
  exact gc_end (R := 7) (by omega) (gc_laneOfW (c := 0) (e := 0) (by omega) x11 V3 (by omega) (by omega) (H _ _ _ _ _ _ V3))
end
end
section
/-! ===== 07: the calls of the law ===== -/
theorem gc_ixi (k p : Nat) : 12 * nI k + nI p = nI (12 * k + p) := by
  rw [show (12 : Int32) = nI 12 from rfl, pk_mul, nI_add]
section
variable {nc lv le fc : Int32} {a1 a2 a3 a4 a5 a6 a7 a8 a9 a10 a11 a12 a13 a14 a15 a16 a17 : Nat → Int32}
theorem gc_isComp {post : Int32 → Prop} {p k : Nat} (hp : p < 12) (hk : k < 3) (H : post 1) : wpX_isComponent post (nc, lv, le, fc, a1, a2, a3, a4, a5, a6, a7, a8, a9, a10, a11, a12, a13, a14, a15, a16, a17) (nI p) (nI k) := by
  unfold wpX_isComponent
  dsimp only
  exact pk_lt p 0 (fun z => absurd z (by omega)) (fun _ => pk_lt 11 p (fun z => absurd z (by omega)) (fun _ => pk_lt k 0 (fun z => absurd z (by omega)) (fun _ => pk_lt 2 k (fun z => absurd z (by omega)) (fun _ => H))))
theorem gc_set {post : Int32 → St2 → Prop} {p k : Nat} {x : Int32} (hp : p < 12) (hk : k < 3) (H : post 1 (nc, lv, le, fc, a1, a2, a3, a4, upd a5 (12 * k + p) x, a6, a7, a8, a9, a10, a11, a12, a13, a14, a15, a16, a17)) : wpX_set post (nc, lv, le, fc, a1, a2, a3, a4, a5, a6, a7, a8, a9, a10, a11, a12, a13, a14, a15, a16, a17) (nI p) (nI k) x := by
  unfold wpX_set
  dsimp only
  refine gc_isComp hp hk (br_f (by decide) ⟨pk_in (12 * k + p) 36 (by omega) (gc_ixi k p), nm_r (e' := upd a5 (12 * k + p) x) (by rw [gc_ixi, nI_clamp (by omega)]) H⟩)
theorem gc_input {post : Int32 → Prop} {p k : Nat} (hp : p < 12) (hk : k < 3) (H : post (a5 (12 * k + p))) : wpX_input post (nc, lv, le, fc, a1, a2, a3, a4, a5, a6, a7, a8, a9, a10, a11, a12, a13, a14, a15, a16, a17) (nI p) (nI k) := by
  unfold wpX_input
  dsimp only
  refine gc_isComp hp hk (br_f (by decide) ⟨pk_in (12 * k + p) 36 (by omega) (gc_ixi k p), ?_⟩)
  rw [gc_ixi, nI_clamp (by omega)]
  exact H
theorem gc_isNode {post : Int32 → Prop} {n x : Nat} (hx : x < n) (hn : n ≤ 12) (H : post 1) : wpX_isNode post (nI n, lv, le, fc, a1, a2, a3, a4, a5, a6, a7, a8, a9, a10, a11, a12, a13, a14, a15, a16, a17) (nI x) := by
  unfold wpX_isNode
  dsimp only
  exact pk_lt x 0 (fun z => absurd z (by omega)) (fun _ => pk_le n x (fun z => absurd z (by omega)) (fun _ => H))
theorem gc_nodeIn {post : Int32 → St2 → Prop} {n x : Nat} (hn : n < 12) (hx : x < 3) (H : post (nI n) (nI (n + 1), lv, le, fc, upd a1 n 0, upd a2 n (nI x), upd a3 n 0, upd a4 n 1, a5, a6, a7, a8, a9, a10, a11, a12, a13, a14, a15, a16, a17)) : wpX_node post (nI n, lv, le, fc, a1, a2, a3, a4, a5, a6, a7, a8, a9, a10, a11, a12, a13, a14, a15, a16, a17) 0 (nI x) 0 := by
  have hin : vp_in (nI n) 12 := vp_in_nI hn (by decide)
  have hc : (nI n).toNatClampNeg = n := nI_clamp (by omega)
  unfold wpX_node
  dsimp only
  rw [hc]
  refine pk_lt n 12 (fun _ => br_f (by decide) (br_f (by decide) ?_)) (fun z => absurd z (by omega))
  unfold wpX_operandsFit
  dsimp only
  refine br_f (by decide) (br_t rfl (pk_lt x 0 (fun z => absurd z (by omega)) (fun _ => pk_lt 2 x (fun z => absurd z (by omega)) (fun _ => br_f (by decide) ?_))))
  unfold wpX_isWrong
  dsimp only
  refine br_f (by decide) (br_f (by decide) (br_f (by decide) (br_f (by decide) (br_f (by decide) (br_t rfl ⟨hin, nm_r (e' := upd a1 n 0) rfl ⟨hin, nm_e ⟨hin, nm_r (e' := upd a3 n 0) rfl ?_⟩⟩⟩)))))
  unfold wpX_makesVector
  dsimp only
  exact br_t rfl ⟨hin, nm_r (e' := upd a4 n 1) rfl (nm_r (nI_1 n) H)⟩
theorem gc_nodeMul {post : Int32 → St2 → Prop} {n x y : Nat} (hn : n < 12) (hx : x < n) (hy : y < n) (hw : a4 x = 1) (H : post (nI n) (nI (n + 1), lv, le, fc, upd a1 n 4, upd a2 n (nI x), upd a3 n (nI y).toInt8.toInt32, upd a4 n 1, a5, a6, a7, a8, a9, a10, a11, a12, a13, a14, a15, a16, a17)) : wpX_node post (nI n, lv, le, fc, a1, a2, a3, a4, a5, a6, a7, a8, a9, a10, a11, a12, a13, a14, a15, a16, a17) 4 (nI x) (nI y) := by
  have hin : vp_in (nI n) 12 := vp_in_nI hn (by decide)
  have hc : (nI n).toNatClampNeg = n := nI_clamp (by omega)
  unfold wpX_node
  dsimp only
  rw [hc]
  refine pk_lt n 12 (fun _ => br_f (by decide) (br_f (by decide) ?_)) (fun z => absurd z (by omega))
  unfold wpX_operandsFit
  dsimp only
  refine br_f (by decide) (br_f (by decide) (gc_isNode hx (by omega) (br_f (by decide) (br_f (by decide) (gc_isNode hy (by omega) ⟨rfl, br_f (by decide) ?_⟩)))))
  unfold wpX_isWrong
  dsimp only
  refine br_f (by decide) (br_f (by decide) (br_f (by decide) (br_f (by decide) (br_f (by decide) (br_t rfl ⟨hin, nm_r (e' := upd a1 n 4) rfl ⟨hin, nm_e ⟨hin, nm_e ?_⟩⟩⟩)))))
  unfold wpX_makesVector
  dsimp only
  exact br_f (by decide) (br_f (by decide) (br_f (by decide) (br_f (by decide) (br_f (by decide) (br_f (by decide) (br_f (by decide) ⟨vp_in_nI (by omega) (by decide), br_f (gc_rn hw (by decide)) ⟨hin, nm_r (e' := upd a4 n 1) rfl (nm_r (nI_1 n) H)⟩⟩))))))
theorem gc_nodeSum {post : Int32 → St2 → Prop} {n x : Nat} (hn : n < 12) (hx : x < n) (hw : a4 x = 1) (H : post (nI n) (nI (n + 1), lv, le, fc, upd a1 n 5, upd a2 n (nI x), upd a3 n 0, upd a4 n 0, a5, a6, a7, a8, a9, a10, a11, a12, a13, a14, a15, a16, a17)) : wpX_node post (nI n, lv, le, fc, a1, a2, a3, a4, a5, a6, a7, a8, a9, a10, a11, a12, a13, a14, a15, a16, a17) 5 (nI x) 0 := by
  have hin : vp_in (nI n) 12 := vp_in_nI hn (by decide)
  have hc : (nI n).toNatClampNeg = n := nI_clamp (by omega)
  unfold wpX_node
  dsimp only
  rw [hc]
  refine pk_lt n 12 (fun _ => br_f (by decide) (br_f (by decide) ?_)) (fun z => absurd z (by omega))
  unfold wpX_operandsFit
  dsimp only
  refine br_f (by decide) (br_f (by decide) (gc_isNode hx (by omega) (br_f (by decide) (br_t (by decide) (br_f (by decide) (br_f (by decide) ?_))))))
  unfold wpX_isWrong
  dsimp only
  refine br_t rfl ?_
  unfold wX_isWrong_23
  refine ⟨vp_in_nI (by omega) (by decide), br_f (gc_rn hw (by decide)) (br_t rfl ⟨hin, nm_r (e' := upd a1 n 5) rfl ⟨hin, nm_e ⟨hin, nm_r (e' := upd a3 n 0) rfl ?_⟩⟩⟩)⟩
  unfold wpX_makesVector
  dsimp only
  exact br_f (by decide) (br_f (by decide) (br_f (by decide) (br_f (by decide) (br_f (by decide) (br_t rfl ⟨hin, nm_r (e' := upd a4 n 0) rfl (nm_r (nI_1 n) H)⟩)))))
/-- what the four nodes are, and that there are four -/
theorem gc_isNumber {post : Int32 → Prop} (hnd : gc_nd a1 a2 a3 a4) (H : post 1) : wpX_isNumber post (nI 4, lv, le, fc, a1, a2, a3, a4, a5, a6, a7, a8, a9, a10, a11, a12, a13, a14, a15, a16, a17) 3 := by
  obtain ⟨n10, n11, n12, n13, n20, n21, n22, n23, n32, n42, n43⟩ := hnd
  unfold wpX_isNumber
  dsimp only
  exact gc_isNode (x := 3) (by omega) (by omega) (br_f (by decide) ⟨vp_in_nI (n := 3) (by omega) (by decide), br_t (gc_rd (j := 3) n43) H⟩)
theorem gc_value {post : Int32 → St2 → Prop} {k : Nat} (hk : k < 3) (hnd : gc_nd a1 a2 a3 a4)
    (H : ∀ (ge gf : Int32) (b7 b8 b9 b10 b11 b12 b13 b15 b16 b17 : Nat → Int32), post (0 + gc_m a5 k 0 + gc_m a5 k 1 + gc_m a5 k 2 + gc_m a5 k 3) (nI 4, 2, ge, gf, a1, a2, a3, a4, a5, a6, b7, b8, b9, b10, b11, b12, b13, a14, b15, b16, b17)) :
    wpX_value post (nI 4, 2, le, fc, a1, a2, a3, a4, a5, a6, a7, a8, a9, a10, a11, a12, a13, a14, a15, a16, a17) 3 0 (nI k) := by
  have n43 : a4 3 = 0 := hnd.2.2.2.2.2.2.2.2.2.2
  unfold wpX_value
  dsimp only
  unfold wpX_isPart
  dsimp only
  refine gc_isNode (x := 3) (by omega) (by omega) (br_f (by decide) (pk_lt k 0 (fun z => absurd z (by omega)) (fun _ => pk_le k 2 (fun _ => br_f (by decide) ⟨vp_in_nI (n := 3) (by omega) (by decide), br_t (gc_rd (j := 3) n43) ?_⟩) (fun z => absurd z (by omega)))))
  unfold wX_isPart_38
  refine br_f (by decide) (br_f (by decide) (gc_trace (i := 0) (by omega) hnd (fun b7 b8 b9 b10 b11 b12 hb h12 => ⟨vp_in_nI (n := 3) (by omega) (by decide), ?_⟩)))
  dsimp only
  rw [show b12 (3 : Int32).toNatClampNeg = nI 3 from gc_rd (j := 3) h12]
  exact gc_W1 (i := 0) (by omega) hk hb (fun gf b13 b15 b16 b17 => H _ gf b7 b8 b9 b10 b11 b12 b13 b15 b16 b17)
theorem gc_bend {post : Int32 → St2 → Prop} {i k : Nat} (hi : i < 4) (hk : k < 3) (hnd : gc_nd a1 a2 a3 a4)
    (H : ∀ (ge gf : Int32) (b7 b8 b9 b10 b11 b12 b13 b14 b15 b16 b17 : Nat → Int32), post 1 (nI 4, 2, ge, gf, a1, a2, a3, a4, a5, a6, b7, b8, b9, b10, b11, b12, b13, b14, b15, b16, b17)) :
    wpX_bend post (nI 4, 2, le, fc, a1, a2, a3, a4, a5, a6, a7, a8, a9, a10, a11, a12, a13, a14, a15, a16, a17) 3 (nI i) (nI (8 + i)) (nI k) := by
  have d1 : nI i / 4 = nI 0 := by rw [show (4 : Int32) = nI 4 from rfl, pk_div (by omega) (by omega) (by omega), show i / 4 = 0 by omega]
  have m1 : nI i - nI i / 4 * 4 = nI i := by rw [show (4 : Int32) = nI 4 from rfl, pk_rem (by omega) (by omega) (by omega), show i % 4 = i by omega]
  have d2 : nI (8 + i) / 4 = nI 2 := by rw [show (4 : Int32) = nI 4 from rfl, pk_div (by omega) (by omega) (by omega), show (8 + i) / 4 = 2 by omega]
  have m2 : nI (8 + i) - nI (8 + i) / 4 * 4 = nI i := by rw [show (4 : Int32) = nI 4 from rfl, pk_rem (by omega) (by omega) (by omega), show (8 + i) % 4 = i by omega]
  unfold wpX_bend
  dsimp only
  rw [m1, m2, d1, d2]
  refine gc_isNumber hnd (br_f (by decide) (gc_isComp (by omega) hk (br_f (by decide) (gc_isComp (by omega) hk (br_f (by decide) (gc_trace hi hnd (fun b7 b8 b9 b10 b11 b12 hb h12 => ⟨vp_in_nI (n := 3) (by omega) (by decide), ?_⟩)))))))
  dsimp only
  rw [show b12 (3 : Int32).toNatClampNeg = nI 3 from gc_rd (j := 3) h12]
  refine gc_B1 hi hb (fun c7 c8 c9 c10 c11 c13 c14 hc h140 h142 => ⟨by decide, vp_in_nI (n := 0) (by omega) (by decide), nm_r (gc_rd (j := 0) h140) (br_t (by decide) ⟨by decide, ?_⟩)⟩)
  refine gc_make (L := (gc_P i).take 8) (L' := (gc_P i).take 9) (n := 8) rfl rfl hc (gc_no3 i hi).1 (fun ps hp => gc_sim7 (a := 7) (x := 4) hc (show 8 < 450 by omega) (gc_k3 i hi).1 (hc 7 _ rfl).1 (by decide) (by decide) ps hp (by omega)) (by omega) (by decide) (by decide) (by decide) (by decide) (fun d7 d8 d9 d10 d11 hd => ?_)
  refine gc_B2 hi hd (fun g7 g8 g9 g10 g11 g13 g14 hg hg14 => ⟨by decide, vp_in_nI (n := 2) (by omega) (by decide), by decide, ?_⟩)
  dsimp only
  rw [gc_rd (j := 2) hg14]
  exact gc_W2 hi hk hg (fun gf b13 b15 b16 b17 => H _ gf g7 g8 g9 g10 g11 b12 b13 g14 b15 b16 b17)
theorem gc_step {post : Int32 → St2 → Prop} {k : Nat} {rate : Int32} (hk : k < 3) (hnd : gc_nd a1 a2 a3 a4)
    (H : ∀ (ge gf : Int32) (b5 b7 b8 b9 b10 b11 b12 b13 b14 b15 b16 b17 : Nat → Int32), (∀ c, c < 4 → b5 (12 * k + c) = a5 (12 * k + c) - rate * (1 * a5 (12 * k + 4 * 2 + c))) → post 1 (nI 4, 2, ge, gf, a1, a2, a3, a4, b5, a6, b7, b8, b9, b10, b11, b12, b13, b14, b15, b16, b17)) :
    wpX_step post (nI 4, 2, le, fc, a1, a2, a3, a4, a5, a6, a7, a8, a9, a10, a11, a12, a13, a14, a15, a16, a17) 3 0 (nI k) rate := by
  unfold wpX_step
  dsimp only
  refine gc_isNumber hnd (br_f (by decide) (br_f (by decide) (br_f (by decide) (pk_lt k 0 (fun z => absurd z (by omega)) (fun _ => pk_le k 2 (fun _ => gc_trace (i := 0) (by omega) hnd (fun b7 b8 b9 b10 b11 b12 hb h12 => ⟨vp_in_nI (n := 3) (by omega) (by decide), ?_⟩)) (fun z => absurd z (by omega)))))))
  dsimp only
  rw [show b12 (3 : Int32).toNatClampNeg = nI 3 from gc_rd (j := 3) h12]
  refine gc_B1 (i := 0) (by omega) hb (fun c7 c8 c9 c10 c11 c13 c14 hc h140 h142 => ⟨vp_in_nI (n := 0) (by omega) (by decide), nm_r (gc_rd (j := 0) h140) (br_t (by decide) (gc_W3 (i := 0) (by omega) hc (fun r gf b13 b15 b16 b17 hv => ?_)))⟩)
  have w7 : c11 7 = 1 := (hc 7 _ rfl).2.2.2.2
  exact pk_loop (fun q c y => wX_step_70 post 0 (nI k) rate (nI 7) (nI 4) 2 (nI 8) gf q (nI c) a1 a2 a3 a4 y a6 c7 c8 c9 c10 c11 b12 b13 c14 b15 b16 b17)
    (fun c y => (∀ c', c' < c → y (12 * k + c') = a5 (12 * k + c') - rate * (1 * a5 (12 * k + 4 * 2 + c'))) ∧ (∀ c', c ≤ c' → y (12 * k + c') = a5 (12 * k + c'))) 4 0 a5 (by omega) ⟨fun c' hc' => absurd hc' (by omega), fun c' _ => rfl⟩
    (fun q y hy => pk_le 4 4 (fun _ => H _ gf y c7 c8 c9 c10 c11 b12 b13 c14 b15 b16 b17 hy.1) (fun z => absurd z (by omega)))
    (fun q c y hc4 hy hw => pk_le 4 c (fun z => absurd z (by omega)) (fun _ => gc_laneOfW (by omega) w7 hv hk hc4 ⟨pk_in (12 * k + 4 * 0 + c) 36 (by omega) (gc_ix k 0 c), pk_in (12 * k + 4 * 0 + c) 36 (by omega) (gc_ix k 0 c),
      nm_r (e' := upd y (12 * k + c) (a5 (12 * k + c) - rate * (1 * a5 (12 * k + 4 * 2 + c)))) (by
        have e1 : (12 * nI k + 4 * 0 + nI c).toNatClampNeg = 12 * k + c := by
          rw [show (12 * nI k + 4 * 0 + nI c : Int32) = nI (12 * k + 4 * 0 + c) from gc_ix k 0 c, nI_clamp (by omega)]
          omega
        rw [e1, hy.2 c (Nat.le_refl c)]) (nm_r (nI_1 c) (hw _ ⟨fun c' hc' => by
          by_cases e : c' = c
          · rw [e, pk_us]
          · rw [pk_un (by omega)]
            exact hy.1 c' (by omega), fun c' hc' => by
          rw [pk_un (by omega)]
          exact hy.2 c' (by omega)⟩))⟩))
end
end
section
/-! ===== 08: the law ===== -/
/-- the inputs that the law sets -/
def gc_in (a b : Int32) (i k : Nat) : Nat → Int32 := upd (upd (fun _ => 0) (12 * k + i) a) (12 * k + (8 + i)) b
theorem gc_in0 {a b : Int32} {i k : Nat} (hi : i < 4) (c : Nat) (hc : c < 4) : gc_in a b i k (12 * k + c) = if c = i then a else 0 := by
  unfold gc_in
  rw [pk_un (by omega)]
  by_cases e : c = i
  · rw [if_pos e, e, pk_us]
  · rw [if_neg e, pk_un (by omega)]
theorem gc_in2 {a b : Int32} {i k : Nat} (hi : i < 4) (c : Nat) (hc : c < 4) : gc_in a b i k (12 * k + 4 * 2 + c) = if c = i then b else 0 := by
  unfold gc_in
  by_cases e : c = i
  · rw [if_pos e, e, show 12 * k + 4 * 2 + i = 12 * k + (8 + i) by omega, pk_us]
  · rw [if_neg e, pk_un (by omega), pk_un (by omega)]
theorem gc_sum {a b : Int32} {i k : Nat} (hi : i < 4) : 0 + gc_m (gc_in a b i k) k 0 + gc_m (gc_in a b i k) k 1 + gc_m (gc_in a b i k) k 2 + gc_m (gc_in a b i k) k 3 = a * b := by
  have h : ∀ c, c < 4 → gc_m (gc_in a b i k) k c = if c = i then b * a else 0 := by
    intro c hc
    unfold gc_m
    rw [gc_in2 hi c hc, show 12 * k + 4 * 0 + c = 12 * k + c by omega, gc_in0 hi c hc]
    by_cases e : c = i
    · rw [if_pos e, if_pos e, if_pos e]
    · rw [if_neg e, if_neg e, if_neg e]
      rfl
  rw [h 0 (by omega), h 1 (by omega), h 2 (by omega), h 3 (by omega)]
  rcases (show i = 0 ∨ i = 1 ∨ i = 2 ∨ i = 3 by omega) with e | e | e | e
  all_goals
    subst e
    simp
    exact Int32.mul_comm b a
theorem gc_init {post : St2 → Prop} (H : post (0, 2, 0, 0, (fun _ => 0), (fun _ => 0), (fun _ => 0), (fun _ => 0), (fun _ => 0), (fun _ => 0), (fun _ => 0), (fun _ => 0), (fun _ => 0), (fun _ => 0), (fun _ => 0), (fun _ => 0), (fun _ => 0), (fun _ => 0), (fun _ => 0), (fun _ => 0), (fun _ => 0))) : wpX_init post 17 5365 (0, 0, 0, 0) := by
  unfold wpX_init
  dsimp only
  refine ⟨by omega, by omega, by omega, by omega, by omega, by omega, by omega, by omega, by omega, by omega, by omega, by omega, by omega, by omega, by omega, by omega, by omega, by omega, by omega, by omega, by omega, by omega, by omega, by omega, by omega, by omega, by omega, by omega, by omega, by omega, by omega, by omega, by omega, by omega, H⟩
theorem gc_lawOf (a b at' e rate : Int32) : wpL_lawOf (fun r _ => r = 1) 1890 30224 () a b at' e rate := by
  obtain ⟨i, hi, ei⟩ := pk_andE at' (m := 3) 2 (by decide)
  obtain ⟨m, hm, em⟩ := pk_andE e (m := 255) 8 (by decide)
  have hi4 : i < 4 := by simpa using hi
  have hm256 : m < 256 := by simpa using hm
  have ek : (e &&& 255) - (e &&& 255) / 3 * 3 = nI (m % 3) := by
    rw [em, show (3 : Int32) = nI 3 from rfl, pk_rem (by omega) (by omega) (by omega)]
  have hk : m % 3 < 3 := by omega
  generalize m % 3 = k at ek hk
  have e8 : (8 + nI i : Int32) = nI (8 + i) := by rw [show (8 : Int32) = nI 8 from rfl, nI_add]
  unfold wpL_lawOf
  refine nm_r ei ⟨by decide, nm_r ek ⟨by omega, by omega, 17, 5365, by omega, by omega, ?_⟩⟩
  rw [e8]
  refine gc_init ?_
  refine gc_set (by omega) hk (br_f (by decide) (gc_set (by omega) hk (br_f (by decide) ?_)))
  refine gc_nodeIn (n := 0) (x := 0) (by omega) (by omega) (br_t rfl ?_)
  refine gc_nodeIn (n := 1) (x := 2) (by omega) (by omega) (br_t rfl ?_)
  refine gc_nodeMul (n := 2) (x := 1) (y := 0) (by omega) (by omega) (by omega) rfl (br_t rfl ?_)
  refine gc_nodeSum (n := 3) (x := 2) (by omega) (by omega) rfl (br_t rfl ?_)
  have hnd : gc_nd (upd (upd (upd (upd (fun _ => 0) 0 0) 1 0) 2 4) 3 5) (upd (upd (upd (upd (fun _ => 0) 0 (nI 0)) 1 (nI 2)) 2 (nI 1)) 3 (nI 2)) (upd (upd (upd (upd (fun _ => 0) 0 0) 1 0) 2 (nI 0).toInt8.toInt32) 3 0) (upd (upd (upd (upd (fun _ => 0) 0 1) 1 1) 2 1) 3 0) :=
    ⟨rfl, rfl, rfl, rfl, rfl, rfl, rfl, rfl, by decide, rfl, rfl⟩
  refine gc_value hk hnd (fun ge gf b7 b8 b9 b10 b11 b12 b13 b15 b16 b17 => br_t (gc_sum hi4) ?_)
  refine gc_bend hi4 hk hnd (fun ge gf c7 c8 c9 c10 c11 c12 c13 c14 c15 c16 c17 => br_t rfl ?_)
  refine gc_step hk hnd (fun ge gf d5 d7 d8 d9 d10 d11 d12 d13 d14 d15 d16 d17 h5 => br_f (by decide) (gc_input (by omega) hk (br_t ?_ rfl)))
  rw [h5 i hi4]
  show gc_in a b i k (12 * k + i) - rate * (1 * gc_in a b i k (12 * k + 4 * 2 + i)) = a - rate * b
  rw [gc_in0 hi4 i hi4, gc_in2 hi4 i hi4, if_pos rfl, if_pos rfl, Int32.one_mul]
theorem gc_cell {post : Int32 → Prop} {L : Nat} {xs : Nat → Int32} {n : Nat} (hL : L ≤ 5) (hn : n < 5) (H : ∀ x, post x) : wpL_cellAt post L xs () (nI n) := by
  unfold wpL_cellAt
  exact pk_le L n (fun _ => H 0) (fun z => ⟨vp_in_nI z (by omega), H _⟩)
theorem i_vc (xs : Nat → Int32) (L : Nat) (hL : L ≤ 5) : wpL_law (fun r => r = 1) L xs := by
  unfold wpL_law
  refine gc_cell (n := 0) hL (by omega) (fun r1 => gc_cell (n := 1) hL (by omega) (fun r2 => gc_cell (n := 2) hL (by omega) (fun r3 => gc_cell (n := 3) hL (by omega) (fun r4 => gc_cell (n := 4) hL (by omega) (fun r5 => ⟨1890, 30224, by omega, by omega, ?_⟩)))))
  exact gc_lawOf r1 r2 r3 r4 r5
end
