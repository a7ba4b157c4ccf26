section
/-! ===== the picture of the automaton: nx where letters lead (0: nowhere), lk the state of the longest shorter endings, wd the longest word, read backwards ===== -/
def rf_ml (lk : Nat → Nat) (wd : Nat → List Nat) (s : Nat) : Nat := if s = 0 then 0 else (wd (lk s)).length + 1
theorem rf_ml0 {lk : Nat → Nat} {wd : Nat → List Nat} : rf_ml lk wd 0 = 0 := if_pos rfl
theorem rf_mlS {lk : Nat → Nat} {wd : Nat → List Nat} {s : Nat} (h : s ≠ 0) : rf_ml lk wd s = (wd (lk s)).length + 1 := if_neg h
def rf_I1 (n : Nat) (lk : Nat → Nat) (wd : Nat → List Nat) : Prop := ∀ s, s < n → s ≠ 0 → lk s < n ∧ wd (lk s) <+: wd s ∧ (wd (lk s)).length < (wd s).length
def rf_I2 (n : Nat) (nx : Nat → Nat → Nat) (lk : Nat → Nat) (wd : Nat → List Nat) : Prop := ∀ s l, s < n → nx s l ≠ 0 → nx s l < n ∧ (l :: wd s) <+: wd (nx s l) ∧ rf_ml lk wd (nx s l) ≤ rf_ml lk wd s + 1
def rf_I3 (n : Nat) (lk : Nat → Nat) (wd : Nat → List Nat) : Prop := ∀ q s, q < n → s < n → q ≠ s → wd q <+: wd s → (wd q).length ≤ (wd (lk s)).length
def rf_I4 (n : Nat) (nx : Nat → Nat → Nat) (lk : Nat → Nat) : Prop := ∀ r l, r < n → r ≠ 0 → nx r l ≠ 0 → nx (lk r) l = nx r l ∨ (nx (lk r) l = lk (nx r l) ∧ lk (nx r l) ≠ 0)
def rf_I5 (n : Nat) (nx : Nat → Nat → Nat) (wd : Nat → List Nat) : Prop := ∀ q, q < n → q ≠ 0 → ∃ r l, r < n ∧ nx r l = q ∧ wd q = l :: wd r
def rf_I6 (n : Nat) (wd : Nat → List Nat) (R : List Nat) : Prop := ∀ s, s < n → ∃ j, wd s <+: R.drop j
def rf_Inv (n last : Nat) (nx : Nat → Nat → Nat) (lk : Nat → Nat) (wd : Nat → List Nat) : Prop := 0 < n ∧ last < n ∧ wd 0 = [] ∧ rf_I1 n lk wd ∧ rf_I2 n nx lk wd ∧ rf_I3 n lk wd ∧ rf_I4 n nx lk ∧ rf_I5 n nx wd ∧ rf_I6 n wd (wd last)
section
variable {n last : Nat} {nx : Nat → Nat → Nat} {lk : Nat → Nat} {wd : Nat → List Nat}
theorem rf_i1 (I : rf_Inv n last nx lk wd) : rf_I1 n lk wd := I.2.2.2.1
theorem rf_i2 (I : rf_Inv n last nx lk wd) : rf_I2 n nx lk wd := I.2.2.2.2.1
theorem rf_i3 (I : rf_Inv n last nx lk wd) : rf_I3 n lk wd := I.2.2.2.2.2.1
theorem rf_i4 (I : rf_Inv n last nx lk wd) : rf_I4 n nx lk := I.2.2.2.2.2.2.1
theorem rf_i5 (I : rf_Inv n last nx lk wd) : rf_I5 n nx wd := I.2.2.2.2.2.2.2.1
theorem rf_i6 (I : rf_Inv n last nx lk wd) : rf_I6 n wd (wd last) := I.2.2.2.2.2.2.2.2
theorem rf_hpos (I : rf_Inv n last nx lk wd) {s : Nat} (hs : s < n) (h0 : s ≠ 0) : 0 < (wd s).length := by
  have := (rf_i1 I s hs h0).2.2
  omega
theorem rf_len0 (I : rf_Inv n last nx lk wd) : (wd 0).length = 0 := by
  rw [I.2.2.1]
  rfl
theorem rf_hlen (I : rf_Inv n last nx lk wd) {s : Nat} (hs : s < n) : (wd s).length ≤ (wd last).length := by
  obtain ⟨j, hj⟩ := rf_i6 I s hs
  have h := hj.length_le
  rw [List.length_drop] at h
  omega
theorem rf_hs0 (I : rf_Inv n last nx lk wd) {q s : Nat} (hq : q < n) (hne : q ≠ s) (hp : wd q <+: wd s) : s ≠ 0 := by
  intro e
  have h := hp.length_le
  have := rf_hpos I hq (by omega)
  rw [e, rf_len0 I] at h
  omega
theorem rf_hlk (I : rf_Inv n last nx lk wd) {q s : Nat} (hq : q < n) (hs : s < n) (hne : q ≠ s) (hp : wd q <+: wd s) : s ≠ 0 ∧ wd q <+: wd (lk s) := by
  have s0 := rf_hs0 I hq hne hp
  exact ⟨s0, List.prefix_of_prefix_length_le hp (rf_i1 I s hs s0).2.1 (rf_i3 I q s hq hs hne hp)⟩
theorem rf_heq (I : rf_Inv n last nx lk wd) {q s : Nat} {X : List Nat} (hq : q < n) (hs : s < n) (h1 : wd q <+: X) (h2 : wd s <+: X) (he : (wd q).length = (wd s).length) : q = s := by
  have hp : wd q <+: wd s := List.prefix_of_prefix_length_le h1 h2 (by omega)
  by_cases e : q = s
  · exact e
  · have s0 := rf_hs0 I hq e hp
    have := rf_i3 I q s hq hs e hp
    have := (rf_i1 I s hs s0).2.2
    omega
theorem rf_hml (I : rf_Inv n last nx lk wd) {s : Nat} (hs : s < n) : rf_ml lk wd s ≤ (wd s).length := by
  by_cases e : s = 0
  · rw [e, rf_ml0]
    exact Nat.zero_le _
  · rw [rf_mlS e]
    exact (rf_i1 I s hs e).2.2
theorem rf_hnx (I : rf_Inv n last nx lk wd) {s l : Nat} (hs : s < n) (h : nx s l ≠ 0) : (wd s).length + 1 ≤ (wd (nx s l)).length :=
  (rf_i2 I s l hs h).2.1.length_le
theorem rf_hlast (I : rf_Inv n last nx lk wd) (c : Nat) : nx last c = 0 := by
  by_cases e : nx last c = 0
  · exact e
  · have h1 := rf_hnx I I.2.1 e
    have h2 := rf_hlen I (rf_i2 I last c I.2.1 e).1
    omega
/-- below a state that a letter leads on from, along the shorter endings, the letter leads on -/
theorem rf_down (I : rf_Inv n last nx lk wd) {c : Nat} : ∀ (k q s : Nat), (wd s).length ≤ k → q < n → s < n → wd q <+: wd s → nx s c ≠ 0 → nx q c ≠ 0
  | 0, q, s, hk, hq, hs, hp, h => by
    have e : q = s := rf_heq I hq hs hp List.prefix_rfl (by have := hp.length_le; omega)
    rw [e]
    exact h
  | k + 1, q, s, hk, hq, hs, hp, h => by
    by_cases e : q = s
    · rw [e]
      exact h
    · obtain ⟨s0, hp2⟩ := rf_hlk I hq hs e hp
      have t := rf_i1 I s hs s0
      refine rf_down I k q (lk s) (by omega) hq t.1 hp2 ?_
      rcases rf_i4 I s c hs s0 h with z | z
      · rw [z]
        exact h
      · rw [z.1]
        exact z.2
/-- a letter more, no state split -/
theorem rf_ext1 (I : rf_Inv n last nx lk wd) {c k : Nat} {nx' : Nat → Nat → Nat} {lk' : Nat → Nat} {wd' : Nat → List Nat}
    (hk : k < n) (hkp : wd k <+: c :: wd last) (hkl : (wd k).length < (wd last).length + 1)
    (P1 : ∀ q, q < n → wd q <+: wd last → nx q c = 0 → (wd k).length ≤ rf_ml lk wd q)
    (P2 : ∀ q, q < n → wd q <+: wd last → nx q c ≠ 0 → (wd q).length + 1 ≤ (wd k).length)
    (P3 : ∀ r, r < n → r ≠ 0 → wd r <+: wd last → nx r c = 0 → nx (lk r) c ≠ 0 → nx (lk r) c = k)
    (hw : ∀ q, q < n → wd' q = wd q) (hwn : wd' n = c :: wd last)
    (hl : ∀ q, q < n → lk' q = lk q) (hln : lk' n = k)
    (hx0 : ∀ l, nx' n l = 0)
    (hx1 : ∀ q, q < n → wd q <+: wd last → nx q c = 0 → nx' q c = n)
    (hx2 : ∀ q l, q < n → ¬ (l = c ∧ nx q c = 0 ∧ wd q <+: wd last) → nx' q l = nx q l) :
    rf_Inv (n + 1) n nx' lk' wd' := by
  obtain ⟨hn, hla, h0, i1, i2, i3, i4, i5, i6⟩ := id I
  have mlo : ∀ q, q < n → rf_ml lk' wd' q = rf_ml lk wd q := by
    intro q hq
    by_cases e : q = 0
    · rw [e, rf_ml0, rf_ml0]
    · rw [rf_mlS e, rf_mlS e, hl q hq, hw _ (i1 q hq e).1]
  have mln : rf_ml lk' wd' n = (wd k).length + 1 := by
    rw [rf_mlS (by omega), hln, hw k hk]
  refine ⟨by omega, by omega, by rw [hw 0 hn]; exact h0, ?_, ?_, ?_, ?_, ?_, ?_⟩
  · intro s hs s0
    by_cases e : s = n
    · rw [e, hln, hw k hk, hwn]
      exact ⟨by omega, hkp, by rw [List.length_cons]; exact hkl⟩
    · have hs' : s < n := by omega
      have t := i1 s hs' s0
      rw [hl s hs', hw s hs', hw _ t.1]
      exact ⟨by omega, t.2.1, t.2.2⟩
  · intro s l hs hne
    by_cases e : s = n
    · rw [e, hx0] at hne
      exact absurd rfl hne
    · have hs' : s < n := by omega
      by_cases hm : l = c ∧ nx s c = 0 ∧ wd s <+: wd last
      · obtain ⟨el, hz, hp⟩ := hm
        rw [el, hx1 s hs' hp hz, hwn, hw s hs', mln, mlo s hs']
        have := P1 s hs' hp hz
        exact ⟨by omega, List.cons_prefix_cons.mpr ⟨rfl, hp⟩, by omega⟩
      · rw [hx2 s l hs' hm] at hne ⊢
        have t := i2 s l hs' hne
        rw [hw s hs', hw _ t.1, mlo s hs', mlo _ t.1]
        exact ⟨by omega, t.2.1, t.2.2⟩
  · intro q s hq hs hne hp
    by_cases eq : q = n
    · have hs' : s < n := by omega
      have h1 := hp.length_le
      rw [eq, hwn, hw s hs', List.length_cons] at h1
      have := rf_hlen I hs'
      omega
    · have hq' : q < n := by omega
      by_cases es : s = n
      · rw [es, hwn, hw q hq'] at hp
        rw [es, hln, hw q hq', hw k hk]
        by_cases q0 : q = 0
        · rw [q0, h0]
          exact Nat.zero_le _
        · obtain ⟨r, l, hr, hx, he⟩ := i5 q hq' q0
          rw [he] at hp
          obtain ⟨el, hp3⟩ := List.cons_prefix_cons.mp hp
          rw [el] at hx
          have := P2 r hr hp3 (by rw [hx]; exact q0)
          rw [he, List.length_cons]
          exact this
      · have hs' : s < n := by omega
        rw [hw q hq', hw s hs'] at hp
        have s0 := rf_hs0 I hq' hne hp
        rw [hw q hq', hl s hs', hw _ (i1 s hs' s0).1]
        exact i3 q s hq' hs' hne hp
  · intro r l hr r0 hne
    by_cases e : r = n
    · rw [e, hx0] at hne
      exact absurd rfl hne
    · have hr' : r < n := by omega
      have t1 := i1 r hr' r0
      rw [hl r hr']
      by_cases hm : l = c ∧ nx r c = 0 ∧ wd r <+: wd last
      · obtain ⟨el, hz, hp⟩ := hm
        have hp2 : wd (lk r) <+: wd last := t1.2.1.trans hp
        rw [el, hx1 r hr' hp hz, hln]
        by_cases z : nx (lk r) c = 0
        · exact Or.inl (hx1 _ t1.1 hp2 z)
        · have e2 := P3 r hr' r0 hp hz z
          right
          rw [hx2 _ _ t1.1 (fun h => z h.2.1)]
          exact ⟨e2, by rw [← e2]; exact z⟩
      · have hx := hx2 r l hr' hm
        rw [hx] at hne ⊢
        have t2 := i2 r l hr' hne
        rw [hl _ t2.1]
        have t4 := i4 r l hr' r0 hne
        have z : nx (lk r) l ≠ 0 := by
          rcases t4 with h | h
          · rw [h]
            exact hne
          · rw [h.1]
            exact h.2
        rw [hx2 _ l t1.1 (fun h => z (by rw [h.1]; exact h.2.1))]
        exact t4
  · intro q hq q0
    by_cases e : q = n
    · have z := rf_hlast I c
      exact ⟨last, c, by omega, by rw [hx1 last hla List.prefix_rfl z, e], by rw [e, hwn, hw last hla]⟩
    · have hq' : q < n := by omega
      obtain ⟨r, l, hr, hx, he⟩ := i5 q hq' q0
      exact ⟨r, l, by omega, by rw [hx2 r l hr (fun h => q0 (by rw [← hx, h.1]; exact h.2.1))]; exact hx, by rw [hw q hq', hw r hr]; exact he⟩
  · intro s hs
    rw [hwn]
    by_cases e : s = n
    · exact ⟨0, by rw [e, hwn]; exact List.prefix_rfl⟩
    · obtain ⟨j, hj⟩ := i6 s (by omega)
      exact ⟨j + 1, by rw [hw s (by omega)]; exact hj⟩
end
end
section
section
variable {n last : Nat} {nx : Nat → Nat → Nat} {lk : Nat → Nat} {wd : Nat → List Nat}
/-- a state whose longest word ends as the split one's: its shorter endings reach the new state -/
theorem rf_up3 (I : rf_Inv n last nx lk wd) {c s p : Nat} (hs : s < n) (hps : nx s c ≠ p) (p0 : p ≠ 0) : ∀ (k r : Nat), (wd r).length ≤ k → r < n → wd s <+: wd r → nx r c = p → (wd s).length + 1 ≤ (wd (lk p)).length
  | 0, r, hk, hr, hp, h => by
    have e : s = r := rf_heq I hs hr hp List.prefix_rfl (by have := hp.length_le; omega)
    rw [e] at hps
    exact absurd h hps
  | k + 1, r, hk, hr, hp, h => by
    have e : s ≠ r := fun e => hps (by rw [e]; exact h)
    obtain ⟨r0, hp2⟩ := rf_hlk I hs hr e hp
    have t := rf_i1 I r hr r0
    rcases rf_i4 I r c hr r0 (by rw [h]; exact p0) with z | z
    · exact rf_up3 I hs hps p0 k (lk r) (by omega) t.1 hp2 (by rw [z, h])
    · rw [h] at z
      have t2 := rf_hnx I t.1 (by rw [z.1]; exact z.2)
      rw [z.1] at t2
      have := hp2.length_le
      omega
/-- a letter more, a state split -/
theorem rf_ext2 (I : rf_Inv n last nx lk wd) {c s p : Nat} {nx' : Nat → Nat → Nat} {lk' : Nat → Nat} {wd' : Nat → List Nat}
    (hs : s < n) (hsp : wd s <+: wd last) (hto : nx s c = p) (p0 : p ≠ 0)
    (hst : ∀ q, q < n → wd q <+: wd last → nx q c ≠ 0 → (wd q).length ≤ (wd s).length)
    (hd : (wd p).length ≠ (wd s).length + 1)
    (hw : ∀ q, q < n → wd' q = wd q) (hwn : wd' n = c :: wd last) (hwm : wd' (n + 1) = c :: wd s)
    (hl : ∀ q, q < n → q ≠ p → lk' q = lk q) (hlt : lk' p = n + 1) (hln : lk' n = n + 1) (hlm : lk' (n + 1) = lk p)
    (hx0 : ∀ l, nx' n l = 0)
    (hx1 : ∀ q, q < n → wd q <+: wd last → nx q c = 0 → nx' q c = n)
    (hx2 : ∀ q, q < n → wd q <+: wd last → nx q c = p → nx' q c = n + 1)
    (hx3 : ∀ q l, q < n → ¬ (l = c ∧ wd q <+: wd last ∧ (nx q c = 0 ∨ nx q c = p)) → nx' q l = nx q l)
    (hm1 : wd p <+: wd last → nx p c = 0 → nx' (n + 1) c = n)
    (hm2 : ∀ l, ¬ (l = c ∧ wd p <+: wd last ∧ nx p c = 0) → nx' (n + 1) l = nx p l) :
    rf_Inv (n + 2) n nx' lk' wd' := by
  obtain ⟨hn, hla, h0, i1, i2, i3, i4, i5, i6⟩ := id I
  have sne : nx s c ≠ 0 := by rw [hto]; exact p0
  obtain ⟨hpn, hcp, hmlp⟩ := i2 s c hs sne
  rw [hto] at hpn hcp hmlp
  have ltm : (wd s).length + 1 < (wd p).length := by
    have := hcp.length_le
    rw [List.length_cons] at this
    omega
  have mls := rf_hml I hs
  have mlp : rf_ml lk wd p = (wd (lk p)).length + 1 := rf_mlS p0
  have tp := i1 p hpn p0
  have slt : (wd s).length < (wd last).length := by
    have e : s ≠ last := fun e => sne (by rw [e]; exact rf_hlast I c)
    obtain ⟨l0, _⟩ := rf_hlk I hs hla e hsp
    have := i3 s last hs hla e hsp
    have := (i1 last hla l0).2.2
    omega
  have Q1 : ∀ q, q < n → wd q <+: wd last → nx q c = 0 → q ≠ 0 ∧ (wd s).length ≤ (wd (lk q)).length := by
    intro q hq hp hz
    by_cases hle : (wd q).length ≤ (wd s).length
    · exact absurd hz (rf_down I _ q s (Nat.le_refl _) hq hs (List.prefix_of_prefix_length_le hp hsp hle) sne)
    · have e : s ≠ q := fun e => hle (by rw [e]; exact Nat.le_refl _)
      have h := rf_hlk I hs hq e (List.prefix_of_prefix_length_le hsp hp (by omega))
      exact ⟨h.1, h.2.length_le⟩
  have Q2 : ∀ r l, r < n → nx r l = p → ¬ (l = c ∧ wd r <+: wd last ∧ (nx r c = 0 ∨ nx r c = p)) → r ≠ 0 ∧ (wd s).length ≤ (wd (lk r)).length := by
    intro r l hr hx hno
    have t := (i2 r l hr (by rw [hx]; exact p0)).2.1
    rw [hx] at t
    have hcp2 := hcp
    have key : l = c ∧ ∃ ys, wd r <+: ys ∧ wd s <+: ys := by
      cases hwp : wd p with
      | nil =>
        rw [hwp, List.prefix_nil] at t
        exact absurd t (List.cons_ne_nil _ _)
      | cons x ys =>
        rw [hwp] at t hcp2
        have t1 := List.cons_prefix_cons.mp t
        have t2 := List.cons_prefix_cons.mp hcp2
        exact ⟨t1.1.trans t2.1.symm, ys, t1.2, t2.2⟩
    obtain ⟨el, ys, k1, k2⟩ := key
    by_cases hle : (wd r).length ≤ (wd s).length
    · exact absurd ⟨el, (List.prefix_of_prefix_length_le k1 k2 hle).trans hsp, Or.inr (by rw [← el]; exact hx)⟩ hno
    · have e : s ≠ r := fun e => hle (by rw [e]; exact Nat.le_refl _)
      have h := rf_hlk I hs hr e (List.prefix_of_prefix_length_le k2 k1 (by omega))
      exact ⟨h.1, h.2.length_le⟩
  have mlo : ∀ q, q < n → q ≠ p → rf_ml lk' wd' q = rf_ml lk wd q := by
    intro q hq hne
    by_cases e : q = 0
    · rw [e, rf_ml0, rf_ml0]
    · rw [rf_mlS e, rf_mlS e, hl q hq hne, hw _ (i1 q hq e).1]
  have mlt : rf_ml lk' wd' p = (wd s).length + 2 := by
    rw [rf_mlS p0, hlt, hwm, List.length_cons]
  have mln : rf_ml lk' wd' n = (wd s).length + 2 := by
    rw [rf_mlS (by omega), hln, hwm, List.length_cons]
  have mlm : rf_ml lk' wd' (n + 1) = rf_ml lk wd p := by
    rw [rf_mlS (by omega), hlm, hw _ tp.1, mlp]
  have mlge : ∀ q, q < n → rf_ml lk wd q ≤ rf_ml lk' wd' q := by
    intro q hq
    by_cases e : q = p
    · rw [e, mlt]
      omega
    · rw [mlo q hq e]
      exact Nat.le_refl _
  have Q3 : ∀ q, q < n → wd q <+: wd last → nx q c = 0 → (wd s).length + 1 ≤ rf_ml lk wd q := by
    intro q hq hp hz
    have h := Q1 q hq hp hz
    rw [rf_mlS h.1]
    omega
  have Q4 : ∀ q, q < n → q ≠ 0 → wd q <+: wd last → nx q c = 0 → nx (lk q) c ≠ 0 → nx' (lk q) c = n + 1 := by
    intro q hq q0 hp hz hz2
    have t := i1 q hq q0
    have hp2 := t.2.1.trans hp
    have h1 := (Q1 q hq hp hz).2
    have h2 := hst _ t.1 hp2 hz2
    have e := rf_heq I t.1 hs hp2 hsp (by omega)
    rw [e]
    exact hx2 s hs hsp hto
  refine ⟨by omega, by omega, by rw [hw 0 hn]; exact h0, ?_, ?_, ?_, ?_, ?_, ?_⟩
  · intro q hq q0
    by_cases e1 : q = n
    · rw [e1, hln, hwm, hwn, List.length_cons, List.length_cons]
      exact ⟨by omega, List.cons_prefix_cons.mpr ⟨rfl, hsp⟩, by omega⟩
    · by_cases e2 : q = n + 1
      · rw [e2, hlm, hwm, hw _ tp.1, List.length_cons]
        exact ⟨by omega, List.prefix_of_prefix_length_le tp.2.1 hcp (by rw [List.length_cons]; omega), by omega⟩
      · have hq' : q < n := by omega
        by_cases e3 : q = p
        · rw [e3, hlt, hwm, hw p hpn, List.length_cons]
          exact ⟨by omega, hcp, by omega⟩
        · have t := i1 q hq' q0
          rw [hl q hq' e3, hw q hq', hw _ t.1]
          exact ⟨by omega, t.2.1, t.2.2⟩
  · intro q l hq hne
    by_cases e1 : q = n
    · rw [e1, hx0] at hne
      exact absurd rfl hne
    · by_cases e2 : q = n + 1
      · rw [e2] at hne ⊢
        rw [mlm, hwm]
        by_cases hm : l = c ∧ wd p <+: wd last ∧ nx p c = 0
        · obtain ⟨el, hp, hz⟩ := hm
          rw [el, hm1 hp hz, mln, hwn]
          have := Q3 p hpn hp hz
          exact ⟨by omega, List.cons_prefix_cons.mpr ⟨rfl, hcp.trans hp⟩, by omega⟩
        · rw [hm2 l hm] at hne ⊢
          have t := i2 p l hpn hne
          have tl := rf_hnx I hpn hne
          have tne : nx p l ≠ p := fun e => by rw [e] at tl; omega
          rw [hw _ t.1, mlo _ t.1 tne]
          exact ⟨by omega, (List.cons_prefix_cons.mpr ⟨rfl, hcp⟩).trans t.2.1, t.2.2⟩
      · have hq' : q < n := by omega
        have hge := mlge q hq'
        by_cases hm : l = c ∧ wd q <+: wd last ∧ (nx q c = 0 ∨ nx q c = p)
        · obtain ⟨el, hp, hz | hz⟩ := hm
          · rw [el, hx1 q hq' hp hz, hwn, hw q hq', mln]
            have := Q3 q hq' hp hz
            exact ⟨by omega, List.cons_prefix_cons.mpr ⟨rfl, hp⟩, by omega⟩
          · have qne : nx q c ≠ 0 := by rw [hz]; exact p0
            have t := i2 q c hq' qne
            rw [hz] at t
            rw [el, hx2 q hq' hp hz, hwm, hw q hq', mlm]
            exact ⟨by omega, List.cons_prefix_cons.mpr ⟨rfl, List.prefix_of_prefix_length_le hp hsp (hst q hq' hp qne)⟩, by omega⟩
        · rw [hx3 q l hq' hm] at hne ⊢
          have t := i2 q l hq' hne
          rw [hw q hq', hw _ t.1]
          refine ⟨by omega, t.2.1, ?_⟩
          by_cases e3 : nx q l = p
          · rw [e3, mlt]
            have h := Q2 q l hq' e3 hm
            rw [rf_mlS h.1] at hge
            omega
          · rw [mlo _ t.1 e3]
            omega
  · intro q r hq hr hne hp
    by_cases e1 : q = n
    · have h1 := hp.length_le
      rw [e1, hwn, List.length_cons] at h1
      by_cases e2 : r = n + 1
      · rw [e2, hwm, List.length_cons] at h1
        omega
      · have hr' : r < n := by omega
        rw [hw r hr'] at h1
        have := rf_hlen I hr'
        omega
    · by_cases e2 : q = n + 1
      · rw [e2, hwm] at hp ⊢
        by_cases e3 : r = n
        · rw [e3, hln, hwm]
          exact Nat.le_refl _
        · have hr' : r < n := by omega
          by_cases e4 : r = p
          · rw [e4, hlt, hwm]
            exact Nat.le_refl _
          · rw [hw r hr'] at hp
            have r0 : r ≠ 0 := by
              intro e
              rw [e, h0, List.prefix_nil] at hp
              exact absurd hp (List.cons_ne_nil _ _)
            obtain ⟨r1, l, hr1, hx, he⟩ := i5 r hr' r0
            rw [he] at hp
            obtain ⟨el, hp3⟩ := List.cons_prefix_cons.mp hp
            rw [← el] at hx
            rw [hl r hr' e4, hw _ (i1 r hr' r0).1, List.length_cons]
            exact rf_up3 I hs (by rw [hto]; exact fun e => e4 e.symm) r0 _ r1 (Nat.le_refl _) hr1 hp3 hx
      · have hq' : q < n := by omega
        rw [hw q hq'] at hp ⊢
        by_cases e3 : r = n
        · rw [e3, hwn] at hp
          rw [e3, hln, hwm, List.length_cons]
          by_cases q0 : q = 0
          · rw [q0, h0]
            exact Nat.zero_le _
          · obtain ⟨r1, l, hr1, hx, he⟩ := i5 q hq' q0
            rw [he] at hp
            obtain ⟨el, hp3⟩ := List.cons_prefix_cons.mp hp
            rw [el] at hx
            have := hst r1 hr1 hp3 (by rw [hx]; exact q0)
            rw [he, List.length_cons]
            omega
        · by_cases e4 : r = n + 1
          · rw [e4, hwm] at hp
            rw [e4, hlm, hw _ tp.1]
            refine i3 q p hq' hpn ?_ (hp.trans hcp)
            intro e
            have h1 := hp.length_le
            rw [e, List.length_cons] at h1
            omega
          · have hr' : r < n := by omega
            rw [hw r hr'] at hp
            have h3 := i3 q r hq' hr' hne hp
            by_cases e5 : r = p
            · rw [e5] at h3
              rw [e5, hlt, hwm, List.length_cons]
              omega
            · rw [hl r hr' e5, hw _ (i1 r hr' (rf_hs0 I hq' hne hp)).1]
              exact h3
  · intro r l hr r0 hne
    by_cases e1 : r = n
    · rw [e1, hx0] at hne
      exact absurd rfl hne
    · by_cases e2 : r = n + 1
      · rw [e2] at hne ⊢
        rw [hlm]
        by_cases hm : l = c ∧ wd p <+: wd last ∧ nx p c = 0
        · obtain ⟨el, hp, hz⟩ := hm
          rw [el, hm1 hp hz, hln]
          have hp2 := tp.2.1.trans hp
          by_cases z : nx (lk p) c = 0
          · exact Or.inl (hx1 _ tp.1 hp2 z)
          · exact Or.inr ⟨Q4 p hpn p0 hp hz z, by omega⟩
        · rw [hm2 l hm] at hne ⊢
          have t := i2 p l hpn hne
          have tl := rf_hnx I hpn hne
          have tne : nx p l ≠ p := fun e => by rw [e] at tl; omega
          have t4 := i4 p l hpn p0 hne
          have z : nx (lk p) l ≠ 0 := by
            rcases t4 with h | h
            · rw [h]
              exact hne
            · rw [h.1]
              exact h.2
          have un : ¬ (l = c ∧ wd (lk p) <+: wd last ∧ (nx (lk p) c = 0 ∨ nx (lk p) c = p)) := by
            rintro ⟨el, hp2, hz | hz⟩
            · rw [el] at z
              exact z hz
            · have h2 := hst _ tp.1 hp2 (by rw [hz]; exact p0)
              rw [el] at t4 t tl tne
              rw [hz] at t4
              rcases t4 with h | h
              · exact tne h.symm
              · have h3 := t.2.2
                have t0 : nx p c ≠ 0 := by rw [← el]; exact hne
                rw [rf_mlS t0, ← h.1, mlp] at h3
                omega
          rw [hl _ t.1 tne, hx3 _ l tp.1 un]
          exact t4
      · have hr' : r < n := by omega
        have t1 := i1 r hr' r0
        by_cases hm : l = c ∧ wd r <+: wd last ∧ (nx r c = 0 ∨ nx r c = p)
        · obtain ⟨el, hp, hz | hz⟩ := hm
          · rw [el, hx1 r hr' hp hz, hln]
            by_cases e3 : r = p
            · rw [e3, hlt]
              rw [e3] at hp hz
              exact Or.inl (hm1 hp hz)
            · rw [hl r hr' e3]
              have hp2 := t1.2.1.trans hp
              by_cases z : nx (lk r) c = 0
              · exact Or.inl (hx1 _ t1.1 hp2 z)
              · exact Or.inr ⟨Q4 r hr' r0 hp hz z, by omega⟩
          · have rne : nx r c ≠ 0 := by rw [hz]; exact p0
            have tl := rf_hnx I hr' rne
            rw [hz] at tl
            have e3 : r ≠ p := fun e => by rw [e] at tl; omega
            have hp2 := t1.2.1.trans hp
            rw [el, hx2 r hr' hp hz, hlm, hl r hr' e3]
            have t4 := i4 r c hr' r0 rne
            rw [hz] at t4
            by_cases z : nx (lk r) c = p
            · exact Or.inl (hx2 _ t1.1 hp2 z)
            · rcases t4 with h | h
              · exact absurd h z
              · right
                rw [hx3 _ c t1.1 (by
                  rintro ⟨_, _, hz3 | hz3⟩
                  · rw [h.1] at hz3
                    exact h.2 hz3
                  · exact z hz3)]
                exact h
        · have hx := hx3 r l hr' hm
          rw [hx] at hne ⊢
          have t2 := i2 r l hr' hne
          by_cases e3 : r = p
          · rw [e3] at hm hne ⊢
            rw [hlt]
            exact Or.inl (hm2 l (fun h => hne (by rw [h.1]; exact h.2.2)))
          · rw [hl r hr' e3]
            have t4 := i4 r l hr' r0 hne
            by_cases hk : l = c ∧ wd (lk r) <+: wd last ∧ (nx (lk r) c = 0 ∨ nx (lk r) c = p)
            · obtain ⟨el, hp2, hz | hz⟩ := hk
              · rw [el] at t4 hne
                rw [hz] at t4
                rcases t4 with h | h
                · exact absurd h.symm hne
                · exact absurd h.1.symm h.2
              · have h2 := hst _ t1.1 hp2 (by rw [hz]; exact p0)
                rw [el] at t4 hne t2 ⊢
                rw [hz] at t4
                rw [hx2 _ t1.1 hp2 hz]
                by_cases e4 : nx r c = p
                · rw [e4, hlt]
                  exact Or.inr ⟨rfl, by omega⟩
                · rcases t4 with h | h
                  · exact absurd h.symm e4
                  · have h3 := t2.2.2
                    rw [rf_mlS hne, ← h.1, rf_mlS r0] at h3
                    omega
            · rw [hx3 _ l t1.1 hk]
              by_cases e4 : nx r l = p
              · rcases t4 with h | h
                · exact Or.inl h
                · have h2 := (Q2 r l hr' e4 hm).2
                  have h3 := rf_hnx I t1.1 (l := l) (by rw [h.1]; exact h.2)
                  rw [h.1, e4] at h3
                  omega
              · rw [hl _ t2.1 e4]
                exact t4
  · intro q hq q0
    by_cases e1 : q = n
    · have z := rf_hlast I c
      exact ⟨last, c, by omega, by rw [hx1 last hla List.prefix_rfl z, e1], by rw [e1, hwn, hw last hla]⟩
    · by_cases e2 : q = n + 1
      · exact ⟨s, c, by omega, by rw [hx2 s hs hsp hto, e2], by rw [e2, hwm, hw s hs]⟩
      · have hq' : q < n := by omega
        obtain ⟨r, l, hr, hx, he⟩ := i5 q hq' q0
        refine ⟨r, l, by omega, ?_, by rw [hw q hq', hw r hr]; exact he⟩
        rw [hx3 r l hr ?_]
        · exact hx
        · rintro ⟨el, hp, hz | hz⟩
          · rw [el, hz] at hx
            exact q0 hx.symm
          · have h2 := hst r hr hp (by rw [hz]; exact p0)
            rw [el, hz] at hx
            rw [hx, he, List.length_cons] at ltm
            omega
  · intro q hq
    rw [hwn]
    by_cases e1 : q = n
    · exact ⟨0, by rw [e1, hwn]; exact List.prefix_rfl⟩
    · by_cases e2 : q = n + 1
      · obtain ⟨j, hj⟩ := i6 p hpn
        exact ⟨j + 1, by rw [e2, hwm]; exact hcp.trans hj⟩
      · obtain ⟨j, hj⟩ := i6 q (by omega)
        exact ⟨j + 1, by rw [hw q (by omega)]; exact hj⟩
end
end
section
/-! ===== the automaton as a function of the text ===== -/
def rf_up {α : Type} (f : Nat → α) (k : Nat) (v : α) : Nat → α := fun j => if j = k then v else f j
theorem rf_us {α : Type} {f : Nat → α} {k : Nat} {v : α} : rf_up f k v k = v := if_pos rfl
theorem rf_un {α : Type} {f : Nat → α} {k j : Nat} {v : α} (h : j ≠ k) : rf_up f k v j = f j := if_neg h
/-- n, last, nx, lk, wd, first ends, times -/
abbrev rf_A : Type := Nat × Nat × (Nat → Nat → Nat) × (Nat → Nat) × (Nat → List Nat) × (Nat → Int32) × (Nat → Int32)
def rf_n1 (n c : Nat) (R : List Nat) (nx : Nat → Nat → Nat) (wd : Nat → List Nat) (q l : Nat) : Nat := if q = n then 0 else if l = c ∧ nx q c = 0 ∧ wd q <+: R then n else nx q l
def rf_n2 (n c p : Nat) (R : List Nat) (nx : Nat → Nat → Nat) (wd : Nat → List Nat) (q l : Nat) : Nat := if q = n + 1 then rf_n1 n c R nx wd p l else if q ≠ n ∧ l = c ∧ nx q c = p ∧ wd q <+: R then n + 1 else rf_n1 n c R nx wd q l
def rf_st (c : Nat) (nx : Nat → Nat → Nat) (lk : Nat → Nat) : Nat → Nat → Option Nat
  | 0, s => if nx s c = 0 then none else some s
  | k + 1, s => if nx s c = 0 then (if s = 0 then none else rf_st c nx lk k (lk s)) else some s
def rf_e1 (n last : Nat) (nx : Nat → Nat → Nat) (lk : Nat → Nat) (wd : Nat → List Nat) (fe t : Nat → Int32) (c k : Nat) : rf_A :=
  (n + 1, n, rf_n1 n c (wd last) nx wd, rf_up lk n k, rf_up wd n (c :: wd last), rf_up fe n (nI (wd last).length), rf_up t n 1)
def rf_e2 (n last : Nat) (nx : Nat → Nat → Nat) (lk : Nat → Nat) (wd : Nat → List Nat) (fe t : Nat → Int32) (c s p : Nat) : rf_A :=
  (n + 2, n, rf_n2 n c p (wd last) nx wd, rf_up (rf_up (rf_up lk n (n + 1)) (n + 1) (lk p)) p (n + 1), rf_up (rf_up wd n (c :: wd last)) (n + 1) (c :: wd s), rf_up (rf_up fe n (nI (wd last).length)) (n + 1) ((fe p).toInt8.toInt32), rf_up (rf_up t n 1) (n + 1) 0)
def rf_ex (n last : Nat) (nx : Nat → Nat → Nat) (lk : Nat → Nat) (wd : Nat → List Nat) (fe t : Nat → Int32) (c : Nat) : Option Nat → rf_A
  | none => rf_e1 n last nx lk wd fe t c 0
  | some s => if (wd (nx s c)).length = (wd s).length + 1 then rf_e1 n last nx lk wd fe t c (nx s c) else rf_e2 n last nx lk wd fe t c s (nx s c)
def rf_ext (A : rf_A) (c : Nat) : rf_A := match A with
  | (n, last, nx, lk, wd, fe, t) => rf_ex n last nx lk wd fe t c (rf_st c nx lk (wd last).length last)
def rf_Iv (A : rf_A) : Prop := rf_Inv A.1 A.2.1 A.2.2.1 A.2.2.2.1 A.2.2.2.2.1
/-- the stop of the first loop -/
def rf_Sp (n last : Nat) (nx : Nat → Nat → Nat) (wd : Nat → List Nat) (c : Nat) : Option Nat → Prop
  | none => ∀ q, q < n → wd q <+: wd last → nx q c = 0
  | some s => s < n ∧ wd s <+: wd last ∧ nx s c ≠ 0 ∧ ∀ q, q < n → wd q <+: wd last → nx q c ≠ 0 → (wd q).length ≤ (wd s).length
section
variable {n last : Nat} {nx : Nat → Nat → Nat} {lk : Nat → Nat} {wd : Nat → List Nat}
/-- one step down the chain leaves no state out -/
theorem rf_gap (I : rf_Inv n last nx lk wd) {s q : Nat} (hs : s < n) (hp : wd s <+: wd last) (hq : q < n) (hqp : wd q <+: wd last) (h : (wd (lk s)).length < (wd q).length) (hle : (wd q).length ≤ (wd s).length) : q = s := by
  by_cases e : q = s
  · exact e
  · have := rf_i3 I q s hq hs e (List.prefix_of_prefix_length_le hqp hp hle)
    omega
theorem rf_st_ok (I : rf_Inv n last nx lk wd) {c : Nat} : ∀ (k s : Nat), (wd s).length ≤ k → s < n → wd s <+: wd last → (∀ q, q < n → wd q <+: wd last → (wd s).length < (wd q).length → nx q c = 0) → rf_Sp n last nx wd c (rf_st c nx lk k s) := by
  intro k
  induction k with
  | zero =>
    intro s hk hs hp hq
    unfold rf_st
    by_cases hz : nx s c = 0
    · rw [if_pos hz]
      intro q h1 h2
      by_cases hlt : (wd s).length < (wd q).length
      · exact hq q h1 h2 hlt
      · have e := rf_heq I h1 hs h2 hp (by omega)
        rw [e]
        exact hz
    · rw [if_neg hz]
      refine ⟨hs, hp, hz, fun q h1 h2 h3 => ?_⟩
      by_cases hlt : (wd s).length < (wd q).length
      · exact absurd (hq q h1 h2 hlt) h3
      · omega
  | succ k ih =>
    intro s hk hs hp hq
    unfold rf_st
    by_cases hz : nx s c = 0
    · rw [if_pos hz]
      by_cases s0 : s = 0
      · rw [if_pos s0]
        intro q h1 h2
        by_cases hlt : (wd s).length < (wd q).length
        · exact hq q h1 h2 hlt
        · have := rf_len0 I
          rw [s0] at hlt
          have e := rf_heq I h1 hs h2 hp (by rw [s0]; omega)
          rw [e]
          exact hz
      · rw [if_neg s0]
        have t := rf_i1 I s hs s0
        refine ih (lk s) (by omega) t.1 (t.2.1.trans hp) (fun q h1 h2 h3 => ?_)
        by_cases hlt : (wd s).length < (wd q).length
        · exact hq q h1 h2 hlt
        · rw [rf_gap I hs hp h1 h2 h3 (by omega)]
          exact hz
    · rw [if_neg hz]
      refine ⟨hs, hp, hz, fun q h1 h2 h3 => ?_⟩
      by_cases hlt : (wd s).length < (wd q).length
      · exact absurd (hq q h1 h2 hlt) h3
      · omega
theorem rf_st_top (I : rf_Inv n last nx lk wd) (c : Nat) : rf_Sp n last nx wd c (rf_st c nx lk (wd last).length last) :=
  rf_st_ok I _ last (Nat.le_refl _) I.2.1 List.prefix_rfl (fun q h1 h2 h3 => absurd (rf_hlen I h1) (by omega))
theorem rf_e1_ok (I : rf_Inv n last nx lk wd) {fe t : Nat → Int32} {c k : Nat}
    (hk : k < n) (hkp : wd k <+: c :: wd last) (hkl : (wd k).length < (wd last).length + 1)
    (P1 : ∀ q, q < n → wd q <+: wd last → nx q c = 0 → (wd k).length ≤ rf_ml lk wd q)
    (P2 : ∀ q, q < n → wd q <+: wd last → nx q c ≠ 0 → (wd q).length + 1 ≤ (wd k).length)
    (P3 : ∀ r, r < n → r ≠ 0 → wd r <+: wd last → nx r c = 0 → nx (lk r) c ≠ 0 → nx (lk r) c = k) : rf_Iv (rf_e1 n last nx lk wd fe t c k) := by
  refine rf_ext1 I (c := c) (k := k) hk hkp hkl P1 P2 P3 (fun q h => rf_un (by omega)) rf_us (fun q h => rf_un (by omega)) rf_us (fun l => if_pos rfl) (fun q h h1 h2 => ?_) (fun q l h h1 => ?_)
  · show rf_n1 n c (wd last) nx wd q c = n
    unfold rf_n1
    rw [if_neg (by omega), if_pos ⟨rfl, h2, h1⟩]
  · show rf_n1 n c (wd last) nx wd q l = nx q l
    unfold rf_n1
    rw [if_neg (by omega), if_neg h1]
theorem rf_ex_ok (I : rf_Inv n last nx lk wd) {fe t : Nat → Int32} {c : Nat} {o : Option Nat} (h : rf_Sp n last nx wd c o) : rf_Iv (rf_ex n last nx lk wd fe t c o) := by
  have hn := I.1
  have l0 := rf_len0 I
  cases o with
  | none =>
    have h' : ∀ q, q < n → wd q <+: wd last → nx q c = 0 := h
    refine rf_e1_ok I hn (by rw [I.2.2.1]; exact List.nil_prefix) (by omega) (fun q _ _ _ => by omega) (fun q h1 h2 h3 => absurd (h' q h1 h2) h3) (fun r h1 h2 h3 h4 h5 => ?_)
    have t := rf_i1 I r h1 h2
    exact absurd (h' _ t.1 (t.2.1.trans h3)) h5
  | some s =>
    obtain ⟨hs, hp, hz, hst⟩ := h
    have t2 := rf_i2 I s c hs hz
    have slt : (wd s).length < (wd last).length := by
      have e : s ≠ last := fun e => hz (by rw [e]; exact rf_hlast I c)
      obtain ⟨l0, _⟩ := rf_hlk I hs I.2.1 e hp
      have := rf_i3 I s last hs I.2.1 e hp
      have := (rf_i1 I last I.2.1 l0).2.2
      omega
    have Q1 : ∀ q, q < n → wd q <+: wd last → nx q c = 0 → q ≠ 0 ∧ (wd s).length ≤ (wd (lk q)).length := by
      intro q hq hqp hqz
      by_cases hle : (wd q).length ≤ (wd s).length
      · exact absurd hqz (rf_down I _ q s (Nat.le_refl _) hq hs (List.prefix_of_prefix_length_le hqp hp hle) hz)
      · have e : s ≠ q := fun e => hle (by rw [e]; exact Nat.le_refl _)
        have h := rf_hlk I hs hq e (List.prefix_of_prefix_length_le hp hqp (by omega))
        exact ⟨h.1, h.2.length_le⟩
    show rf_Iv (if (wd (nx s c)).length = (wd s).length + 1 then rf_e1 n last nx lk wd fe t c (nx s c) else rf_e2 n last nx lk wd fe t c s (nx s c))
    by_cases hd : (wd (nx s c)).length = (wd s).length + 1
    · rw [if_pos hd]
      have he : c :: wd s = wd (nx s c) := t2.2.1.eq_of_length (by rw [List.length_cons, hd])
      refine rf_e1_ok I t2.1 (by rw [← he]; exact List.cons_prefix_cons.mpr ⟨rfl, hp⟩) (by omega) (fun q h1 h2 h3 => ?_) (fun q h1 h2 h3 => ?_) (fun r h1 h2 h3 h4 h5 => ?_)
      · have h := Q1 q h1 h2 h3
        rw [rf_mlS h.1]
        omega
      · have := hst q h1 h2 h3
        omega
      · have t := rf_i1 I r h1 h2
        have hp2 := t.2.1.trans h3
        have h6 := (Q1 r h1 h3 h4).2
        have h7 := hst _ t.1 hp2 h5
        rw [rf_heq I t.1 hs hp2 hp (by omega)]
    · rw [if_neg hd]
      have hpl := rf_hnx I hs hz
      refine rf_ext2 I (c := c) (s := s) (p := nx s c) hs hp rfl hz hst hd (fun q h => ?_) ?_ rf_us (fun q h h1 => ?_) rf_us ?_ ?_ (fun l => ?_) (fun q h h1 h2 => ?_) (fun q h h1 h2 => ?_) (fun q l h h1 => ?_) (fun h1 h2 => ?_) (fun l h1 => ?_)
      · exact (rf_un (by omega)).trans (rf_un (by omega))
      · exact (rf_un (by omega)).trans rf_us
      · exact (rf_un h1).trans ((rf_un (by omega)).trans (rf_un (by omega)))
      · exact (rf_un (by omega)).trans ((rf_un (by omega)).trans rf_us)
      · exact (rf_un (by omega)).trans rf_us
      · show rf_n2 n c (nx s c) (wd last) nx wd n l = 0
        unfold rf_n2 rf_n1
        rw [if_neg (by omega), if_neg (fun h => h.1 rfl), if_pos rfl]
      · show rf_n2 n c (nx s c) (wd last) nx wd q c = n
        unfold rf_n2 rf_n1
        rw [if_neg (by omega), if_neg (fun h => hz (by rw [← h.2.2.1]; exact h2)), if_neg (by omega), if_pos ⟨rfl, h2, h1⟩]
      · show rf_n2 n c (nx s c) (wd last) nx wd q c = n + 1
        unfold rf_n2
        rw [if_neg (by omega), if_pos ⟨by omega, rfl, h2, h1⟩]
      · show rf_n2 n c (nx s c) (wd last) nx wd q l = nx q l
        unfold rf_n2 rf_n1
        rw [if_neg (by omega), if_neg (fun h => h1 ⟨h.2.1, h.2.2.2, Or.inr h.2.2.1⟩), if_neg (by omega), if_neg (fun h => h1 ⟨h.1, h.2.2, Or.inl h.2.1⟩)]
      · show rf_n2 n c (nx s c) (wd last) nx wd (n + 1) c = n
        unfold rf_n2 rf_n1
        rw [if_pos rfl, if_neg (by omega), if_pos ⟨rfl, h2, h1⟩]
      · show rf_n2 n c (nx s c) (wd last) nx wd (n + 1) l = nx (nx s c) l
        unfold rf_n2 rf_n1
        rw [if_pos rfl, if_neg (by omega), if_neg (fun h => h1 ⟨h.1, h.2.2, h.2.1⟩)]
end
def rf_A0 : rf_A := (1, 0, fun _ _ => 0, fun _ => 0, fun _ => [], fun _ => -1, fun _ => 0)
def rf_bd (tx : Nat → Nat) : Nat → rf_A
  | 0 => rf_A0
  | p + 1 => rf_ext (rf_bd tx p) (tx p)
/-- what holds of the automaton of p letters -/
def rf_Ok (p : Nat) (A : rf_A) : Prop := rf_Iv A ∧ (A.2.2.2.2.1 A.2.1).length = p ∧ A.1 ≤ 2 * p + 1 ∧ (0 < p → A.2.2.2.2.2.2 A.2.1 = 1)
theorem rf_A0_ok : rf_Ok 0 rf_A0 := by
  refine ⟨⟨by decide, by decide, rfl, fun s h h0 => ?_, fun s l h h0 => absurd rfl h0, fun q s h1 h2 h3 => ?_, fun r l h h0 h1 => absurd rfl h1, fun q h h0 => ?_, fun s h => ⟨0, List.prefix_rfl⟩⟩, rfl, by decide, fun h => absurd h (by decide)⟩
  · exact absurd (show s < 1 from h) (by omega)
  · have h1' : q < 1 := h1
    have h2' : s < 1 := h2
    exact absurd h3 (by omega)
  · exact absurd (show q < 1 from h) (by omega)
theorem rf_ext_ok {p : Nat} {A : rf_A} (h : rf_Ok p A) (c : Nat) : rf_Ok (p + 1) (rf_ext A c) := by
  obtain ⟨n, last, nx, lk, wd, fe, t⟩ := A
  obtain ⟨I, hl, hn, _⟩ := h
  have I' : rf_Inv n last nx lk wd := I
  have hl' : (wd last).length = p := hl
  have hn' : n ≤ 2 * p + 1 := hn
  refine ⟨rf_ex_ok I' (rf_st_top I' c), ?_⟩
  show ((rf_ex n last nx lk wd fe t c (rf_st c nx lk (wd last).length last)).2.2.2.2.1 (rf_ex n last nx lk wd fe t c (rf_st c nx lk (wd last).length last)).2.1).length = p + 1 ∧ (rf_ex n last nx lk wd fe t c (rf_st c nx lk (wd last).length last)).1 ≤ 2 * (p + 1) + 1 ∧ (0 < p + 1 → (rf_ex n last nx lk wd fe t c (rf_st c nx lk (wd last).length last)).2.2.2.2.2.2 (rf_ex n last nx lk wd fe t c (rf_st c nx lk (wd last).length last)).2.1 = 1)
  have k1 : ∀ k, ((rf_e1 n last nx lk wd fe t c k).2.2.2.2.1 (rf_e1 n last nx lk wd fe t c k).2.1).length = p + 1 ∧ (rf_e1 n last nx lk wd fe t c k).1 ≤ 2 * (p + 1) + 1 ∧ (0 < p + 1 → (rf_e1 n last nx lk wd fe t c k).2.2.2.2.2.2 (rf_e1 n last nx lk wd fe t c k).2.1 = 1) := by
    intro k
    refine ⟨?_, ?_, fun _ => rf_us⟩
    · show (rf_up wd n (c :: wd last) n).length = p + 1
      rw [rf_us, List.length_cons, hl']
    · show n + 1 ≤ 2 * (p + 1) + 1
      omega
  cases rf_st c nx lk (wd last).length last with
  | none => exact k1 0
  | some s =>
    show ((if (wd (nx s c)).length = (wd s).length + 1 then rf_e1 n last nx lk wd fe t c (nx s c) else rf_e2 n last nx lk wd fe t c s (nx s c)).2.2.2.2.1 (if (wd (nx s c)).length = (wd s).length + 1 then rf_e1 n last nx lk wd fe t c (nx s c) else rf_e2 n last nx lk wd fe t c s (nx s c)).2.1).length = p + 1 ∧ (if (wd (nx s c)).length = (wd s).length + 1 then rf_e1 n last nx lk wd fe t c (nx s c) else rf_e2 n last nx lk wd fe t c s (nx s c)).1 ≤ 2 * (p + 1) + 1 ∧ (0 < p + 1 → (if (wd (nx s c)).length = (wd s).length + 1 then rf_e1 n last nx lk wd fe t c (nx s c) else rf_e2 n last nx lk wd fe t c s (nx s c)).2.2.2.2.2.2 (if (wd (nx s c)).length = (wd s).length + 1 then rf_e1 n last nx lk wd fe t c (nx s c) else rf_e2 n last nx lk wd fe t c s (nx s c)).2.1 = 1)
    by_cases hd : (wd (nx s c)).length = (wd s).length + 1
    · rw [if_pos hd]
      exact k1 _
    · rw [if_neg hd]
      refine ⟨?_, ?_, fun _ => ?_⟩
      · show (rf_up (rf_up wd n (c :: wd last)) (n + 1) (c :: wd s) n).length = p + 1
        rw [rf_un (by omega), rf_us, List.length_cons, hl']
      · show n + 2 ≤ 2 * (p + 1) + 1
        omega
      · exact (rf_un (show n ≠ n + 1 by omega)).trans rf_us
theorem rf_bd_ok (tx : Nat → Nat) : ∀ p, rf_Ok p (rf_bd tx p)
  | 0 => rf_A0_ok
  | p + 1 => rf_ext_ok (rf_bd_ok tx p) (tx p)
end
section
/-! ===== the order by length ===== -/
def rf_pos (len o : Nat → Nat) (i : Nat) : Nat → Nat
  | 0 => 0
  | k + 1 => if len (o k) ≤ len i then k + 1 else rf_pos len o i k
def rf_ins (o : Nat → Nat) (a i : Nat) (j : Nat) : Nat := if j < a then o j else if j = a then i else o (j - 1)
def rf_od (len : Nat → Nat) : Nat → Nat → Nat
  | 0 => fun _ => 0
  | i + 1 => rf_ins (rf_od len i) (rf_pos len (rf_od len i) i i) i
theorem rf_pos_ok (len o : Nat → Nat) (i : Nat) : ∀ k, rf_pos len o i k ≤ k ∧ (∀ j, rf_pos len o i k ≤ j → j < k → len i < len (o j)) ∧ (0 < rf_pos len o i k → len (o (rf_pos len o i k - 1)) ≤ len i)
  | 0 => ⟨Nat.le_refl _, fun j _ h => absurd h (by omega), fun h => absurd h (by simp only [rf_pos]; omega)⟩
  | k + 1 => by
    obtain ⟨h1, h2, h3⟩ := rf_pos_ok len o i k
    unfold rf_pos
    by_cases h : len (o k) ≤ len i
    · rw [if_pos h]
      exact ⟨Nat.le_refl _, fun j a b => absurd b (by omega), fun _ => h⟩
    · rw [if_neg h]
      refine ⟨by omega, fun j a b => ?_, h3⟩
      by_cases e : j = k
      · rw [e]
        omega
      · exact h2 j a (by omega)
def rf_Od (len : Nat → Nat) (i : Nat) (o : Nat → Nat) : Prop := (∀ j, j < i → o j < i) ∧ (∀ s, s < i → ∃ j, j < i ∧ o j = s) ∧ (∀ j k, j < k → k < i → len (o j) ≤ len (o k)) ∧ (∀ j, 0 < j → j < i → o j ≠ 0) ∧ (0 < i → o 0 = 0)
theorem rf_ins_lo {o : Nat → Nat} {a i j : Nat} (h : j < a) : rf_ins o a i j = o j := if_pos h
theorem rf_ins_at {o : Nat → Nat} {a i : Nat} : rf_ins o a i a = i := by
  unfold rf_ins
  rw [if_neg (by omega), if_pos rfl]
theorem rf_ins_hi {o : Nat → Nat} {a i j : Nat} (h : a < j) : rf_ins o a i j = o (j - 1) := by
  unfold rf_ins
  rw [if_neg (by omega), if_neg (by omega)]
theorem rf_od_ok {len : Nat → Nat} (h0 : len 0 = 0) : ∀ i, rf_Od len i (rf_od len i)
  | 0 => ⟨fun j h => absurd h (by omega), fun j h => absurd h (by omega), fun j k _ h => absurd h (by omega), fun j _ h => absurd h (by omega), fun h => absurd h (by omega)⟩
  | i + 1 => by
    obtain ⟨o1, o2, o3, o4, o5⟩ := rf_od_ok h0 i
    obtain ⟨p1, p2, p3⟩ := rf_pos_ok len (rf_od len i) i i
    have a0 : 0 < i → 0 < rf_pos len (rf_od len i) i i := by
      intro hi
      rcases Nat.eq_zero_or_pos (rf_pos len (rf_od len i) i i) with z | z
      · have := p2 0 (by omega) hi
        rw [o5 hi] at this
        omega
      · exact z
    show rf_Od len (i + 1) (rf_ins (rf_od len i) (rf_pos len (rf_od len i) i i) i)
    generalize rf_pos len (rf_od len i) i i = a at *
    have low : ∀ j, j < a → len (rf_od len i j) ≤ len i := by
      intro j hj
      have h := p3 (by omega)
      by_cases e : j = a - 1
      · rw [e]
        exact h
      · exact Nat.le_trans (o3 j (a - 1) (by omega) (by omega)) h
    refine ⟨fun j hj => ?_, fun s hs => ?_, fun j k hjk hk => ?_, fun j hj0 hj => ?_, fun _ => ?_⟩
    · rcases Nat.lt_trichotomy j a with h | h | h
      · rw [rf_ins_lo h]
        have := o1 j (by omega)
        omega
      · rw [h, rf_ins_at]
        omega
      · rw [rf_ins_hi h]
        have := o1 (j - 1) (by omega)
        omega
    · by_cases e : s = i
      · exact ⟨a, by omega, by rw [rf_ins_at, e]⟩
      · obtain ⟨j, hj, hs⟩ := o2 s (by omega)
        by_cases h : j < a
        · exact ⟨j, by omega, by rw [rf_ins_lo h, hs]⟩
        · exact ⟨j + 1, by omega, by rw [rf_ins_hi (by omega)]; exact hs⟩
    · rcases Nat.lt_trichotomy j a with h | h | h
      · rw [rf_ins_lo h]
        rcases Nat.lt_trichotomy k a with g | g | g
        · rw [rf_ins_lo g]
          exact o3 j k hjk (by omega)
        · rw [g, rf_ins_at]
          exact low j h
        · rw [rf_ins_hi g]
          have := low j h
          have := p2 (k - 1) (by omega) (by omega)
          omega
      · rw [h, rf_ins_at, rf_ins_hi (by omega)]
        have := p2 (k - 1) (by omega) (by omega)
        omega
      · rw [rf_ins_hi h, rf_ins_hi (by omega)]
        exact o3 (j - 1) (k - 1) (by omega) (by omega)
    · by_cases hi : 0 < i
      · have := a0 hi
        rcases Nat.lt_trichotomy j a with h | h | h
        · rw [rf_ins_lo h]
          exact o4 j hj0 (by omega)
        · rw [h, rf_ins_at]
          omega
        · rw [rf_ins_hi h]
          exact o4 (j - 1) (by omega) (by omega)
      · omega
    · by_cases hi : 0 < i
      · rw [rf_ins_lo (a0 hi)]
        exact o5 hi
      · have e : a = 0 := by omega
        have e2 : i = 0 := by omega
        rw [e, rf_ins_at, e2]
/-! ===== the times ===== -/
def rf_ct (lk o : Nat → Nat) : Nat → (Nat → Int32) → (Nat → Int32)
  | 0, t => t
  | i + 1, t => rf_ct lk o i (rf_up t (lk (o (i + 1))) ((t (lk (o (i + 1))) + t (o (i + 1))).toInt8.toInt32))
theorem rf_ct_keep {lk o : Nat → Nat} {q : Nat} : ∀ (i : Nat) (t : Nat → Int32), (∀ j, 0 < j → j ≤ i → lk (o j) ≠ q) → rf_ct lk o i t q = t q
  | 0, t, _ => rfl
  | i + 1, t, h => by
    unfold rf_ct
    rw [rf_ct_keep i _ (fun j h1 h2 => h j h1 (by omega)), rf_un (fun e => h (i + 1) (by omega) (by omega) e.symm)]
/-- the lengths, the order, the times of a built automaton -/
def rf_ln (A : rf_A) (s : Nat) : Nat := (A.2.2.2.2.1 s).length
def rf_or (A : rf_A) : Nat → Nat := rf_od (rf_ln A) A.1
def rf_tm (A : rf_A) : Nat → Int32 := rf_ct A.2.2.2.1 (rf_or A) (A.1 - 1) A.2.2.2.2.2.2
theorem rf_or_ok {p : Nat} {A : rf_A} (h : rf_Ok p A) : rf_Od (rf_ln A) A.1 (rf_or A) := rf_od_ok (rf_len0 h.1) A.1
theorem rf_tm_last {p : Nat} {A : rf_A} (h : rf_Ok p A) (hp : 0 < p) : rf_tm A A.2.1 = 1 := by
  unfold rf_tm
  rw [rf_ct_keep]
  · exact h.2.2.2 hp
  · intro j h1 h2 e
    have hn := h.1.1
    have o := rf_or_ok h
    have hj : j < A.1 := by omega
    have t := rf_i1 h.1 _ (o.1 j hj) (o.2.2.2.1 j h1 hj)
    rw [e] at t
    have := rf_hlen h.1 (o.1 j hj)
    omega
/-! ===== the words that lead on ===== -/
def rf_4 (f : Nat → Nat) : Nat := f 0 + f 1 + f 2 + f 3
def rf_wn (nx : Nat → Nat → Nat) : Nat → Nat → Nat
  | 0, _ => 0
  | k + 1, s => rf_4 (fun l => if nx s l = 0 then 0 else 1 + rf_wn nx k (nx s l))
theorem rf_4_le {f g : Nat → Nat} (h : ∀ l, f l ≤ g l) : rf_4 f ≤ rf_4 g := by
  have h0 := h 0
  have h1 := h 1
  have h2 := h 2
  have h3 := h 3
  unfold rf_4
  omega
theorem rf_4_eq {f g : Nat → Nat} (h : ∀ l, f l = g l) : rf_4 f = rf_4 g := by
  unfold rf_4
  rw [h 0, h 1, h 2, h 3]
def rf_sm (f : Nat → Nat) : Nat → Nat
  | 0 => 0
  | k + 1 => rf_sm f k + f k
theorem rf_sm_le {f g : Nat → Nat} : ∀ k, (∀ j, j < k → f j ≤ g j) → rf_sm f k ≤ rf_sm g k
  | 0, _ => Nat.le_refl _
  | k + 1, h => by
    have h1 := rf_sm_le k (fun j hj => h j (by omega))
    have h2 := h k (by omega)
    unfold rf_sm
    omega
theorem rf_sm_lt {f g : Nat → Nat} {a : Nat} (ha : f a + 1 ≤ g a) : ∀ k, a < k → (∀ j, j < k → f j ≤ g j) → rf_sm f k + 1 ≤ rf_sm g k
  | 0, h, _ => absurd h (by omega)
  | k + 1, h, hh => by
    unfold rf_sm
    by_cases e : a = k
    · rw [e] at ha
      have h1 := rf_sm_le k (fun j hj => hh j (by omega))
      omega
    · have h1 := rf_sm_lt ha k (by omega) (fun j hj => hh j (by omega))
      have h2 := hh k (by omega)
      omega
theorem rf_sm_4 (f : Nat → Nat → Nat) : ∀ k, rf_4 (fun l => rf_sm (f l) k) = rf_sm (fun j => rf_4 (fun l => f l j)) k
  | 0 => rfl
  | k + 1 => by
    have h : rf_sm (f 0) k + rf_sm (f 1) k + rf_sm (f 2) k + rf_sm (f 3) k = rf_sm (fun j => f 0 j + f 1 j + f 2 j + f 3 j) k := rf_sm_4 f k
    show rf_sm (f 0) k + f 0 k + (rf_sm (f 1) k + f 1 k) + (rf_sm (f 2) k + f 2 k) + (rf_sm (f 3) k + f 3 k) = rf_sm (fun j => f 0 j + f 1 j + f 2 j + f 3 j) k + (f 0 k + f 1 k + f 2 k + f 3 k)
    omega
theorem rf_sm_shift (f : Nat → Nat) : ∀ k, rf_sm f (k + 1) = f 0 + rf_sm (fun j => f (j + 1)) k
  | 0 => by
    show 0 + f 0 = f 0 + 0
    omega
  | k + 1 => by
    have h := rf_sm_shift f k
    show rf_sm f (k + 1) + f (k + 1) = f 0 + (rf_sm (fun j => f (j + 1)) k + f (k + 1))
    omega
theorem rf_sm_const {f : Nat → Nat} {b : Nat} : ∀ k, (∀ j, j < k → f j ≤ b) → rf_sm f k ≤ k * b
  | 0, _ => Nat.zero_le _
  | k + 1, h => by
    have h1 := rf_sm_const k (fun j hj => h j (by omega))
    have h2 := h k (by omega)
    unfold rf_sm
    rw [Nat.add_mul, Nat.one_mul]
    omega
/-- the room behind the places where a word stands -/
def rf_rm (R w : List Nat) : Nat := rf_sm (fun j => if w <+: R.drop j then j else 0) (R.length + 1)
theorem rf_rm_le (R w : List Nat) : rf_rm R w ≤ (R.length + 1) * R.length := by
  refine rf_sm_const _ (fun j hj => ?_)
  split <;> omega
theorem rf_pt (R w : List Nat) (j : Nat) : rf_4 (fun l => if (l :: w) <+: R.drop j then j + 1 else 0) ≤ if w <+: R.drop (j + 1) then j + 1 else 0 := by
  by_cases hj : j < R.length
  · rw [List.drop_eq_getElem_cons hj]
    generalize R[j] = x
    generalize R.drop (j + 1) = ys
    unfold rf_4
    simp only [List.cons_prefix_cons]
    by_cases h : w <+: ys
    · simp only [h, and_true, if_true]
      by_cases h0 : 0 = x
      · subst h0
        simp
      · by_cases h1 : 1 = x
        · subst h1
          simp
        · by_cases h2 : 2 = x
          · subst h2
            simp
          · simp only [h0, h1, h2, if_false]
            split <;> omega
    · simp [h]
  · have e : R.drop j = [] := List.drop_of_length_le (by omega)
    rw [e]
    unfold rf_4
    simp
theorem rf_room {R w : List Nat} {nx : Nat → Nat} {wd : Nat → List Nat} (h : ∀ l, nx l ≠ 0 → (l :: w) <+: wd (nx l) ∧ ∃ j, wd (nx l) <+: R.drop j) : rf_4 (fun l => if nx l = 0 then 0 else 1 + rf_rm R (wd (nx l))) ≤ rf_rm R w := by
  have h1 : ∀ l, (if nx l = 0 then 0 else 1 + rf_rm R (wd (nx l))) ≤ rf_sm (fun j => if (l :: w) <+: R.drop j then j + 1 else 0) R.length := by
    intro l
    by_cases z : nx l = 0
    · rw [if_pos z]
      exact Nat.zero_le _
    · rw [if_neg z]
      obtain ⟨hp, j, hj⟩ := h l z
      have hjl : j < R.length := by
        rcases Nat.lt_or_ge j R.length with g | g
        · exact g
        · have e : R.drop j = [] := List.drop_of_length_le g
          rw [e, List.prefix_nil] at hj
          rw [hj, List.prefix_nil] at hp
          exact absurd hp (List.cons_ne_nil _ _)
      have e1 : rf_rm R (wd (nx l)) = rf_sm (fun j => if wd (nx l) <+: R.drop j then j else 0) R.length := by
        show rf_sm (fun j => if wd (nx l) <+: R.drop j then j else 0) R.length + (if wd (nx l) <+: R.drop R.length then R.length else 0) = _
        rw [if_neg]
        · rfl
        · intro g
          rw [List.drop_length, List.prefix_nil] at g
          rw [g, List.prefix_nil] at hp
          exact absurd hp (List.cons_ne_nil _ _)
      rw [e1, Nat.add_comm]
      refine rf_sm_lt (a := j) ?_ _ hjl (fun i hi => ?_)
      · rw [if_pos hj, if_pos (hp.trans hj)]
        exact Nat.le_refl _
      · by_cases g : wd (nx l) <+: R.drop i
        · rw [if_pos g, if_pos (hp.trans g)]
          omega
        · rw [if_neg g]
          exact Nat.zero_le _
  refine Nat.le_trans (rf_4_le h1) ?_
  rw [rf_sm_4]
  unfold rf_rm
  rw [rf_sm_shift]
  refine Nat.le_trans (rf_sm_le R.length (fun j _ => rf_pt R w j)) ?_
  omega
section
variable {n last : Nat} {nx : Nat → Nat → Nat} {lk : Nat → Nat} {wd : Nat → List Nat}
theorem rf_wn_room (I : rf_Inv n last nx lk wd) : ∀ (k s : Nat), s < n → rf_wn nx k s ≤ rf_rm (wd last) (wd s)
  | 0, s, _ => Nat.zero_le _
  | k + 1, s, hs => by
    unfold rf_wn
    refine Nat.le_trans (rf_4_le (g := fun l => if nx s l = 0 then 0 else 1 + rf_rm (wd last) (wd (nx s l))) (fun l => ?_)) (rf_room (R := wd last) (nx := nx s) (wd := wd) (fun l h => ⟨(rf_i2 I s l hs h).2.1, rf_i6 I _ (rf_i2 I s l hs h).1⟩))
    by_cases z : nx s l = 0
    · rw [if_pos z, if_pos z]
      exact Nat.le_refl _
    · rw [if_neg z, if_neg z]
      have := rf_wn_room I k (nx s l) (rf_i2 I s l hs z).1
      omega
theorem rf_wn_s (I : rf_Inv n last nx lk wd) : ∀ (k s : Nat), s < n → (wd last).length ≤ (wd s).length + k → rf_wn nx (k + 1) s = rf_wn nx k s
  | 0, s, hs, h => by
    show rf_4 (fun l => if nx s l = 0 then 0 else 1 + 0) = 0
    have z : ∀ l, nx s l = 0 := by
      intro l
      by_cases z : nx s l = 0
      · exact z
      · have h1 := rf_hnx I hs z
        have h2 := rf_hlen I (rf_i2 I s l hs z).1
        omega
    rw [rf_4_eq (g := fun _ => 0) (fun l => by rw [if_pos (z l)])]
    rfl
  | k + 1, s, hs, h => by
    show rf_4 (fun l => if nx s l = 0 then 0 else 1 + rf_wn nx (k + 1) (nx s l)) = rf_4 (fun l => if nx s l = 0 then 0 else 1 + rf_wn nx k (nx s l))
    refine rf_4_eq (fun l => ?_)
    by_cases z : nx s l = 0
    · rw [if_pos z, if_pos z]
    · rw [if_neg z, if_neg z, rf_wn_s I k (nx s l) (rf_i2 I s l hs z).1]
      have := rf_hnx I hs z
      omega
end
def rf_wo (A : rf_A) (s : Nat) : Nat := rf_wn A.2.2.1 (A.2.2.2.2.1 A.2.1).length s
theorem rf_wo_le {p : Nat} {A : rf_A} (h : rf_Ok p A) (hp : p ≤ 24) {s : Nat} (hs : s < A.1) : rf_wo A s ≤ 600 := by
  have h1 := rf_wn_room h.1 (A.2.2.2.2.1 A.2.1).length s hs
  have h2 := rf_rm_le (A.2.2.2.2.1 A.2.1) (A.2.2.2.2.1 s)
  rw [h.2.1] at h2
  have h3 : (p + 1) * p ≤ 25 * 24 := Nat.mul_le_mul (by omega) hp
  unfold rf_wo
  omega
theorem rf_wo_eq {p : Nat} {A : rf_A} (h : rf_Ok p A) {s : Nat} (hs : s < A.1) : rf_wo A s = rf_4 (fun l => if A.2.2.1 s l = 0 then 0 else 1 + rf_wo A (A.2.2.1 s l)) := by
  unfold rf_wo
  rw [← rf_wn_s h.1 _ s hs (by omega)]
  rfl
end
section
/-! ===== the arrays against the picture; letters go through σ ===== -/
def rf_Pm (σ τ : Nat → Nat) : Prop := ∀ l, l < 4 → σ l < 4 ∧ τ l < 4 ∧ τ (σ l) = l ∧ σ (τ l) = l
theorem rf_ix (s j : Nat) : (4 : Int32) * nI s + nI j = nI (4 * s + j) := by
  rw [show (4 : Int32) = nI 4 from rfl, pk_mul, nI_add]
theorem rf_ixc {s j : Nat} (h : 4 * s + j < 200) : ((4 : Int32) * nI s + nI j).toNatClampNeg = 4 * s + j := by
  rw [rf_ix, nI_clamp (by omega)]
theorem rf_ixi {s j : Nat} (h : 4 * s + j < 200) : vp_in ((4 : Int32) * nI s + nI j) 200 := by
  rw [rf_ix]
  exact vp_in_nI h (by decide)
theorem rf_b8 : ∀ k, k < 128 → (nI k).toInt8.toInt32 = nI k := by decide +kernel
theorem rf_nb {k : Nat} (h : k < 128) : vp_nar .byte (nI k) = nI k := by
  rw [vp_nar_byte, rf_b8 k h]
def rf_M3 (σ : Nat → Nat) (n : Nat) (nx : Nat → Nat → Nat) (a : Nat → Int32) : Prop := ∀ q l, q < n → l < 4 → a (4 * q + σ l) = nI (nx q l)
def rf_M4 (n : Nat) (lk : Nat → Nat) (a : Nat → Int32) : Prop := a 0 = -1 ∧ ∀ q, q < n → q ≠ 0 → a q = nI (lk q)
def rf_M5 (n : Nat) (wd : Nat → List Nat) (a : Nat → Int32) : Prop := ∀ q, q < n → a q = nI (wd q).length
def rf_Mf (n : Nat) (f a : Nat → Int32) : Prop := ∀ q, q < n → a q = f q
def rf_Mt (σ : Nat → Nat) (A : rf_A) (a3 a4 a5 a6 a7 : Nat → Int32) : Prop := rf_M3 σ A.1 A.2.2.1 a3 ∧ rf_M4 A.1 A.2.2.2.1 a4 ∧ rf_M5 A.1 A.2.2.2.2.1 a5 ∧ rf_Mf A.1 A.2.2.2.2.2.2 a6 ∧ rf_Mf A.1 A.2.2.2.2.2.1 a7
section
variable {f1 f2 f3 f4 f5 f6 : Int32} {a1 a2 a3 a4 a5 a6 a7 a8 a9 : Nat → Int32}
theorem rf_newState {post : Int32 → St1 → Prop} {n : Nat} {p0 p1 : Int32} (hn : n < 50)
    (H : ∀ b3 : Nat → Int32, (∀ j, j < 4 → b3 (4 * n + j) = 0) → (∀ i, i < 4 * n → b3 i = a3 i) → post (nI n) (f1, f2, f3, nI (n + 1), f5, f6, a1, a2, b3, upd a4 n (-1), upd a5 n p0.toInt8.toInt32, upd a6 n 0, upd a7 n p1.toInt8.toInt32, a8, a9)) :
    wpX_newState post (f1, f2, f3, nI n, f5, f6, a1, a2, a3, a4, a5, a6, a7, a8, a9) p0 p1 := by
  unfold wpX_newState
  dsimp only
  rw [nI_clamp (show n < 2 ^ 31 by omega), nI_1]
  have hi := vp_in_nI hn (by decide : 50 < 2 ^ 31)
  refine nm_e ⟨hi, nm_e ⟨hi, nm_e ⟨hi, nm_e ⟨hi, nm_e ?_⟩⟩⟩⟩
  refine pk_loop (fun m i s => wX_newState_48 post (nI n) f1 f2 f3 (nI (n + 1)) f5 f6 m (nI i) a1 a2 s (upd a4 n (-1)) (upd a5 n p0.toInt8.toInt32) (upd a6 n 0) (upd a7 n p1.toInt8.toInt32) a8 a9) (fun i s => (∀ j, j < i → s (4 * n + j) = 0) ∧ (∀ j, j < 4 * n → s j = a3 j)) 4 0 a3 (by omega) ⟨fun j h => absurd h (by omega), fun _ _ => rfl⟩ ?_ ?_
  · intro m s h
    exact pk_le 4 4 (fun _ => H s h.1 h.2) (fun z => absurd z (by omega))
  · intro m i s hi4 h hw
    refine pk_le 4 i (fun z => absurd z (by omega)) (fun _ => ⟨rf_ixi (by omega), ?_⟩)
    rw [rf_ixc (by omega)]
    refine nm_e (nm_r (nI_1 i) (hw _ ⟨fun j hj => ?_, fun j hj => ?_⟩))
    · by_cases e : j = i
      · rw [e, pk_us]
      · rw [pk_un (by omega)]
        exact h.1 j (by omega)
    · rw [pk_un (by omega)]
      exact h.2 j hj
theorem rf_split {post : Int32 → St1 → Prop} {m p : Nat} {p1 : Int32} (hm : m < 50) (hp : p < m)
    (H : ∀ b3 : Nat → Int32, (∀ j, j < 4 → b3 (4 * m + j) = vp_nar .byte (a3 (4 * p + j))) → (∀ i, i < 4 * m → b3 i = a3 i) → post (nI m) (f1, f2, f3, nI (m + 1), f5, f6, a1, a2, b3, upd (upd (upd a4 m (-1)) m (vp_nar .byte (a4 p))) p (nI m), upd a5 m p1.toInt8.toInt32, upd a6 m 0, upd a7 m (a7 p).toInt8.toInt32, a8, a9)) :
    wpX_split post (f1, f2, f3, nI m, f5, f6, a1, a2, a3, a4, a5, a6, a7, a8, a9) (nI p) p1 := by
  unfold wpX_split
  dsimp only
  have hi := vp_in_nI hm (by decide : 50 < 2 ^ 31)
  have hpi := vp_in_nI (show p < 50 by omega) (by decide : 50 < 2 ^ 31)
  rw [nI_clamp (show p < 2 ^ 31 by omega)]
  refine ⟨hpi, rf_newState hm (fun b3 h0 h1 => ?_)⟩
  dsimp only
  refine pk_loop (fun k i s => wX_split_15 post (nI p) (nI m) f1 f2 f3 (nI (m + 1)) f5 f6 k (nI i) a1 a2 s (upd a4 m (-1)) (upd a5 m p1.toInt8.toInt32) (upd a6 m 0) (upd a7 m (a7 p).toInt8.toInt32) a8 a9) (fun i s => (∀ j, j < i → s (4 * m + j) = vp_nar .byte (a3 (4 * p + j))) ∧ (∀ j, j < 4 * m → s j = a3 j)) 4 0 b3 (by omega) ⟨fun j h => absurd h (by omega), h1⟩ ?_ ?_
  · intro k s h
    refine pk_le 4 4 (fun _ => ⟨hpi, hi, ?_⟩) (fun z => absurd z (by omega))
    rw [nI_clamp (show p < 2 ^ 31 by omega), nI_clamp (show m < 2 ^ 31 by omega), rf_b8 m (by omega)]
    refine nm_r (by rw [pk_un (show p ≠ m by omega)]) ⟨hpi, nm_e ?_⟩
    exact H s h.1 h.2
  · intro k i s hi4 h hw
    refine pk_le 4 i (fun z => absurd z (by omega)) (fun _ => ⟨rf_ixi (by omega), rf_ixi (by omega), ?_⟩)
    rw [rf_ixc (by omega), rf_ixc (by omega)]
    refine nm_e (nm_r (nI_1 i) (hw _ ⟨fun j hj => ?_, fun j hj => ?_⟩))
    · by_cases e : j = i
      · rw [e, pk_us, h.2 _ (by omega)]
      · rw [pk_un (by omega)]
        exact h.1 j (by omega)
    · rw [pk_un (by omega)]
      exact h.2 j hj
end
end
section
/-! ===== extend ===== -/
def rf_xo : Option Nat → Int32
  | none => -1
  | some s => nI s
/-- the table in the first loop: set where the words have b letters or more -/
def rf_p1 (n c b : Nat) (R : List Nat) (nx : Nat → Nat → Nat) (wd : Nat → List Nat) (q l : Nat) : Nat := if q = n then 0 else if l = c ∧ nx q c = 0 ∧ wd q <+: R ∧ b ≤ (wd q).length then n else nx q l
/-- the table in the second loop -/
def rf_p2 (n c p b : Nat) (R : List Nat) (nx : Nat → Nat → Nat) (wd : Nat → List Nat) (q l : Nat) : Nat := if q = n + 1 then rf_n1 n c R nx wd p l else if q ≠ n ∧ l = c ∧ nx q c = p ∧ wd q <+: R ∧ b ≤ (wd q).length then n + 1 else rf_n1 n c R nx wd q l
theorem rf_M3_put {σ τ : Nat → Nat} {N : Nat} {nx nx' : Nat → Nat → Nat} {a : Nat → Int32} {s c v : Nat} (hσ : rf_Pm σ τ) (hs : s < N) (hc : c < 4) (h : rf_M3 σ N nx a) (h1 : nx' s c = v) (h2 : ∀ q l, q < N → l < 4 → (q ≠ s ∨ l ≠ c) → nx' q l = nx q l) : rf_M3 σ N nx' (upd a (4 * s + σ c) (nI v)) := by
  intro q l hq hl
  have k1 := hσ l hl
  have k2 := hσ c hc
  by_cases e : q = s ∧ l = c
  · rw [e.1, e.2, pk_us, h1]
  · have e2 : 4 * q + σ l ≠ 4 * s + σ c := by
      intro e3
      have e4 : q = s := by omega
      have e5 : σ l = σ c := by omega
      exact e ⟨e4, by rw [← k1.2.2.1, ← k2.2.2.1, e5]⟩
    rw [pk_un e2, h2 q l hq hl (by omega)]
    exact h q l hq hl
section
variable {n last : Nat} {nx : Nat → Nat → Nat} {lk : Nat → Nat} {wd : Nat → List Nat} {fe t : Nat → Int32} {σ τ : Nat → Nat}
variable {post : St1 → Prop} {f1 f2 f3 f4 f5 f6 : Int32} {a1 a2 a4 a5 a6 a7 a8 a9 : Nat → Int32}
theorem rf_p1_full (I : rf_Inv n last nx lk wd) {c s : Nat} (hs : s < n) (hp : wd s <+: wd last) (hz : nx s c ≠ 0) {q l : Nat} (hq : q < n + 1) : rf_p1 n c ((wd s).length + 1) (wd last) nx wd q l = rf_n1 n c (wd last) nx wd q l := by
  unfold rf_p1 rf_n1
  by_cases e : q = n
  · rw [if_pos e, if_pos e]
  · rw [if_neg e, if_neg e]
    by_cases g : l = c ∧ nx q c = 0 ∧ wd q <+: wd last
    · have hb : (wd s).length + 1 ≤ (wd q).length := by
        rcases Nat.lt_or_ge (wd s).length (wd q).length with h | h
        · exact h
        · exact absurd g.2.1 (rf_down I _ q s (Nat.le_refl _) (by omega) hs (List.prefix_of_prefix_length_le g.2.2 hp h) hz)
      rw [if_pos g, if_pos ⟨g.1, g.2.1, g.2.2, hb⟩]
    · rw [if_neg g, if_neg (fun h => g ⟨h.1, h.2.1, h.2.2.1⟩)]
theorem rf_p1_zero {c q l : Nat} {R : List Nat} : rf_p1 n c 0 R nx wd q l = rf_n1 n c R nx wd q l := by
  unfold rf_p1 rf_n1
  by_cases e : q = n
  · rw [if_pos e, if_pos e]
  · rw [if_neg e, if_neg e]
    by_cases g : l = c ∧ nx q c = 0 ∧ wd q <+: R
    · rw [if_pos g, if_pos ⟨g.1, g.2.1, g.2.2, Nat.zero_le _⟩]
    · rw [if_neg g, if_neg (fun h => g ⟨h.1, h.2.1, h.2.2.1⟩)]
/-- the first loop -/
theorem rf_27 (hσ : rf_Pm σ τ) (I : rf_Inv n last nx lk wd) (hn : n < 50) {c : Nat} (hc : c < 4) (h4 : rf_M4 n lk a4) : ∀ (k s : Nat) (a3 : Nat → Int32), (wd s).length ≤ k → s < n → wd s <+: wd last → rf_M3 σ (n + 1) (rf_p1 n c ((wd s).length + 1) (wd last) nx wd) a3 →
    (∀ b3 : Nat → Int32, rf_M3 σ (n + 1) (rf_n1 n c (wd last) nx wd) b3 → wX_extend_71 post (nI (σ c)) (nI n) (rf_xo (rf_st c nx lk k s)) f1 f2 f3 f4 f5 f6 a1 a2 b3 a4 a5 a6 a7 a8 a9) →
    wX_extend_27 post (nI (σ c)) (nI n) f1 f2 f3 f4 f5 f6 (k + 2) (nI s) a1 a2 a3 a4 a5 a6 a7 a8 a9 := by
  intro k
  have k2 := hσ c hc
  -- a step at a state: what is set, what is left
  have put : ∀ (s b : Nat) (a3 : Nat → Int32), s < n → wd s <+: wd last → nx s c = 0 → rf_M3 σ (n + 1) (rf_p1 n c ((wd s).length + 1) (wd last) nx wd) a3 → b ≤ (wd s).length → (∀ q, q < n → wd q <+: wd last → b ≤ (wd q).length → (wd q).length ≤ (wd s).length → q = s) → rf_M3 σ (n + 1) (rf_p1 n c b (wd last) nx wd) (upd a3 (4 * s + σ c) (nI n)) := by
    intro s b a3 hs hp hz hM hb hg
    refine rf_M3_put hσ (by omega) hc hM ?_ (fun q l hq hl hne => ?_)
    · unfold rf_p1
      rw [if_neg (by omega), if_pos ⟨rfl, hz, hp, hb⟩]
    · unfold rf_p1
      by_cases e : q = n
      · rw [if_pos e, if_pos e]
      · rw [if_neg e, if_neg e]
        by_cases g : l = c ∧ nx q c = 0 ∧ wd q <+: wd last ∧ (wd s).length + 1 ≤ (wd q).length
        · rw [if_pos g, if_pos ⟨g.1, g.2.1, g.2.2.1, by omega⟩]
        · rw [if_neg g, if_neg]
          rintro ⟨g1, g2, g3, g4⟩
          rcases Nat.lt_or_ge (wd s).length (wd q).length with h | h
          · exact g ⟨g1, g2, g3, h⟩
          · have := hg q (by omega) g3 g4 h
            omega
  have rd : ∀ (s : Nat) (a3 : Nat → Int32), s < n → rf_M3 σ (n + 1) (rf_p1 n c ((wd s).length + 1) (wd last) nx wd) a3 → a3 (4 * s + σ c) = nI (nx s c) := by
    intro s a3 hs hM
    rw [hM s c (by omega) hc]
    unfold rf_p1
    rw [if_neg (by omega), if_neg (fun h => by omega)]
  have zero : ∀ (s : Nat) (a3 : Nat → Int32), s < n → s = 0 → wd s <+: wd last → nx s c = 0 → rf_M3 σ (n + 1) (rf_p1 n c ((wd s).length + 1) (wd last) nx wd) a3 → rf_M3 σ (n + 1) (rf_n1 n c (wd last) nx wd) (upd a3 (4 * s + σ c) (nI n)) := by
    intro s a3 hs s0 hp hz hM
    have := put s 0 a3 hs hp hz hM (Nat.zero_le _) (fun q hq hqp _ hle => by
      have l0 := rf_len0 I
      rw [s0] at hle
      exact rf_heq I hq hs hqp hp (by rw [s0]; omega))
    intro q l hq hl
    rw [this q l hq hl, rf_p1_zero]
  induction k with
  | zero =>
    intro s a3 hk hs hp hM K
    have s0 : s = 0 := by
      by_cases e : s = 0
      · exact e
      · have := rf_hpos I hs e
        omega
    refine br_f (nI_pos (by omega)) ⟨rf_ixi (by omega), ?_⟩
    rw [rf_ixc (by omega), rd s a3 hs hM]
    by_cases hz : nx s c = 0
    · refine br_t (by rw [hz]; rfl) ⟨rf_ixi (by omega), ?_⟩
      rw [rf_b8 n (by omega)]
      refine nm_e ⟨vp_in_nI (by omega) (by decide), ?_⟩
      rw [nI_clamp (by omega)]
      refine nm_r (show a4 s = -1 by rw [s0]; exact h4.1) (br_t (by decide) ?_)
      have e : rf_st c nx lk 0 s = none := by
        unfold rf_st
        rw [if_pos hz]
      rw [e] at K
      exact K _ (zero s a3 hs s0 hp hz hM)
    · have hlt := (rf_i2 I s c hs hz).1
      refine br_f (fun e => hz ((nI_eq (b := 0) (by omega) (by omega)).mp e)) ?_
      have e : rf_st c nx lk 0 s = some s := by
        unfold rf_st
        rw [if_neg hz]
      rw [e] at K
      exact K _ (fun q l hq hl => by rw [hM q l hq hl, rf_p1_full I hs hp hz hq])
  | succ k ih =>
    intro s a3 hk hs hp hM K
    refine br_f (nI_pos (by omega)) ⟨rf_ixi (by omega), ?_⟩
    rw [rf_ixc (by omega), rd s a3 hs hM]
    by_cases hz : nx s c = 0
    · refine br_t (by rw [hz]; rfl) ⟨rf_ixi (by omega), ?_⟩
      rw [rf_b8 n (by omega)]
      refine nm_e ⟨vp_in_nI (by omega) (by decide), ?_⟩
      rw [nI_clamp (by omega)]
      by_cases s0 : s = 0
      · refine nm_r (show a4 s = -1 by rw [s0]; exact h4.1) (br_t (by decide) ?_)
        have e : rf_st c nx lk (k + 1) s = none := by
          unfold rf_st
          rw [if_pos hz, if_pos s0]
        rw [e] at K
        exact K _ (zero s a3 hs s0 hp hz hM)
      · have t1 := rf_i1 I s hs s0
        refine nm_r (h4.2 s hs s0) (ih (lk s) _ (by omega) t1.1 (t1.2.1.trans hp) ?_ ?_)
        · exact put s _ a3 hs hp hz hM (by omega) (fun q hq hqp h1 h2 => rf_gap I hs hp hq hqp (by omega) h2)
        · have e : rf_st c nx lk (k + 1) s = rf_st c nx lk k (lk s) := by
            show (if nx s c = 0 then (if s = 0 then none else rf_st c nx lk k (lk s)) else some s) = _
            rw [if_pos hz, if_neg s0]
          rw [e] at K
          exact K
    · have hlt := (rf_i2 I s c hs hz).1
      refine br_f (fun e => hz ((nI_eq (b := 0) (by omega) (by omega)).mp e)) ?_
      have e : rf_st c nx lk (k + 1) s = some s := by
        unfold rf_st
        rw [if_neg hz]
      rw [e] at K
      exact K _ (fun q l hq hl => by rw [hM q l hq hl, rf_p1_full I hs hp hz hq])
/-- behind a state that doesn't lead to p, none leads there -/
theorem rf_cont (I : rf_Inv n last nx lk wd) {c p r : Nat} (p0 : p ≠ 0) (hr : r < n) (r0 : r ≠ 0) (hx : nx r c = p) : nx (lk r) c = p ∨ ∀ q, q < n → nx q c = p → (wd (lk r)).length < (wd q).length := by
  have t := rf_i1 I r hr r0
  rcases rf_i4 I r c hr r0 (by rw [hx]; exact p0) with h | h
  · exact Or.inl (by rw [h, hx])
  · right
    intro q hq hxq
    have h1 := rf_hnx I t.1 (l := c) (by rw [h.1]; exact h.2)
    have h2 := (rf_i2 I q c hq (by rw [hxq]; exact p0)).2.2
    have h3 := rf_hml I hq
    rw [h.1, hx] at h1
    rw [hxq, rf_mlS p0] at h2
    omega
/-- the second loop -/
theorem rf_143 (hσ : rf_Pm σ τ) (I : rf_Inv n last nx lk wd) (hn : n < 49) {c p : Nat} (hc : c < 4) (p0 : p ≠ 0) (hpn : p < n)
    (H : ∀ b3 : Nat → Int32, rf_M3 σ (n + 2) (rf_n2 n c p (wd last) nx wd) b3 → post (f1, f2, f3, f4, f5, f6, a1, a2, b3, upd a4 n (nI (n + 1)), a5, a6, a7, a8, a9))
    (h40 : a4 0 = -1) (h4 : ∀ q, q < n → q ≠ 0 → q ≠ p → a4 q = nI (lk q)) : ∀ (k s : Nat) (a3 : Nat → Int32), (wd s).length ≤ k → s < n → wd s <+: wd last → nx s c ≠ 0 → (wd s).length < (wd p).length → (nx s c = p ∨ ∀ q, q < n → nx q c = p → (wd s).length < (wd q).length) → rf_M3 σ (n + 2) (rf_p2 n c p ((wd s).length + 1) (wd last) nx wd) a3 →
    wX_extend_143 post (nI (σ c)) (nI n) (nI p) (nI (n + 1)) f1 f2 f3 f4 f5 f6 (k + 2) (nI s) a1 a2 a3 a4 a5 a6 a7 a8 a9 := by
  intro k
  have k2 := hσ c hc
  have fin : ∀ b3 : Nat → Int32, rf_M3 σ (n + 2) (rf_n2 n c p (wd last) nx wd) b3 → vp_in (nI n) 50 ∧ ∀ x : Nat → Int32, x = upd a4 (nI n).toNatClampNeg (nI (n + 1)).toInt8.toInt32 → post (f1, f2, f3, f4, f5, f6, a1, a2, b3, x, a5, a6, a7, a8, a9) := by
    intro b3 hb
    refine ⟨vp_in_nI (by omega) (by decide), ?_⟩
    rw [nI_clamp (by omega), rf_b8 (n + 1) (by omega)]
    exact nm_e (H b3 hb)
  have put : ∀ (s b : Nat) (a3 : Nat → Int32), s < n → wd s <+: wd last → nx s c = p → rf_M3 σ (n + 2) (rf_p2 n c p ((wd s).length + 1) (wd last) nx wd) a3 → b ≤ (wd s).length → (∀ q, q < n → wd q <+: wd last → b ≤ (wd q).length → (wd q).length ≤ (wd s).length → q = s) → rf_M3 σ (n + 2) (rf_p2 n c p b (wd last) nx wd) (upd a3 (4 * s + σ c) (nI (n + 1))) := by
    intro s b a3 hs hp hz hM hb hg
    refine rf_M3_put hσ (by omega) hc hM ?_ (fun q l hq hl hne => ?_)
    · unfold rf_p2
      rw [if_neg (by omega), if_pos ⟨by omega, rfl, hz, hp, hb⟩]
    · unfold rf_p2
      by_cases e : q = n + 1
      · rw [if_pos e, if_pos e]
      · rw [if_neg e, if_neg e]
        by_cases g : q ≠ n ∧ l = c ∧ nx q c = p ∧ wd q <+: wd last ∧ (wd s).length + 1 ≤ (wd q).length
        · rw [if_pos g, if_pos ⟨g.1, g.2.1, g.2.2.1, g.2.2.2.1, by omega⟩]
        · rw [if_neg g, if_neg]
          rintro ⟨g0, g1, g2, g3, g4⟩
          rcases Nat.lt_or_ge (wd s).length (wd q).length with h | h
          · exact g ⟨g0, g1, g2, g3, h⟩
          · have := hg q (by omega) g3 g4 h
            omega
  have rd : ∀ (s : Nat) (a3 : Nat → Int32), s < n → nx s c ≠ 0 → rf_M3 σ (n + 2) (rf_p2 n c p ((wd s).length + 1) (wd last) nx wd) a3 → a3 (4 * s + σ c) = nI (nx s c) := by
    intro s a3 hs hz hM
    rw [hM s c (by omega) hc]
    unfold rf_p2 rf_n1
    rw [if_neg (by omega), if_neg (fun h => by omega), if_neg (by omega), if_neg (fun h => hz h.2.1)]
  have zero : ∀ (s : Nat) (a3 : Nat → Int32), s < n → s = 0 → wd s <+: wd last → nx s c = p → rf_M3 σ (n + 2) (rf_p2 n c p ((wd s).length + 1) (wd last) nx wd) a3 → rf_M3 σ (n + 2) (rf_n2 n c p (wd last) nx wd) (upd a3 (4 * s + σ c) (nI (n + 1))) := by
    intro s a3 hs s0 hp hz hM
    have := put s 0 a3 hs hp hz hM (Nat.zero_le _) (fun q hq hqp _ hle => by
      have l0 := rf_len0 I
      rw [s0] at hle
      exact rf_heq I hq hs hqp hp (by rw [s0]; omega))
    intro q l hq hl
    rw [this q l hq hl]
    unfold rf_p2 rf_n2
    simp only [Nat.zero_le, and_true]
  have full : ∀ (s : Nat) (a3 : Nat → Int32), (∀ q, q < n → nx q c = p → (wd s).length < (wd q).length) → rf_M3 σ (n + 2) (rf_p2 n c p ((wd s).length + 1) (wd last) nx wd) a3 → rf_M3 σ (n + 2) (rf_n2 n c p (wd last) nx wd) a3 := by
    intro s a3 hb hM q l hq hl
    rw [hM q l hq hl]
    unfold rf_p2 rf_n2
    by_cases e : q = n + 1
    · rw [if_pos e, if_pos e]
    · rw [if_neg e, if_neg e]
      by_cases g : q ≠ n ∧ l = c ∧ nx q c = p ∧ wd q <+: wd last
      · rw [if_pos g, if_pos ⟨g.1, g.2.1, g.2.2.1, g.2.2.2, hb q (by omega) g.2.2.1⟩]
      · rw [if_neg g, if_neg (fun h => g ⟨h.1, h.2.1, h.2.2.1, h.2.2.2.1⟩)]
  induction k with
  | zero =>
    intro s a3 hk hs hp hz hlt hb hM
    have s0 : s = 0 := by
      by_cases e : s = 0
      · exact e
      · have := rf_hpos I hs e
        omega
    have hxn := (rf_i2 I s c hs hz).1
    refine br_f (nI_pos (by omega)) ⟨rf_ixi (by omega), ?_⟩
    rw [rf_ixc (by omega), rd s a3 hs hz hM]
    refine pk_eq (nx s c) p (fun e => ?_) (fun e => ?_)
    · refine ⟨rf_ixi (by omega), ?_⟩
      rw [rf_b8 (n + 1) (by omega)]
      refine nm_e ⟨vp_in_nI (by omega) (by decide), ?_⟩
      rw [nI_clamp (show s < 2 ^ 31 by omega)]
      exact nm_r (show a4 s = -1 by rw [s0]; exact h40) (br_t (by decide) (fin _ (zero s a3 hs s0 hp e hM)))
    · exact fin _ (full s a3 (hb.resolve_left e) hM)
  | succ k ih =>
    intro s a3 hk hs hp hz hlt hb hM
    have hxn := (rf_i2 I s c hs hz).1
    refine br_f (nI_pos (by omega)) ⟨rf_ixi (by omega), ?_⟩
    rw [rf_ixc (by omega), rd s a3 hs hz hM]
    refine pk_eq (nx s c) p (fun e => ?_) (fun e => ?_)
    · refine ⟨rf_ixi (by omega), ?_⟩
      rw [rf_b8 (n + 1) (by omega)]
      refine nm_e ⟨vp_in_nI (by omega) (by decide), ?_⟩
      rw [nI_clamp (show s < 2 ^ 31 by omega)]
      by_cases s0 : s = 0
      · exact nm_r (show a4 s = -1 by rw [s0]; exact h40) (br_t (by decide) (fin _ (zero s a3 hs s0 hp e hM)))
      · have t1 := rf_i1 I s hs s0
        have hsp : s ≠ p := fun z => by rw [z] at hlt; omega
        refine nm_r (h4 s hs s0 hsp) (ih (lk s) _ (by omega) t1.1 (t1.2.1.trans hp) ?_ (by omega) (rf_cont I p0 hs s0 e) ?_)
        · exact rf_down I _ (lk s) s (Nat.le_refl _) t1.1 hs t1.2.1 hz
        · exact put s _ a3 hs hp e hM (by omega) (fun q hq hqp h1 h2 => rf_gap I hs hp hq hqp (by omega) h2)
    · exact fin _ (full s a3 (hb.resolve_left e) hM)
end
end
section
section
variable {n last : Nat} {nx : Nat → Nat → Nat} {lk : Nat → Nat} {wd : Nat → List Nat} {fe t : Nat → Int32} {σ τ : Nat → Nat}
variable {post : St1 → Prop} {f1 f2 f3 f4 f5 f6 : Int32} {a1 a2 a3 a4 a5 a6 a7 a8 a9 : Nat → Int32}
theorem rf_nx_lt (I : rf_Inv n last nx lk wd) {q l : Nat} (hq : q < n) : nx q l < n := by
  by_cases e : nx q l = 0
  · rw [e]
    exact I.1
  · exact (rf_i2 I q l hq e).1
theorem rf_n1_lt (I : rf_Inv n last nx lk wd) {c q l : Nat} {R : List Nat} (hq : q < n + 1) : rf_n1 n c R nx wd q l < n + 1 := by
  unfold rf_n1
  by_cases e : q = n
  · rw [if_pos e]
    omega
  · rw [if_neg e]
    have := rf_nx_lt I (l := l) (show q < n by omega)
    split <;> omega
theorem rf_71 (hσ : rf_Pm σ τ) (I : rf_Inv n last nx lk wd) (hn : n < 49) (hR : (wd last).length < 24) {c : Nat} (hc : c < 4) {o : Option Nat} (hS : rf_Sp n last nx wd c o)
    (h3 : rf_M3 σ (n + 1) (rf_n1 n c (wd last) nx wd) a3) (h4 : rf_M4 n lk a4) (h5 : rf_M5 (n + 1) (rf_up wd n (c :: wd last)) a5) (h6 : rf_Mf (n + 1) (rf_up t n 1) a6) (h7 : rf_Mf (n + 1) (rf_up fe n (nI (wd last).length)) a7)
    (H : ∀ b3 b4 b5 b6 b7 : Nat → Int32, rf_Mt σ (rf_ex n last nx lk wd fe t c o) b3 b4 b5 b6 b7 → post (f1, f2, f3, nI (rf_ex n last nx lk wd fe t c o).1, nI (rf_ex n last nx lk wd fe t c o).2.1, f6, a1, a2, b3, b4, b5, b6, b7, a8, a9)) :
    wX_extend_71 post (nI (σ c)) (nI n) (rf_xo o) f1 f2 f3 (nI (n + 1)) (nI n) f6 a1 a2 a3 a4 a5 a6 a7 a8 a9 := by
  have hn0 := I.1
  have k2 := hσ c hc
  have m1 : ∀ k, rf_Mt σ (rf_e1 n last nx lk wd fe t c k) a3 (upd a4 n (nI k)) a5 a6 a7 := by
    intro k
    refine ⟨h3, ⟨?_, fun q hq q0 => ?_⟩, h5, h6, h7⟩
    · rw [pk_un (by omega)]
      exact h4.1
    · show upd a4 n (nI k) q = nI (rf_up lk n k q)
      by_cases e : q = n
      · rw [e, pk_us, rf_us]
      · have hq' : q < n + 1 := hq
        rw [pk_un e, rf_un e]
        exact h4.2 q (by omega) q0
  cases o with
  | none =>
    refine br_f (show ¬ (0 : Int32) ≤ -1 by decide) ⟨vp_in_nI (by omega) (by decide), ?_⟩
    rw [nI_clamp (by omega)]
    exact nm_e (H a3 (upd a4 n 0) a5 a6 a7 (m1 0))
  | some s =>
    obtain ⟨hs, hp, hz, hst⟩ := hS
    have hs5 : ∀ q, q < n → a5 q = nI (wd q).length := by
      intro q hq
      rw [h5 q (by omega), rf_un (by omega)]
    have hl : ∀ q, q < n → (wd q).length < 24 := fun q hq => Nat.lt_of_le_of_lt (rf_hlen I hq) hR
    have h3s : a3 (4 * s + σ c) = nI (nx s c) := by
      rw [h3 s c (by omega) hc]
      unfold rf_n1
      rw [if_neg (by omega), if_neg (fun h => hz h.2.1)]
    have t2 := rf_i2 I s c hs hz
    have tl := rf_hnx I hs hz
    have hex : rf_ex n last nx lk wd fe t c (some s) = if (wd (nx s c)).length = (wd s).length + 1 then rf_e1 n last nx lk wd fe t c (nx s c) else rf_e2 n last nx lk wd fe t c s (nx s c) := rfl
    show wX_extend_71 post (nI (σ c)) (nI n) (nI s) f1 f2 f3 (nI (n + 1)) (nI n) f6 a1 a2 a3 a4 a5 a6 a7 a8 a9
    refine br_t (nI_pos' (by omega)) ⟨rf_ixi (by omega), ?_⟩
    rw [rf_ixc (by omega)]
    refine nm_r h3s ⟨vp_in_nI (by omega) (by decide), vp_in_nI (by omega) (by decide), ?_⟩
    have b1 := hl s hs
    have b2 := hl _ t2.1
    rw [nI_clamp (show nx s c < 2 ^ 31 by omega), nI_clamp (show s < 2 ^ 31 by omega), hs5 s hs, hs5 _ t2.1, nI_1]
    refine pk_eq (wd (nx s c)).length ((wd s).length + 1) (fun e => ⟨vp_in_nI (by omega) (by decide), ?_⟩) (fun e => ⟨vp_in_nI (by omega) (by decide), ?_⟩)
    · rw [nI_clamp (by omega), rf_b8 _ (by omega)]
      rw [hex, if_pos e] at H
      exact nm_e (H a3 _ a5 a6 a7 (m1 (nx s c)))
    · rw [hex, if_neg e] at H
      generalize hpe : nx s c = p at *
      refine rf_split (by omega) (by omega) (fun b3 g1 g2 => ?_)
      dsimp only
      refine ⟨(wd s).length + 2, rf_143 hσ I hn hc hz t2.1 (fun c3 hc3 => ?_) ?_ ?_ _ s b3 (Nat.le_refl _) hs hp (by rw [hpe]; exact hz) (by omega) (Or.inl hpe) ?_⟩
      · refine H c3 _ _ _ _ ⟨hc3, ⟨?_, fun q hq q0 => ?_⟩, fun q hq => ?_, fun q hq => ?_, fun q hq => ?_⟩
        · rw [pk_un (by omega), pk_un (by omega), pk_un (by omega), pk_un (by omega)]
          exact h4.1
        · have hq' : q < n + 2 := hq
          show upd (upd (upd (upd a4 (n + 1) (-1)) (n + 1) (vp_nar .byte (a4 p))) p (nI (n + 1))) n (nI (n + 1)) q = nI (rf_up (rf_up (rf_up lk n (n + 1)) (n + 1) (lk p)) p (n + 1) q)
          by_cases e1 : q = p
          · rw [e1, rf_us, pk_un (by omega), pk_us]
          · rw [rf_un e1]
            by_cases e2 : q = n
            · rw [e2, pk_us, rf_un (by omega), rf_us]
            · rw [pk_un e2, pk_un e1]
              by_cases e3 : q = n + 1
              · have t1 := rf_i1 I p t2.1 hz
                rw [e3, pk_us, rf_us, h4.2 p t2.1 hz, rf_nb (by omega)]
              · rw [pk_un e3, pk_un e3, rf_un e3, rf_un e2]
                exact h4.2 q (by omega) q0
        · have hq' : q < n + 2 := hq
          show upd a5 (n + 1) (nI ((wd s).length + 1)).toInt8.toInt32 q = nI (rf_up (rf_up wd n (c :: wd last)) (n + 1) (c :: wd s) q).length
          by_cases e3 : q = n + 1
          · rw [e3, pk_us, rf_us, rf_b8 _ (by omega), List.length_cons]
          · rw [pk_un e3, rf_un e3]
            exact h5 q (by omega)
        · have hq' : q < n + 2 := hq
          show upd a6 (n + 1) 0 q = rf_up (rf_up t n 1) (n + 1) 0 q
          by_cases e3 : q = n + 1
          · rw [e3, pk_us, rf_us]
          · rw [pk_un e3, rf_un e3]
            exact h6 q (by omega)
        · have hq' : q < n + 2 := hq
          show upd a7 (n + 1) (a7 p).toInt8.toInt32 q = rf_up (rf_up fe n (nI (wd last).length)) (n + 1) ((fe p).toInt8.toInt32) q
          by_cases e3 : q = n + 1
          · rw [e3, pk_us, rf_us, h7 p (by omega), rf_un (by omega)]
          · rw [pk_un e3, rf_un e3]
            exact h7 q (by omega)
      · rw [pk_un (by omega), pk_un (by omega), pk_un (by omega)]
        exact h4.1
      · intro q hq q0 qp
        rw [pk_un qp, pk_un (by omega), pk_un (by omega)]
        exact h4.2 q hq q0
      · intro q l hq hl4
        have kl := hσ l hl4
        unfold rf_p2
        by_cases e1 : q = n + 1
        · rw [if_pos e1, e1, g1 _ kl.1, h3 p l (by omega) hl4, rf_nb]
          have := rf_n1_lt I (c := c) (l := l) (R := wd last) (show p < n + 1 by omega)
          omega
        · rw [if_neg e1, if_neg, g2 _ (by omega)]
          · exact h3 q l (by omega) hl4
          · rintro ⟨y1, y2, y3, y4, y5⟩
            have := hst q (by omega) y4 (by rw [y3]; exact hz)
            omega
theorem rf_extend (hσ : rf_Pm σ τ) {p : Nat} {A : rf_A} (hA : rf_Ok p A) (hp : p < 24) {c : Nat} (hc : c < 4) (M : rf_Mt σ A a3 a4 a5 a6 a7)
    (H : ∀ b3 b4 b5 b6 b7 : Nat → Int32, rf_Mt σ (rf_ext A c) b3 b4 b5 b6 b7 → post (f1, f2, f3, nI (rf_ext A c).1, nI (rf_ext A c).2.1, f6, a1, a2, b3, b4, b5, b6, b7, a8, a9)) :
    wpX_extend post (f1, f2, f3, nI A.1, nI A.2.1, f6, a1, a2, a3, a4, a5, a6, a7, a8, a9) (nI (σ c)) (nI p) := by
  obtain ⟨n, last, nx, lk, wd, fe, t⟩ := A
  obtain ⟨I, hl, hn, _⟩ := hA
  obtain ⟨h3, h4, h5, h6, h7⟩ := M
  have I' : rf_Inv n last nx lk wd := I
  have hl' : (wd last).length = p := hl
  have hn' : n ≤ 2 * p + 1 := hn
  have hn0 := I'.1
  have hla := I'.2.1
  show wpX_extend post (f1, f2, f3, nI n, nI last, f6, a1, a2, a3, a4, a5, a6, a7, a8, a9) (nI (σ c)) (nI p)
  unfold wpX_extend
  dsimp only
  rw [nI_1]
  refine rf_newState (by omega) (fun b3 g1 g2 => ?_)
  dsimp only
  refine ⟨vp_in_nI (by omega) (by decide), ?_⟩
  rw [nI_clamp (by omega), rf_b8 p (by omega), rf_b8 (p + 1) (by omega)]
  refine nm_e ⟨(wd last).length + 2, ?_⟩
  have h4' : rf_M4 n lk (upd a4 n (-1)) := by
    refine ⟨?_, fun q hq q0 => ?_⟩
    · rw [pk_un (by omega)]
      exact h4.1
    · rw [pk_un (by omega)]
      exact h4.2 q hq q0
  refine rf_27 hσ I' (by omega) hc h4' _ last b3 (Nat.le_refl _) hla List.prefix_rfl ?_ (fun c3 hc3 => ?_)
  · intro q l hq hl4
    have kl := hσ l hl4
    unfold rf_p1
    by_cases e : q = n
    · rw [if_pos e, e, g1 _ kl.1]
      rfl
    · rw [if_neg e, if_neg, g2 _ (by omega)]
      · exact h3 q l (show q < n by omega) hl4
      · rintro ⟨_, _, _, y⟩
        have := rf_hlen I' (show q < n by omega)
        omega
  · refine rf_71 hσ I' (by omega) (by omega) hc (rf_st_top I' c) hc3 h4' ?_ ?_ ?_ H
    · intro q hq
      by_cases e : q = n
      · rw [e, pk_us, rf_us, List.length_cons, hl']
      · rw [pk_un e, rf_un e]
        exact h5 q (show q < n by omega)
    · intro q hq
      by_cases e : q = n
      · rw [e, pk_us, rf_us]
      · rw [pk_un e, pk_un e, rf_un e]
        exact h6 q (show q < n by omega)
    · intro q hq
      by_cases e : q = n
      · rw [e, pk_us, rf_us, hl']
      · rw [pk_un e, rf_un e]
        exact h7 q (show q < n by omega)
end
end
section
/-! ===== orderByLength, countTimes, countWords, build ===== -/
section
variable {post : St1 → Prop} {f1 f2 f3 f4 f5 f6 : Int32} {a1 a2 a3 a4 a5 a6 a7 a8 a9 : Nat → Int32}
theorem rf_12 {len o : Nat → Nat} {i n : Nat} {J : Int32 → (Nat → Int32) → (Nat → Int32) → (Nat → Int32) → (Nat → Int32) → (Nat → Int32) → (Nat → Int32) → (Nat → Int32) → (Nat → Int32) → (Nat → Int32) → Prop}
    (hn : n ≤ 49) (hi : i < n) (hl : ∀ q, q < n → len q < 100) (h5 : ∀ q, q < n → a5 q = nI (len q)) (ho : ∀ j, j < i → o j < i) :
    ∀ (k : Nat) (a9 : Nat → Int32), k ≤ i → (∀ j, j < k → a9 j = nI (o j)) → (∀ j, k < j → j ≤ i → a9 j = nI (o (j - 1))) →
    (∀ b9 : Nat → Int32, (∀ j, j < i + 1 → b9 j = nI (rf_ins o (rf_pos len o i k) i j)) → J (nI (i + 1)) a1 a2 a3 a4 a5 a6 a7 a8 b9) →
    wX_orderByLength_12 post J (nI i) f1 f2 f3 f4 f5 f6 (k + 1) (nI k) a1 a2 a3 a4 a5 a6 a7 a8 a9 := by
  have fin : ∀ (k : Nat) (a9 : Nat → Int32), k ≤ i → (∀ j, j < k → a9 j = nI (o j)) → (∀ j, k < j → j ≤ i → a9 j = nI (o (j - 1))) →
      (∀ b9 : Nat → Int32, (∀ j, j < i + 1 → b9 j = nI (rf_ins o k i j)) → J (nI (i + 1)) a1 a2 a3 a4 a5 a6 a7 a8 b9) → wX_orderByLength_58 post J (nI i) (nI k) f1 f2 f3 f4 f5 f6 a1 a2 a3 a4 a5 a6 a7 a8 a9 := by
    intro k a9 hk h1 h2 K
    unfold wX_orderByLength_58
    refine ⟨vp_in_nI (by omega) (by decide), ?_⟩
    rw [nI_clamp (by omega), rf_b8 i (by omega), nI_1]
    refine nm_e (nm_e (K _ (fun j hj => ?_)))
    rcases Nat.lt_trichotomy j k with h | h | h
    · rw [pk_un (by omega), rf_ins_lo h, h1 j h]
    · rw [h, pk_us, rf_ins_at]
    · rw [pk_un (by omega), rf_ins_hi h, h2 j h (by omega)]
  intro k
  induction k with
  | zero =>
    intro a9 hk h1 h2 K
    exact br_t (by decide) (fin 0 a9 hk h1 h2 K)
  | succ k ih =>
    intro a9 hk h1 h2 K
    have hk9 := h1 k (by omega)
    have hok := ho k (by omega)
    have b1 := hl (o k) (by omega)
    have b2 := hl i hi
    refine br_f (nI_nle (by omega) (by omega)) ?_
    rw [nI_pred, nI_clamp (show k < 2 ^ 31 by omega), hk9, nI_clamp (show o k < 2 ^ 31 by omega), nI_clamp (show i < 2 ^ 31 by omega), h5 (o k) (by omega), h5 i hi]
    refine ⟨vp_in_nI (by omega) (by decide), vp_in_nI (by omega) (by decide), vp_in_nI (by omega) (by decide), pk_le (len (o k)) (len i) (fun e => ?_) (fun e => ?_)⟩
    · refine fin (k + 1) a9 hk h1 h2 ?_
      have e2 : rf_pos len o i (k + 1) = k + 1 := if_pos e
      rw [e2] at K
      exact K
    · refine ⟨vp_in_nI (by omega) (by decide), vp_in_nI (by omega) (by decide), ?_⟩
      rw [nI_clamp (show k + 1 < 2 ^ 31 by omega), rf_nb (by omega)]
      refine nm_e (nm_r (pk_m1 k) (ih _ (by omega) (fun j hj => ?_) (fun j hj hji => ?_) ?_))
      · rw [pk_un (by omega)]
        exact h1 j (by omega)
      · by_cases ej : j = k + 1
        · rw [ej, pk_us]
          rfl
        · rw [pk_un ej]
          exact h2 j (by omega) hji
      · have e2 : rf_pos len o i (k + 1) = rf_pos len o i k := if_neg (by omega)
        rw [e2] at K
        exact K
theorem rf_order {n : Nat} {len : Nat → Nat} (hn : n ≤ 49) (h0 : len 0 = 0) (hl : ∀ q, q < n → len q < 100) (h5 : ∀ q, q < n → a5 q = nI (len q))
    (H : ∀ b9 : Nat → Int32, (∀ j, j < n → b9 j = nI (rf_od len n j)) → post (f1, f2, f3, nI n, f5, f6, a1, a2, a3, a4, a5, a6, a7, a8, b9)) :
    wpX_orderByLength post (f1, f2, f3, nI n, f5, f6, a1, a2, a3, a4, a5, a6, a7, a8, a9) := by
  unfold wpX_orderByLength
  dsimp only
  refine pk_loop (fun m i s => wX_orderByLength_2 post f1 f2 f3 (nI n) f5 f6 m (nI i) a1 a2 a3 a4 a5 a6 a7 a8 s) (fun i s => ∀ j, j < i → s j = nI (rf_od len i j)) n 0 a9 (by omega) (fun j h => absurd h (by omega)) ?_ ?_
  · intro m s h
    exact pk_le n n (fun _ => H s h) (fun z => absurd z (by omega))
  · intro m i s hi h hw
    refine pk_le n i (fun z => absurd z (by omega)) (fun _ => ⟨i + 1, ?_⟩)
    exact rf_12 hn hi hl h5 (rf_od_ok h0 i).1 i s (Nat.le_refl _) h (fun j h1 h2 => absurd h1 (by omega)) (fun b9 hb => hw b9 hb)
theorem rf_times {n : Nat} {lk o : Nat → Nat} {t : Nat → Int32} (hn0 : 0 < n) (hn : n ≤ 49) (h9 : ∀ j, j < n → a9 j = nI (o j)) (h4 : rf_M4 n lk a4) (ho : ∀ j, j < n → o j < n) (ho0 : ∀ j, 0 < j → j < n → o j ≠ 0) (hlk : ∀ q, q < n → q ≠ 0 → lk q < n) (h6 : rf_Mf n t a6)
    (H : ∀ b6 : Nat → Int32, rf_Mf n (rf_ct lk o (n - 1) t) b6 → post (f1, f2, f3, nI n, f5, f6, a1, a2, a3, a4, a5, b6, a7, a8, a9)) :
    wpX_countTimes post (f1, f2, f3, nI n, f5, f6, a1, a2, a3, a4, a5, a6, a7, a8, a9) := by
  have lp : ∀ (i : Nat) (t a6 : Nat → Int32), i < n → rf_Mf n t a6 → (∀ b6 : Nat → Int32, rf_Mf n (rf_ct lk o i t) b6 → post (f1, f2, f3, nI n, f5, f6, a1, a2, a3, a4, a5, b6, a7, a8, a9)) → wX_countTimes_7 post f1 f2 f3 (nI n) f5 f6 (i + 1) (nI i) a1 a2 a3 a4 a5 a6 a7 a8 a9 := by
    intro i
    induction i with
    | zero =>
      intro t a6 _ h K
      exact br_t (by decide) (K a6 h)
    | succ i ih =>
      intro t a6 hi h K
      have q1 := ho (i + 1) hi
      have q0 := ho0 (i + 1) (by omega) hi
      have q2 := hlk _ q1 q0
      refine br_f (nI_nle (by omega) (by omega)) ⟨vp_in_nI (by omega) (by decide), ?_⟩
      rw [nI_clamp (by omega)]
      refine nm_r (h9 (i + 1) hi) ?_
      rw [nI_clamp (show o (i + 1) < 2 ^ 31 by omega), h4.2 _ q1 q0, nI_clamp (show lk (o (i + 1)) < 2 ^ 31 by omega), h _ q1, h _ q2]
      refine ⟨vp_in_nI (by omega) (by decide), vp_in_nI (by omega) (by decide), vp_in_nI (by omega) (by decide), vp_in_nI (by omega) (by decide), nm_e (nm_r (pk_m1 i) (ih (rf_up t (lk (o (i + 1))) ((t (lk (o (i + 1))) + t (o (i + 1))).toInt8.toInt32)) _ (by omega) (fun q hq => ?_) K))⟩
      by_cases e : q = lk (o (i + 1))
      · rw [e, pk_us, rf_us]
      · rw [pk_un e, rf_un e]
        exact h q hq
  unfold wpX_countTimes
  dsimp only
  refine nm_r (show nI n - 1 = nI (n - 1) from ?_) ⟨n - 1 + 1, lp (n - 1) t a6 (by omega) h6 H⟩
  have := nI_pred (n - 1)
  rwa [show n - 1 + 1 = n by omega] at this
theorem rf_perm4 {σ τ : Nat → Nat} (hσ : rf_Pm σ τ) (f : Nat → Nat) : rf_sm (fun j => f (τ j)) 4 = rf_4 f := by
  show 0 + f (τ 0) + f (τ 1) + f (τ 2) + f (τ 3) = f 0 + f 1 + f 2 + f 3
  have k0 := hσ 0 (by omega)
  have k1 := hσ 1 (by omega)
  have k2 := hσ 2 (by omega)
  have k3 := hσ 3 (by omega)
  have d01 : τ 0 ≠ τ 1 := fun e => by have z := k0.2.2.2; rw [e, k1.2.2.2] at z; omega
  have d02 : τ 0 ≠ τ 2 := fun e => by have z := k0.2.2.2; rw [e, k2.2.2.2] at z; omega
  have d03 : τ 0 ≠ τ 3 := fun e => by have z := k0.2.2.2; rw [e, k3.2.2.2] at z; omega
  have d12 : τ 1 ≠ τ 2 := fun e => by have z := k1.2.2.2; rw [e, k2.2.2.2] at z; omega
  have d13 : τ 1 ≠ τ 3 := fun e => by have z := k1.2.2.2; rw [e, k3.2.2.2] at z; omega
  have d23 : τ 2 ≠ τ 3 := fun e => by have z := k2.2.2.2; rw [e, k3.2.2.2] at z; omega
  have b0 := k0.2.1
  have b1 := k1.2.1
  have b2 := k2.2.1
  have b3 := k3.2.1
  clear k0 k1 k2 k3
  generalize τ 0 = x0 at *
  generalize τ 1 = x1 at *
  generalize τ 2 = x2 at *
  generalize τ 3 = x3 at *
  have c0 : x0 = 0 ∨ x0 = 1 ∨ x0 = 2 ∨ x0 = 3 := by omega
  have c1 : x1 = 0 ∨ x1 = 1 ∨ x1 = 2 ∨ x1 = 3 := by omega
  have c2 : x2 = 0 ∨ x2 = 1 ∨ x2 = 2 ∨ x2 = 3 := by omega
  have c3 : x3 = 0 ∨ x3 = 1 ∨ x3 = 2 ∨ x3 = 3 := by omega
  rcases c0 with rfl | rfl | rfl | rfl <;> rcases c1 with rfl | rfl | rfl | rfl <;> first | exact absurd rfl d01 | skip
  all_goals rcases c2 with rfl | rfl | rfl | rfl <;> first | exact absurd rfl d02 | exact absurd rfl d12 | skip
  all_goals rcases c3 with rfl | rfl | rfl | rfl <;> first | exact absurd rfl d03 | exact absurd rfl d13 | exact absurd rfl d23 | omega
theorem rf_b16 : ∀ k, k < 700 → (nI k).toInt16.toInt32 = nI k := by decide +kernel
theorem rf_23 {σ τ : Nat → Nat} {s : Nat} {nx : Nat → Nat} {W : Nat → Nat} {x1 : Int32} {J : Int32 → (Nat → Int32) → (Nat → Int32) → (Nat → Int32) → (Nat → Int32) → (Nat → Int32) → (Nat → Int32) → (Nat → Int32) → (Nat → Int32) → (Nat → Int32) → Prop}
    (hσ : rf_Pm σ τ) (hs : s < 50) (h3 : ∀ l, l < 4 → a3 (4 * s + σ l) = nI (nx l)) (hx : ∀ l, nx l < 50) (h8 : ∀ l, nx l ≠ 0 → a8 (nx l) = nI (W (nx l)))
    (hb : rf_4 (fun l => if nx l = 0 then 0 else 1 + W (nx l)) ≤ 600)
    (K : J (x1 + (-1)) a1 a2 a3 a4 a5 a6 a7 (upd a8 s (nI (rf_4 (fun l => if nx l = 0 then 0 else 1 + W (nx l))))) a9) :
    ∃ n, wX_countWords_23 post J x1 (nI s) f1 f2 f3 f4 f5 f6 a1 a2 a3 a4 a5 a6 a7 a8 a9 n 0 0 := by
  have hsum := rf_perm4 hσ (fun l => if nx l = 0 then 0 else 1 + W (nx l))
  refine Exists.elim (pk_loop (σ := Unit) (fun n i _ => wX_countWords_23 post J x1 (nI s) f1 f2 f3 f4 f5 f6 a1 a2 a3 a4 a5 a6 a7 a8 a9 n (nI (rf_sm (fun j => if nx (τ j) = 0 then 0 else 1 + W (nx (τ j))) i)) (nI i)) (fun _ _ => True) 4 0 () (by omega) trivial ?_ ?_) (fun n hn => ⟨n, hn⟩)
  · intro n _ _
    refine pk_le 4 4 (fun _ => ⟨vp_in_nI hs (by decide), ?_⟩) (fun z => absurd z (by omega))
    rw [nI_clamp (by omega), hsum, rf_b16 _ (by omega)]
    exact nm_e (nm_e K)
  · intro n i _ hi _ hw
    have kt := hσ i hi
    have hr : a3 (4 * s + i) = nI (nx (τ i)) := by
      have := h3 (τ i) kt.2.1
      rwa [kt.2.2.2] at this
    have hxi := hx (τ i)
    have hw' := hw () trivial
    have e1 : rf_sm (fun j => if nx (τ j) = 0 then 0 else 1 + W (nx (τ j))) (i + 1) = rf_sm (fun j => if nx (τ j) = 0 then 0 else 1 + W (nx (τ j))) i + (if nx (τ i) = 0 then 0 else 1 + W (nx (τ i))) := rfl
    rw [e1] at hw'
    refine pk_le 4 i (fun z => absurd z (by omega)) (fun _ => ⟨rf_ixi (by omega), ?_⟩)
    rw [rf_ixc (by omega)]
    refine nm_r hr (pk_eq (nx (τ i)) 0 (fun e => ?_) (fun e => ⟨vp_in_nI hxi (by decide), ?_⟩))
    · rw [if_pos e, Nat.add_zero] at hw'
      exact nm_r (nI_1 i) hw'
    · rw [if_neg e, ← nI_add, ← nI_add] at hw'
      rw [nI_clamp (by omega), h8 _ e]
      exact nm_e (nm_r (nI_1 i) hw')
theorem rf_cwords {σ τ : Nat → Nat} (hσ : rf_Pm σ τ) {p : Nat} {A : rf_A} (hA : rf_Ok p A) (hp : p ≤ 24) (h9 : ∀ j, j < A.1 → a9 j = nI (rf_or A j)) (h3 : rf_M3 σ A.1 A.2.2.1 a3)
    (H : ∀ b8 : Nat → Int32, (∀ q, q < A.1 → b8 q = nI (rf_wo A q)) → post (f1, f2, f3, nI A.1, f5, f6, a1, a2, a3, a4, a5, a6, a7, b8, a9)) :
    wpX_countWords post (f1, f2, f3, nI A.1, f5, f6, a1, a2, a3, a4, a5, a6, a7, a8, a9) := by
  have hn0 := hA.1.1
  have hn := hA.2.2.1
  obtain ⟨o1, o2, o3, o4, o5⟩ := rf_or_ok hA
  have lp : ∀ (i : Nat) (a8 : Nat → Int32), i ≤ A.1 → (∀ j, i ≤ j → j < A.1 → a8 (rf_or A j) = nI (rf_wo A (rf_or A j))) → wX_countWords_7 post f1 f2 f3 (nI A.1) f5 f6 (i + 1) (nI i + (-1)) a1 a2 a3 a4 a5 a6 a7 a8 a9 := by
    intro i
    induction i with
    | zero =>
      intro a8 _ h
      refine br_t (by decide) (H a8 (fun q hq => ?_))
      obtain ⟨j, hj, e⟩ := o2 q hq
      rw [← e]
      exact h j (Nat.zero_le _) hj
    | succ i ih =>
      intro a8 hi h
      have s1 := o1 i (by omega)
      rw [pk_m1]
      refine br_f (nI_pos (by omega)) ⟨vp_in_nI (by omega) (by decide), ?_⟩
      rw [nI_clamp (by omega)]
      refine nm_r (h9 i (by omega)) ?_
      refine rf_23 hσ (s := rf_or A i) (nx := A.2.2.1 (rf_or A i)) (W := rf_wo A) (by omega) (fun l hl => h3 _ l s1 hl) (fun l => ?_) (fun l hl => ?_) ?_ ?_
      · have := rf_nx_lt hA.1 (l := l) s1
        omega
      · have t := rf_i2 hA.1 _ l s1 hl
        have tl : rf_ln A (rf_or A i) + 1 ≤ rf_ln A (A.2.2.1 (rf_or A i) l) := rf_hnx hA.1 s1 hl
        obtain ⟨j, hj, e⟩ := o2 _ t.1
        rw [← e] at tl ⊢
        refine h j ?_ hj
        rcases Nat.lt_trichotomy j i with g | g | g
        · have := o3 j i g (by omega)
          omega
        · rw [g] at tl
          omega
        · exact g
      · rw [← rf_wo_eq hA s1]
        exact rf_wo_le hA hp s1
      · rw [← rf_wo_eq hA s1]
        refine ih _ (by omega) (fun j h1 h2 => ?_)
        by_cases e : rf_or A j = rf_or A i
        · rw [e, pk_us]
        · rw [pk_un e]
          refine h j ?_ h2
          rcases Nat.lt_or_ge i j with g | g
          · exact g
          · have : j = i := by omega
            rw [this] at e
            exact absurd rfl e
  unfold wpX_countWords
  dsimp only
  refine nm_r (show nI A.1 - 1 = nI A.1 + (-1) from ?_) ⟨A.1 + 1, lp A.1 a8 (Nat.le_refl _) (fun j h1 h2 => absurd h2 (by omega))⟩
  have e : A.1 = A.1 - 1 + 1 := by omega
  rw [e, nI_pred, pk_m1]
end
/-! ===== the object ===== -/
def rf_Tx (σ : Nat → Nat) (tl : Nat) (tx : Nat → Nat) (pl : Nat) (pb : Nat → Nat) (f1 f2 : Int32) (a1 a2 : Nat → Int32) : Prop := f1 = nI tl ∧ f2 = nI pl ∧ tl ≤ 24 ∧ pl ≤ 12 ∧ (∀ i, i < tl → tx i < 4 ∧ a1 i = nI (σ (tx i))) ∧ (∀ i, i < pl → pb i < 4 ∧ a2 i = nI (σ (pb i)))
def rf_Bt (σ : Nat → Nat) (A : rf_A) (f4 : Int32) (a3 a4 a5 a6 a7 a8 : Nat → Int32) : Prop := f4 = nI A.1 ∧ rf_M3 σ A.1 A.2.2.1 a3 ∧ rf_M4 A.1 A.2.2.2.1 a4 ∧ rf_M5 A.1 A.2.2.2.2.1 a5 ∧ rf_Mf A.1 (rf_tm A) a6 ∧ rf_Mf A.1 A.2.2.2.2.2.1 a7 ∧ (∀ q, q < A.1 → a8 q = nI (rf_wo A q))
def rf_Ob (σ : Nat → Nat) (tl : Nat) (tx : Nat → Nat) (pl : Nat) (pb : Nat → Nat) (u : St1) : Prop := match u with
  | (f1, f2, f3, f4, _, _, a1, a2, a3, a4, a5, a6, a7, a8, _) => rf_Tx σ tl tx pl pb f1 f2 a1 a2 ∧ (f3 = 0 ∨ rf_Bt σ (rf_bd tx tl) f4 a3 a4 a5 a6 a7 a8)
section
variable {post : St1 → Prop} {σ τ : Nat → Nat} {tl : Nat} {tx : Nat → Nat} {pl : Nat} {pb : Nat → Nat}
theorem rf_build {f1 f2 f3 f4 f5 f6 : Int32} {a1 a2 a3 a4 a5 a6 a7 a8 a9 : Nat → Int32} (hσ : rf_Pm σ τ) (h : rf_Ob σ tl tx pl pb (f1, f2, f3, f4, f5, f6, a1, a2, a3, a4, a5, a6, a7, a8, a9))
    (H : ∀ (g3 g4 g5 : Int32) (b3 b4 b5 b6 b7 b8 b9 : Nat → Int32), rf_Bt σ (rf_bd tx tl) g4 b3 b4 b5 b6 b7 b8 → post (f1, f2, g3, g4, g5, f6, a1, a2, b3, b4, b5, b6, b7, b8, b9)) :
    wpX_build post (f1, f2, f3, f4, f5, f6, a1, a2, a3, a4, a5, a6, a7, a8, a9) := by
  obtain ⟨⟨e1, e2, htl, hpl, ht, hq⟩, hB⟩ := h
  unfold wpX_build
  dsimp only
  refine br_c (fun _ => ?_) (fun ne => H _ _ _ _ _ _ _ _ _ _ (hB.resolve_left ne))
  have lp : ∀ (k p : Nat), p + k = tl → ∀ (a3 a4 a5 a6 a7 : Nat → Int32), rf_Mt σ (rf_bd tx p) a3 a4 a5 a6 a7 → wX_build_30 post (k + 1) (nI p) (nI tl) f2 1 (nI (rf_bd tx p).1) (nI (rf_bd tx p).2.1) f6 a1 a2 a3 a4 a5 a6 a7 a8 a9 := by
    intro k
    induction k with
    | zero =>
      intro p hp a3 a4 a5 a6 a7 M
      have ep : p = tl := by omega
      subst ep
      have hA := rf_bd_ok tx p
      obtain ⟨m3, m4, m5, m6, m7⟩ := M
      have hn := hA.2.2.1
      have o := rf_or_ok hA
      refine br_t (nI_le (Nat.le_refl _) (by omega)) ?_
      refine rf_order (len := rf_ln (rf_bd tx p)) (by omega) (rf_len0 hA.1) (fun q hq => ?_) m5 (fun b9 h9 => ?_)
      · have h1 : rf_ln (rf_bd tx p) q ≤ (((rf_bd tx p).2.2.2.2.1) ((rf_bd tx p).2.1)).length := rf_hlen hA.1 hq
        rw [hA.2.1] at h1
        omega
      · dsimp only
        refine rf_times hA.1.1 (by omega) h9 m4 o.1 o.2.2.2.1 (fun q h1 h2 => (rf_i1 hA.1 q h1 h2).1) m6 (fun b6 h6 => ?_)
        dsimp only
        refine rf_cwords hσ hA htl h9 m3 (fun b8 h8 => ?_)
        dsimp only
        rw [← e1]
        exact H _ _ _ _ _ _ _ _ _ _ ⟨rfl, m3, m4, m5, h6, m7, h8⟩
    | succ k ih =>
      intro p hp a3 a4 a5 a6 a7 M
      have hA := rf_bd_ok tx p
      have htp := ht p (by omega)
      refine br_f (nI_ge (by omega) (by omega)) ⟨vp_in_nI (by omega) (by decide), ?_⟩
      rw [nI_clamp (by omega), htp.2]
      refine rf_extend hσ hA (by omega) htp.1 M (fun b3 b4 b5 b6 b7 hM => ?_)
      dsimp only
      exact nm_r (nI_1 p) (ih (p + 1) (by omega) b3 b4 b5 b6 b7 hM)
  refine rf_newState (n := 0) (by omega) (fun b3 g1 g2 => ?_)
  dsimp only
  rw [e1]
  refine ⟨tl + 1, lp tl 0 (by omega) b3 _ _ _ _ ⟨fun q l hq hl => ?_, ⟨pk_us, fun q hq q0 => ?_⟩, fun q hq => ?_, fun q hq => ?_, fun q hq => ?_⟩⟩
  · have e : q = 0 := Nat.lt_one_iff.mp hq
    rw [e]
    exact g1 (σ l) (hσ l hl).1
  · exact absurd (Nat.lt_one_iff.mp hq) q0
  · have e : q = 0 := Nat.lt_one_iff.mp hq
    rw [e, pk_us]
    show (0 : Int32).toInt8.toInt32 = nI 0
    decide
  · have e : q = 0 := Nat.lt_one_iff.mp hq
    rw [e, pk_us]
    rfl
  · have e : q = 0 := Nat.lt_one_iff.mp hq
    rw [e, pk_us]
    show (-1 : Int32).toInt8.toInt32 = -1
    decide
end
end
section
/-! ===== the answers, as functions of text and probe ===== -/
def rf_lo (A : rf_A) (s : Nat) : Prop := ∀ l, l < 4 → A.2.2.1 s l = 0 ∨ rf_tm A (A.2.2.1 s l) ≠ rf_tm A s
noncomputable def rf_rc (A : rf_A) : Nat → Nat
  | 0 => 0
  | k + 1 => rf_rc A k + @ite Nat (k ≠ 0 ∧ ¬ rf_tm A k < 2 ∧ rf_lo A k) (Classical.propDecidable _) 1 0
def rf_cw (nx : Nat → Nat → Nat) (lk : Nat → Nat) (wd : Nat → List Nat) (c : Nat) : Nat → Nat → Int32 → Nat × Int32
  | 0, s, x => (s, x)
  | k + 1, s, x => if s = 0 then (s, x) else if nx s c = 0 then rf_cw nx lk wd c k (lk s) (nI (wd (lk s)).length) else (s, x)
def rf_cz (nx : Nat → Nat → Nat) (c : Nat) (m : Int32) (z : Nat × Int32) : Int32 × Nat × Int32 := if nx z.1 c = 0 then (m, z.1, z.2) else (if z.2 + 1 ≤ m then m else z.2 + 1, nx z.1 c, z.2 + 1)
def rf_cs (A : rf_A) (c : Nat) (y : Int32 × Nat × Int32) : Int32 × Nat × Int32 := rf_cz A.2.2.1 c y.1 (rf_cw A.2.2.1 A.2.2.2.1 A.2.2.2.2.1 c (A.2.2.2.2.1 y.2.1).length y.2.1 y.2.2)
def rf_cf (A : rf_A) (pb : Nat → Nat) : Nat → Int32 × Nat × Int32
  | 0 => (0, 0, 0)
  | i + 1 => rf_cs A (pb i) (rf_cf A pb i)
def rf_sp (A : rf_A) (pb : Nat → Nat) : Nat → Nat
  | 0 => 0
  | i + 1 => if i ≠ 0 ∧ rf_sp A pb i = 0 then 0 else A.2.2.1 (rf_sp A pb i) (pb i)
def rf_lg (A : rf_A) (k : Nat) : Nat → Nat
  | 0 => 0
  | s + 1 => if s = 0 then 0 else if rf_tm A s < nI k then rf_lg A k s else if rf_ln A s ≤ rf_lg A k s then rf_lg A k s else rf_ln A s
def rf_uq (A : rf_A) (tx : Nat → Nat) (k : Nat) : Nat → Nat → Nat → Int32
  | 0, _, _ => -3
  | m + 1, i, s => if rf_tm A (A.2.2.1 s (tx i)) = 1 then (nI i - nI k) + 1 else rf_uq A tx k m (i + 1) (A.2.2.1 s (tx i))
section
variable {σ τ : Nat → Nat} {tl : Nat} {tx : Nat → Nat} {pl : Nat} {pb : Nat → Nat} {f1 f2 f3 f4 f5 f6 : Int32} {a1 a2 a3 a4 a5 a6 a7 a8 a9 : Nat → Int32}
theorem rf_loses {post : Int32 → Prop} {A : rf_A} {s : Nat} (hσ : rf_Pm σ τ) (hA : rf_Iv A) (hn : A.1 ≤ 49) (hs : s < A.1) (h3 : rf_M3 σ A.1 A.2.2.1 a3) (h6 : rf_Mf A.1 (rf_tm A) a6)
    (H1 : rf_lo A s → post 1) (H0 : ¬ rf_lo A s → post 0) : wpX_losesByEveryLetter post (f1, f2, f3, f4, f5, f6, a1, a2, a3, a4, a5, a6, a7, a8, a9) (nI s) := by
  unfold wpX_losesByEveryLetter
  dsimp only
  refine Exists.elim (pk_loop (σ := Unit) (fun n i _ => wX_losesByEveryLetter_2 post (nI s) f1 f2 f3 f4 f5 f6 a1 a2 a3 a4 a5 a6 a7 a8 a9 n (nI i)) (fun i _ => ∀ j, j < i → A.2.2.1 s (τ j) = 0 ∨ rf_tm A (A.2.2.1 s (τ j)) ≠ rf_tm A s) 4 0 () (by omega) (fun j h => absurd h (by omega)) ?_ ?_) (fun n hn => ⟨n, hn⟩)
  · intro n _ h
    refine pk_le 4 4 (fun _ => H1 (fun l hl => ?_)) (fun z => absurd z (by omega))
    have := h (σ l) (hσ l hl).1
    rwa [(hσ l hl).2.2.1] at this
  · intro n i _ hi h hw
    have kt := hσ i hi
    have hr : a3 (4 * s + i) = nI (A.2.2.1 s (τ i)) := by
      have := h3 s (τ i) hs kt.2.1
      rwa [kt.2.2.2] at this
    have hxi := rf_nx_lt hA (l := τ i) hs
    refine pk_le 4 i (fun z => absurd z (by omega)) (fun _ => ⟨rf_ixi (by omega), ?_⟩)
    rw [rf_ixc (by omega)]
    refine nm_r hr (pk_eq (A.2.2.1 s (τ i)) 0 (fun e => ?_) (fun e => ⟨vp_in_nI (by omega) (by decide), vp_in_nI (by omega) (by decide), ?_⟩))
    · exact nm_r (nI_1 i) (hw () (lt_s h (Or.inl e)))
    · rw [nI_clamp (by omega), nI_clamp (by omega), h6 _ hxi, h6 _ hs]
      refine br_c (fun g => H0 (fun hl => ?_)) (fun g => nm_r (nI_1 i) (hw () (lt_s h (Or.inr g))))
      rcases hl (τ i) kt.2.1 with z | z
      · exact e z
      · exact z g
theorem rf_q_words {post : Int32 → St1 → Prop} {u : St1} (hσ : rf_Pm σ τ) (h : rf_Ob σ tl tx pl pb u) (H : ∀ v, rf_Ob σ tl tx pl pb v → post (nI (rf_wo (rf_bd tx tl) 0)) v) : wpX_words post u := by
  obtain ⟨f1, f2, f3, f4, f5, f6, a1, a2, a3, a4, a5, a6, a7, a8, a9⟩ := u
  unfold wpX_words
  dsimp only
  refine rf_build hσ h (fun g3 g4 g5 b3 b4 b5 b6 b7 b8 b9 hB => ?_)
  dsimp only
  rw [hB.2.2.2.2.2.2 0 (rf_bd_ok tx tl).1.1]
  exact H _ ⟨h.1, Or.inr hB⟩
theorem rf_q_repeats {post : Int32 → St1 → Prop} {u : St1} (hσ : rf_Pm σ τ) (h : rf_Ob σ tl tx pl pb u) (H : ∀ v, rf_Ob σ tl tx pl pb v → post (nI (rf_rc (rf_bd tx tl) (rf_bd tx tl).1)) v) : wpX_repeats post u := by
  obtain ⟨f1, f2, f3, f4, f5, f6, a1, a2, a3, a4, a5, a6, a7, a8, a9⟩ := u
  unfold wpX_repeats
  dsimp only
  refine rf_build hσ h (fun g3 g4 g5 b3 b4 b5 b6 b7 b8 b9 hB => ?_)
  dsimp only
  have hO := H _ (show rf_Ob σ tl tx pl pb (f1, f2, g3, g4, g5, f6, a1, a2, b3, b4, b5, b6, b7, b8, b9) from ⟨h.1, Or.inr hB⟩)
  have hA := rf_bd_ok tx tl
  have htl := h.1.2.2.1
  obtain ⟨rfl, m3, m4, m5, m6, m7, m8⟩ := hB
  generalize rf_bd tx tl = A at *
  have hn0 := hA.1.1
  have hn := hA.2.2.1
  refine Exists.elim (pk_loop (σ := Unit) (fun n i _ => wX_repeats_8 post f1 f2 g3 (nI A.1) g5 f6 a1 a2 b3 b4 b5 b6 b7 b8 b9 n (nI (rf_rc A i)) (nI i)) (fun i _ => 1 ≤ i) A.1 1 () (by omega) (by omega) ?_ ?_) (fun n hn => ⟨n, ?_⟩)
  · intro n _ _
    exact pk_le A.1 A.1 (fun _ => hO) (fun z => absurd z (by omega))
  · intro n i _ hi h1 hw
    have hw' := hw () (by omega)
    have e1 : rf_rc A (i + 1) = rf_rc A i + @ite Nat (i ≠ 0 ∧ ¬ rf_tm A i < 2 ∧ rf_lo A i) (Classical.propDecidable _) 1 0 := rfl
    rw [e1] at hw'
    refine pk_le A.1 i (fun z => absurd z (by omega)) (fun _ => ⟨vp_in_nI (by omega) (by decide), ?_⟩)
    rw [nI_clamp (by omega), m6 i hi]
    refine br_c (fun g => nm_r (nI_1 i) ?_) (fun g => ?_)
    · rw [if_neg (fun z => z.2.1 g)] at hw'
      exact hw'
    · refine rf_loses hσ hA.1 (by omega) hi m3 m6 (fun hl => ?_) (fun hl => ?_)
      · rw [if_pos ⟨by omega, g, hl⟩] at hw'
        exact br_f (by decide) (nm_r (nI_1 _) (nm_r (nI_1 i) hw'))
      · rw [if_neg (fun z => hl z.2.2)] at hw'
        exact br_t rfl (nm_r (nI_1 i) hw')
  · have e : rf_rc A 1 = 0 := by
      show 0 + @ite Nat (0 ≠ 0 ∧ ¬ rf_tm A 0 < 2 ∧ rf_lo A 0) (Classical.propDecidable _) 1 0 = 0
      rw [if_neg (fun z => z.1 rfl)]
    have hn' : wX_repeats_8 post f1 f2 g3 (nI A.1) g5 f6 a1 a2 b3 b4 b5 b6 b7 b8 b9 n (nI (rf_rc A 1)) (nI 1) := hn
    rw [e] at hn'
    exact hn'
/-- the walk down in common -/
theorem rf_22 {post : Int32 → St1 → Prop} {A : rf_A} {J : Int32 → Int32 → Int32 → Int32 → Prop} {x1 : Int32} {i c : Nat} (hσ : rf_Pm σ τ) (hA : rf_Iv A) (hn : A.1 ≤ 49) (hi : i < 12) (hc : c < 4) (h2 : a2 i = nI (σ c)) (h3 : rf_M3 σ A.1 A.2.2.1 a3) (h4 : rf_M4 A.1 A.2.2.2.1 a4) (h5 : rf_M5 A.1 A.2.2.2.2.1 a5) :
    ∀ (k s : Nat) (x : Int32), (A.2.2.2.2.1 s).length ≤ k → s < A.1 → ((rf_cw A.2.2.1 A.2.2.2.1 A.2.2.2.2.1 c k s x).1 < A.1 → wX_common_62 post J x1 (nI (rf_cw A.2.2.1 A.2.2.2.1 A.2.2.2.2.1 c k s x).1) (rf_cw A.2.2.1 A.2.2.2.1 A.2.2.2.2.1 c k s x).2 (nI i) f1 f2 f3 f4 f5 f6 a1 a2 a3 a4 a5 a6 a7 a8 a9) →
    wX_common_22 post J x1 (nI i) f1 f2 f3 f4 f5 f6 a1 a2 a3 a4 a5 a6 a7 a8 a9 (k + 1) (nI s) x := by
  have k2 := hσ c hc
  intro k
  induction k with
  | zero =>
    intro s x hk hs K
    have s0 : s = 0 := by
      by_cases e : s = 0
      · exact e
      · have := rf_hpos hA hs e
        omega
    exact br_t (by rw [s0]; rfl) (K hs)
  | succ k ih =>
    intro s x hk hs K
    have e1 : rf_cw A.2.2.1 A.2.2.2.1 A.2.2.2.2.1 c (k + 1) s x = if s = 0 then (s, x) else if A.2.2.1 s c = 0 then rf_cw A.2.2.1 A.2.2.2.1 A.2.2.2.2.1 c k (A.2.2.2.1 s) (nI (A.2.2.2.2.1 (A.2.2.2.1 s)).length) else (s, x) := rfl
    rw [e1] at K
    by_cases s0 : s = 0
    · rw [if_pos s0] at K
      exact br_t (by rw [s0]; rfl) (K hs)
    · rw [if_neg s0] at K
      have t1 := rf_i1 hA s hs s0
      have hxl := rf_nx_lt hA (l := c) hs
      refine br_f (nI_ne0 (by omega) (by omega)) ⟨vp_in_nI hi (by decide), ?_⟩
      rw [nI_clamp (show i < 2 ^ 31 by omega), h2, rf_ixc (by omega), h3 s c hs hc]
      refine ⟨rf_ixi (by omega), pk_eq (A.2.2.1 s c) 0 (fun e => ⟨vp_in_nI (by omega) (by decide), ?_⟩) (fun e => ?_)⟩
      · rw [if_pos e] at K
        rw [nI_clamp (by omega)]
        refine nm_r (h4.2 s hs s0) ⟨vp_in_nI (by omega) (by decide), ?_⟩
        rw [nI_clamp (by omega)]
        exact nm_r (h5 _ t1.1) (ih _ _ (by omega) t1.1 K)
      · rw [if_neg e] at K
        exact K hs
theorem rf_q_common {post : Int32 → St1 → Prop} {u : St1} (hσ : rf_Pm σ τ) (h : rf_Ob σ tl tx pl pb u) (H : ∀ v, rf_Ob σ tl tx pl pb v → post (rf_cf (rf_bd tx tl) pb pl).1 v) : wpX_common post u := by
  obtain ⟨f1, f2, f3, f4, f5, f6, a1, a2, a3, a4, a5, a6, a7, a8, a9⟩ := u
  unfold wpX_common
  dsimp only
  refine rf_build hσ h (fun g3 g4 g5 b3 b4 b5 b6 b7 b8 b9 hB => ?_)
  dsimp only
  have hO := H _ (show rf_Ob σ tl tx pl pb (f1, f2, g3, g4, g5, f6, a1, a2, b3, b4, b5, b6, b7, b8, b9) from ⟨h.1, Or.inr hB⟩)
  have hA := rf_bd_ok tx tl
  obtain ⟨⟨e1, e2, htl, hpl, ht, hq⟩, _⟩ := h
  obtain ⟨rfl, m3, m4, m5, m6, m7, m8⟩ := hB
  subst e1 e2
  generalize rf_bd tx tl = A at *
  have hn0 := hA.1.1
  have hn := hA.2.2.1
  refine Exists.elim (pk_loop (σ := Unit) (fun n i _ => wX_common_13 post (nI tl) (nI pl) g3 (nI A.1) g5 f6 a1 a2 b3 b4 b5 b6 b7 b8 b9 n (rf_cf A pb i).1 (nI (rf_cf A pb i).2.1) (rf_cf A pb i).2.2 (nI i)) (fun i _ => (rf_cf A pb i).2.1 < A.1) pl 0 () (by omega) hn0 ?_ ?_) (fun n hn => ⟨n, hn⟩)
  · intro n _ _
    exact pk_le pl pl (fun _ => hO) (fun z => absurd z (by omega))
  · intro n i _ hi hs hw
    have hq' := hq i hi
    have k2 := hσ _ hq'.1
    refine pk_le pl i (fun z => absurd z (by omega)) (fun _ => ⟨(A.2.2.2.2.1 (rf_cf A pb i).2.1).length + 1, ?_⟩)
    refine rf_22 hσ hA.1 (by omega) (by omega) hq'.1 hq'.2 m3 m4 m5 _ _ _ (Nat.le_refl _) hs (fun hz => ?_)
    have e3 : rf_cf A pb (i + 1) = rf_cz A.2.2.1 (pb i) (rf_cf A pb i).1 (rf_cw A.2.2.1 A.2.2.2.1 A.2.2.2.2.1 (pb i) (A.2.2.2.2.1 (rf_cf A pb i).2.1).length (rf_cf A pb i).2.1 (rf_cf A pb i).2.2) := rfl
    rw [e3] at hw
    generalize rf_cw A.2.2.1 A.2.2.2.1 A.2.2.2.2.1 (pb i) (A.2.2.2.2.1 (rf_cf A pb i).2.1).length (rf_cf A pb i).2.1 (rf_cf A pb i).2.2 = z at *
    obtain ⟨zs, zx⟩ := z
    have hz' : zs < A.1 := hz
    have hxl := rf_nx_lt hA.1 (l := pb i) hz'
    unfold rf_cz at hw
    dsimp only at hw ⊢
    unfold wX_common_62
    rw [nI_clamp (show i < 2 ^ 31 by omega), hq'.2, rf_ixc (by omega)]
    refine ⟨vp_in_nI (by omega) (by decide), rf_ixi (by omega), nm_r (m3 zs (pb i) hz' hq'.1) (pk_eq (A.2.2.1 zs (pb i)) 0 (fun e => ?_) (fun e => ?_))⟩
    · rw [if_pos e] at hw
      exact nm_r (nI_1 i) (hw () hz')
    · rw [if_neg e] at hw
      refine nm_e (br_c (fun g => nm_r (nI_1 i) ?_) (fun g => nm_r (nI_1 i) ?_))
      · rw [if_pos g] at hw
        exact hw () hxl
      · rw [if_neg g] at hw
        exact hw () hxl
end
end
section
theorem rf_sp_0 {A : rf_A} {pb : Nat → Nat} {i : Nat} (i0 : i ≠ 0) (h : rf_sp A pb i = 0) : ∀ k, rf_sp A pb (i + k) = 0
  | 0 => h
  | k + 1 => by
    show (if i + k ≠ 0 ∧ rf_sp A pb (i + k) = 0 then 0 else A.2.2.1 (rf_sp A pb (i + k)) (pb (i + k))) = 0
    rw [if_pos ⟨by omega, rf_sp_0 i0 h k⟩]
theorem rf_lg_le {p : Nat} {A : rf_A} (hA : rf_Ok p A) (k : Nat) : ∀ s, s ≤ A.1 → rf_lg A k s ≤ p
  | 0, _ => Nat.zero_le _
  | s + 1, h => by
    have ih := rf_lg_le hA k s (by omega)
    have hl : rf_ln A s ≤ p := by
      have h1 : rf_ln A s ≤ (A.2.2.2.2.1 A.2.1).length := rf_hlen hA.1 (by omega)
      rw [hA.2.1] at h1
      exact h1
    unfold rf_lg
    split
    · exact Nat.zero_le _
    · split
      · exact ih
      · split
        · exact ih
        · exact hl
theorem rf_lg_mono {A : rf_A} {k s : Nat} (s0 : s ≠ 0) : rf_lg A k s ≤ rf_lg A k (s + 1) := by
  show rf_lg A k s ≤ if s = 0 then 0 else if rf_tm A s < nI k then rf_lg A k s else if rf_ln A s ≤ rf_lg A k s then rf_lg A k s else rf_ln A s
  rw [if_neg s0]
  split
  · exact Nat.le_refl _
  · split
    · exact Nat.le_refl _
    · omega
theorem rf_lg_up {A : rf_A} {k s : Nat} (s0 : s ≠ 0) : ∀ j, rf_lg A k s ≤ rf_lg A k (s + j)
  | 0 => Nat.le_refl _
  | j + 1 => Nat.le_trans (rf_lg_up s0 j) (rf_lg_mono (by omega))
theorem rf_lg_1 {p : Nat} {A : rf_A} (hA : rf_Ok p A) : rf_lg A 1 A.1 = p := by
  have h1 := rf_lg_le hA 1 A.1 (Nat.le_refl _)
  by_cases hp : p = 0
  · omega
  · have hl := hA.1.2.1
    have l0 : A.2.1 ≠ 0 := by
      intro e
      have h2 := hA.2.1
      rw [e, rf_len0 hA.1] at h2
      omega
    have h3 : p ≤ rf_lg A 1 (A.2.1 + 1) := by
      show p ≤ if A.2.1 = 0 then 0 else if rf_tm A A.2.1 < nI 1 then rf_lg A 1 A.2.1 else if rf_ln A A.2.1 ≤ rf_lg A 1 A.2.1 then rf_lg A 1 A.2.1 else rf_ln A A.2.1
      have e : rf_ln A A.2.1 = p := hA.2.1
      rw [if_neg l0, rf_tm_last hA (by omega), if_neg (by decide), e]
      split <;> omega
    have h4 := rf_lg_up (A := A) (k := 1) (show A.2.1 + 1 ≠ 0 by omega) (A.1 - (A.2.1 + 1))
    rw [show A.2.1 + 1 + (A.1 - (A.2.1 + 1)) = A.1 by omega] at h4
    omega
section
variable {σ τ : Nat → Nat} {tl : Nat} {tx : Nat → Nat} {pl : Nat} {pb : Nat → Nat}
theorem rf_sop {post : Int32 → St1 → Prop} {f1 f2 f3 f4 f5 f6 : Int32} {a1 a2 a3 a4 a5 a6 a7 a8 a9 : Nat → Int32} (hσ : rf_Pm σ τ) (h : rf_Ob σ tl tx pl pb (f1, f2, f3, f4, f5, f6, a1, a2, a3, a4, a5, a6, a7, a8, a9))
    (H : ∀ (g3 g4 g5 : Int32) (b3 b4 b5 b6 b7 b8 b9 : Nat → Int32), rf_Bt σ (rf_bd tx tl) g4 b3 b4 b5 b6 b7 b8 → rf_sp (rf_bd tx tl) pb pl < (rf_bd tx tl).1 → post (nI (rf_sp (rf_bd tx tl) pb pl)) (f1, f2, g3, g4, g5, f6, a1, a2, b3, b4, b5, b6, b7, b8, b9)) :
    wpX_stateOfProbe post (f1, f2, f3, f4, f5, f6, a1, a2, a3, a4, a5, a6, a7, a8, a9) := by
  unfold wpX_stateOfProbe
  dsimp only
  refine rf_build hσ h (fun g3 g4 g5 b3 b4 b5 b6 b7 b8 b9 hB => ?_)
  dsimp only
  have hO := H g3 g4 g5 b3 b4 b5 b6 b7 b8 b9 hB
  have hA := rf_bd_ok tx tl
  obtain ⟨⟨e1, e2, htl, hpl, ht, hq⟩, _⟩ := h
  obtain ⟨rfl, m3, m4, m5, m6, m7, m8⟩ := hB
  subst e1 e2
  generalize rf_bd tx tl = A at *
  have hn0 := hA.1.1
  have hn := hA.2.2.1
  refine Exists.elim (pk_loop (σ := Unit) (fun n i _ => wX_stateOfProbe_8 post (nI tl) (nI pl) g3 (nI A.1) g5 f6 a1 a2 b3 b4 b5 b6 b7 b8 b9 n (nI (rf_sp A pb i)) (nI i)) (fun i _ => rf_sp A pb i < A.1 ∧ (i = 0 ∨ rf_sp A pb i ≠ 0)) pl 0 () (by omega) ⟨hn0, Or.inl rfl⟩ ?_ ?_) (fun n hn => ⟨n, hn⟩)
  · intro n _ hI
    exact pk_le pl pl (fun _ => hO hI.1) (fun z => absurd z (by omega))
  · intro n i _ hi hs hw
    have hq' := hq i hi
    have k2 := hσ _ hq'.1
    have hxl := rf_nx_lt hA.1 (l := pb i) hs.1
    have hs1 := hs.1
    have e3 : rf_sp A pb (i + 1) = A.2.2.1 (rf_sp A pb i) (pb i) := by
      show (if i ≠ 0 ∧ rf_sp A pb i = 0 then 0 else A.2.2.1 (rf_sp A pb i) (pb i)) = _
      rw [if_neg]
      rintro ⟨z1, z2⟩
      rcases hs.2 with z | z
      · exact z1 z
      · exact z z2
    rw [e3] at hw
    refine pk_le pl i (fun z => absurd z (by omega)) (fun _ => ⟨vp_in_nI (by omega) (by decide), ?_⟩)
    rw [nI_clamp (show i < 2 ^ 31 by omega), hq'.2, rf_ixc (by omega)]
    refine ⟨rf_ixi (by omega), nm_r (m3 _ _ hs.1 hq'.1) (pk_eq (A.2.2.1 (rf_sp A pb i) (pb i)) 0 (fun e => ?_) (fun e => ?_))⟩
    · have z := rf_sp_0 (A := A) (pb := pb) (i := i + 1) (by omega) (by rw [e3, e]) (pl - (i + 1))
      rw [show i + 1 + (pl - (i + 1)) = pl by omega] at z
      rw [z] at hO
      exact hO hn0
    · exact nm_r (nI_1 i) (hw () ⟨hxl, Or.inr e⟩)
noncomputable def rf_aC (tl : Nat) (tx : Nat → Nat) (pl : Nat) (pb : Nat → Nat) : Int32 := if pl = 0 then -3 else if rf_sp (rf_bd tx tl) pb pl = 0 then 0 else rf_tm (rf_bd tx tl) (rf_sp (rf_bd tx tl) pb pl)
noncomputable def rf_aP (tl : Nat) (tx : Nat → Nat) (pl : Nat) (pb : Nat → Nat) : Int32 := if pl = 0 then -3 else if rf_sp (rf_bd tx tl) pb pl = 0 then -3 else ((rf_bd tx tl).2.2.2.2.2.1 (rf_sp (rf_bd tx tl) pb pl) - nI pl) + 1
theorem rf_q_count {post : Int32 → St1 → Prop} {u : St1} (hσ : rf_Pm σ τ) (h : rf_Ob σ tl tx pl pb u) (H : ∀ v, rf_Ob σ tl tx pl pb v → post (rf_aC tl tx pl pb) v) : wpX_count post u := by
  obtain ⟨f1, f2, f3, f4, f5, f6, a1, a2, a3, a4, a5, a6, a7, a8, a9⟩ := u
  unfold wpX_count
  dsimp only
  have hpl := h.1.2.2.2.1
  have hn := (rf_bd_ok tx tl).2.2.1
  have htl := h.1.2.2.1
  unfold rf_aC at H
  refine pk_eq pl 0 (fun e => ?_) (fun e => ?_) h.1.2.1
  · rw [if_pos e] at H
    exact H _ h
  · rw [if_neg e] at H
    refine rf_sop hσ h (fun g3 g4 g5 b3 b4 b5 b6 b7 b8 b9 hB hlt => ?_)
    dsimp only
    have hO : rf_Ob σ tl tx pl pb (f1, f2, g3, g4, g5, f6, a1, a2, b3, b4, b5, b6, b7, b8, b9) := ⟨h.1, Or.inr hB⟩
    refine pk_eq _ 0 (fun z => ?_) (fun z => ⟨vp_in_nI (by omega) (by decide), ?_⟩)
    · rw [if_pos z] at H
      exact H _ hO
    · rw [if_neg z] at H
      rw [nI_clamp (by omega), hB.2.2.2.2.1 _ hlt]
      exact H _ hO
theorem rf_q_place {post : Int32 → St1 → Prop} {u : St1} (hσ : rf_Pm σ τ) (h : rf_Ob σ tl tx pl pb u) (H : ∀ v, rf_Ob σ tl tx pl pb v → post (rf_aP tl tx pl pb) v) : wpX_place post u := by
  obtain ⟨f1, f2, f3, f4, f5, f6, a1, a2, a3, a4, a5, a6, a7, a8, a9⟩ := u
  unfold wpX_place
  dsimp only
  have hpl := h.1.2.2.2.1
  have hn := (rf_bd_ok tx tl).2.2.1
  have htl := h.1.2.2.1
  unfold rf_aP at H
  refine pk_eq pl 0 (fun e => ?_) (fun e => ?_) h.1.2.1
  · rw [if_pos e] at H
    exact H _ h
  · rw [if_neg e] at H
    refine rf_sop hσ h (fun g3 g4 g5 b3 b4 b5 b6 b7 b8 b9 hB hlt => ?_)
    dsimp only
    have hO : rf_Ob σ tl tx pl pb (f1, f2, g3, g4, g5, f6, a1, a2, b3, b4, b5, b6, b7, b8, b9) := ⟨h.1, Or.inr hB⟩
    refine pk_eq _ 0 (fun z => ?_) (fun z => ⟨vp_in_nI (by omega) (by decide), ?_⟩)
    · rw [if_pos z] at H
      exact H _ hO
    · rw [if_neg z] at H
      rw [nI_clamp (by omega), hB.2.2.2.2.2.1 _ hlt, show f2 = nI pl from h.1.2.1]
      have := H _ hO
      rw [show f2 = nI pl from h.1.2.1] at this
      exact this
def rf_aL (tl : Nat) (tx : Nat → Nat) (k : Nat) : Int32 := if k < 1 then -2 else if k ≤ 24 then nI (rf_lg (rf_bd tx tl) k (rf_bd tx tl).1) else -2
theorem rf_aL_1 (tl : Nat) (tx : Nat → Nat) : rf_aL tl tx 1 = nI tl := by
  unfold rf_aL
  rw [if_neg (by omega), if_pos (by omega), rf_lg_1 (rf_bd_ok tx tl)]
theorem rf_q_longest {post : Int32 → St1 → Prop} {u : St1} {k : Nat} (hk : k < 100) (hσ : rf_Pm σ τ) (h : rf_Ob σ tl tx pl pb u) (H : ∀ v, rf_Ob σ tl tx pl pb v → post (rf_aL tl tx k) v) : wpX_longest post u (nI k) := by
  obtain ⟨f1, f2, f3, f4, f5, f6, a1, a2, a3, a4, a5, a6, a7, a8, a9⟩ := u
  unfold wpX_longest
  dsimp only
  unfold rf_aL at H
  refine pk_lt k 1 (fun e => ?_) (fun e => ?_)
  · rw [if_pos e] at H
    exact H _ h
  · rw [if_neg (by omega)] at H
    refine pk_le k 24 (fun e2 => ?_) (fun e2 => ?_)
    · rw [if_pos e2] at H
      refine rf_build hσ h (fun g3 g4 g5 b3 b4 b5 b6 b7 b8 b9 hB => ?_)
      dsimp only
      have hO := H _ (show rf_Ob σ tl tx pl pb (f1, f2, g3, g4, g5, f6, a1, a2, b3, b4, b5, b6, b7, b8, b9) from ⟨h.1, Or.inr hB⟩)
      have hA := rf_bd_ok tx tl
      have htl := h.1.2.2.1
      obtain ⟨rfl, m3, m4, m5, m6, m7, m8⟩ := hB
      generalize rf_bd tx tl = A at *
      have hn0 := hA.1.1
      have hn := hA.2.2.1
      refine Exists.elim (pk_loop (σ := Unit) (fun n i _ => wX_longest_22 post (nI k) f1 f2 g3 (nI A.1) g5 f6 a1 a2 b3 b4 b5 b6 b7 b8 b9 n (nI (rf_lg A k i)) (nI i)) (fun i _ => 1 ≤ i) A.1 1 () (by omega) (by omega) ?_ ?_) (fun n hn => ⟨n, ?_⟩)
      · intro n _ _
        exact pk_le A.1 A.1 (fun _ => hO) (fun z => absurd z (by omega))
      · intro n i _ hi h1 hw
        have hw' := hw () (by omega)
        have e1 : rf_lg A k (i + 1) = if i = 0 then 0 else if rf_tm A i < nI k then rf_lg A k i else if rf_ln A i ≤ rf_lg A k i then rf_lg A k i else rf_ln A i := rfl
        have b1 := rf_lg_le hA k i (by omega)
        have b2 : rf_ln A i ≤ (A.2.2.2.2.1 A.2.1).length := rf_hlen hA.1 hi
        rw [hA.2.1] at b2
        have m5' : b5 i = nI (rf_ln A i) := m5 i hi
        rw [e1, if_neg (by omega)] at hw'
        refine pk_le A.1 i (fun z => absurd z (by omega)) (fun _ => ⟨vp_in_nI (by omega) (by decide), ?_⟩)
        rw [nI_clamp (by omega), m6 i hi, m5']
        refine br_c (fun g => nm_r (nI_1 i) ?_) (fun g => ⟨vp_in_nI (by omega) (by decide), pk_le (rf_ln A i) (rf_lg A k i) (fun g2 => nm_r (nI_1 i) ?_) (fun g2 => ⟨vp_in_nI (by omega) (by decide), nm_e (nm_r (nI_1 i) ?_)⟩)⟩)
        · rw [if_pos g] at hw'
          exact hw'
        · rw [if_neg g, if_pos g2] at hw'
          exact hw'
        · rw [if_neg g, if_neg (by omega)] at hw'
          exact hw'
      · have e : rf_lg A k 1 = 0 := if_pos rfl
        have hn' : wX_longest_22 post (nI k) f1 f2 g3 (nI A.1) g5 f6 a1 a2 b3 b4 b5 b6 b7 b8 b9 n (nI (rf_lg A k 1)) (nI 1) := hn
        rw [e] at hn'
        exact hn'
    · rw [if_neg (by omega)] at H
      exact H _ h
def rf_aU (tl : Nat) (tx : Nat → Nat) (k : Nat) : Int32 := if k < tl then rf_uq (rf_bd tx tl) tx k (tl - k) k 0 else -2
theorem rf_q_unique {post : Int32 → St1 → Prop} {u : St1} {k : Nat} (hk : k < 100) (hσ : rf_Pm σ τ) (h : rf_Ob σ tl tx pl pb u) (H : ∀ v, rf_Ob σ tl tx pl pb v → post (rf_aU tl tx k) v) : wpX_unique post u (nI k) := by
  obtain ⟨f1, f2, f3, f4, f5, f6, a1, a2, a3, a4, a5, a6, a7, a8, a9⟩ := u
  unfold wpX_unique
  dsimp only
  unfold rf_aU at H
  have htl := h.1.2.2.1
  refine br_f (nI_pos (by omega)) (pk_lt k tl (fun e => ?_) (fun e => ?_) rfl h.1.1)
  · rw [if_pos e] at H
    refine rf_build hσ h (fun g3 g4 g5 b3 b4 b5 b6 b7 b8 b9 hB => ?_)
    dsimp only
    have hO := H _ (show rf_Ob σ tl tx pl pb (f1, f2, g3, g4, g5, f6, a1, a2, b3, b4, b5, b6, b7, b8, b9) from ⟨h.1, Or.inr hB⟩)
    have hA := rf_bd_ok tx tl
    obtain ⟨⟨e1, e2, htl, hpl, ht, hq⟩, _⟩ := h
    obtain ⟨rfl, m3, m4, m5, m6, m7, m8⟩ := hB
    subst e1 e2
    generalize rf_bd tx tl = A at *
    have hn0 := hA.1.1
    have hn := hA.2.2.1
    have lp : ∀ (m i s : Nat), i + m = tl → s < A.1 → post (rf_uq A tx k m i s) (nI tl, nI pl, g3, nI A.1, g5, f6, a1, a2, b3, b4, b5, b6, b7, b8, b9) → wX_unique_23 post (nI k) (nI tl) (nI pl) g3 (nI A.1) g5 f6 a1 a2 b3 b4 b5 b6 b7 b8 b9 (m + 1) (nI s) (nI i) := by
      intro m
      induction m with
      | zero =>
        intro i s hi hs K
        exact br_t (nI_le (by omega) (by omega)) K
      | succ m ih =>
        intro i s hi hs K
        have ht' := ht i (by omega)
        have k2 := hσ _ ht'.1
        have hxl := rf_nx_lt hA.1 (l := tx i) hs
        have e1 : rf_uq A tx k (m + 1) i s = if rf_tm A (A.2.2.1 s (tx i)) = 1 then (nI i - nI k) + 1 else rf_uq A tx k m (i + 1) (A.2.2.1 s (tx i)) := rfl
        rw [e1] at K
        refine br_f (nI_ge (by omega) (by omega)) ⟨vp_in_nI (by omega) (by decide), ?_⟩
        rw [nI_clamp (by omega), ht'.2, rf_ixc (by omega)]
        refine ⟨rf_ixi (by omega), nm_r (m3 s _ hs ht'.1) ⟨vp_in_nI (by omega) (by decide), ?_⟩⟩
        rw [nI_clamp (by omega), m6 _ hxl]
        refine br_c (fun g => ?_) (fun g => nm_r (nI_1 i) (ih (i + 1) _ (by omega) hxl ?_))
        · rw [if_pos g] at K
          exact K
        · rw [if_neg g] at K
          exact K
    exact ⟨tl - k + 1, lp (tl - k) k 0 (by omega) hn0 hO⟩
  · rw [if_neg (by omega)] at H
    exact H _ h
/-- rank, where a probe stands: not below 0 -/
theorem rf_q_rank {post : Int32 → St1 → Prop} {u : St1} (hσ : rf_Pm σ τ) (h0 : 0 < pl) (h : rf_Ob σ tl tx pl pb u) (H : ∀ r v, 0 ≤ r → rf_Ob σ tl tx pl pb v → post r v) : wpX_rank post u := by
  obtain ⟨f1, f2, f3, f4, f5, f6, a1, a2, a3, a4, a5, a6, a7, a8, a9⟩ := u
  unfold wpX_rank
  dsimp only
  have hpl := h.1.2.2.2.1
  refine pk_eq pl 0 (fun e => absurd e (by omega)) (fun _ => ?_) h.1.2.1
  refine rf_build hσ h (fun g3 g4 g5 b3 b4 b5 b6 b7 b8 b9 hB => ?_)
  dsimp only
  have hO : ∀ r : Int32, 0 ≤ r → post r (f1, f2, g3, g4, g5, f6, a1, a2, b3, b4, b5, b6, b7, b8, b9) := fun r hr => H r _ hr (show rf_Ob σ tl tx pl pb (f1, f2, g3, g4, g5, f6, a1, a2, b3, b4, b5, b6, b7, b8, b9) from ⟨h.1, Or.inr hB⟩)
  have hA := rf_bd_ok tx tl
  obtain ⟨⟨e1, e2, htl, hpl, ht, hq⟩, _⟩ := h
  obtain ⟨rfl, m3, m4, m5, m6, m7, m8⟩ := hB
  subst e1 e2
  generalize rf_bd tx tl = A at *
  have hn0 := hA.1.1
  have hn := hA.2.2.1
  have hwo : ∀ q, q < A.1 → rf_wo A q ≤ 600 := fun q hq => rf_wo_le hA htl hq
  have lp : ∀ (m i b s : Nat), i + m = pl → s < A.1 → b ≤ i * 5000 → wX_rank_20 post (nI tl) (nI pl) g3 (nI A.1) g5 f6 a1 a2 b3 b4 b5 b6 b7 b8 b9 (m + 1) (nI b) (nI s) (nI i) := by
    intro m
    induction m with
    | zero =>
      intro i b s hi hs hb
      exact br_t (nI_le (by omega) (by omega)) (hO _ (nI_pos' (by omega)))
    | succ m ih =>
      intro i b s hi hs hb
      have hq' := hq i (by omega)
      have k2 := hσ _ hq'.1
      have hxl := rf_nx_lt hA.1 (l := pb i) hs
      have inner : ∀ b', b' ≤ i * 5000 + 1 → ∃ n, wX_rank_38 post (wX_rank_20 post (nI tl) (nI pl) g3 (nI A.1) g5 f6 a1 a2 b3 b4 b5 b6 b7 b8 b9 (m + 1)) (nI s) (nI i) (nI tl) (nI pl) g3 (nI A.1) g5 f6 a1 a2 b3 b4 b5 b6 b7 b8 b9 n (nI b') 0 := by
        intro b' hb'
        refine Exists.elim (pk_loop (σ := Nat) (fun n j v => wX_rank_38 post (wX_rank_20 post (nI tl) (nI pl) g3 (nI A.1) g5 f6 a1 a2 b3 b4 b5 b6 b7 b8 b9 (m + 1)) (nI s) (nI i) (nI tl) (nI pl) g3 (nI A.1) g5 f6 a1 a2 b3 b4 b5 b6 b7 b8 b9 n (nI v) (nI j)) (fun j v => v ≤ i * 5000 + 1 + j * 700) (σ (pb i)) 0 b' (by omega) (by omega) ?_ ?_) (fun n hn => ⟨n, hn⟩)
        · intro n v hv
          refine ⟨vp_in_nI (by omega) (by decide), ?_⟩
          rw [nI_clamp (show i < 2 ^ 31 by omega), hq'.2, rf_ixc (by omega)]
          refine pk_le (σ (pb i)) (σ (pb i)) (fun _ => ⟨vp_in_nI (by omega) (by decide), rf_ixi (by omega), nm_r (m3 s _ hs hq'.1) (pk_eq (A.2.2.1 s (pb i)) 0 (fun e => hO _ (nI_pos' (by omega))) (fun e => nm_r (nI_1 i) (ih (i + 1) v _ (by omega) hxl (by omega))))⟩) (fun z => absurd z (by omega))
        · intro n j v hj hv hw
          have kt := hσ j (by omega)
          have hr : b3 (4 * s + j) = nI (A.2.2.1 s (τ j)) := by
            have := m3 s (τ j) hs kt.2.1
            rwa [kt.2.2.2] at this
          have hxj := rf_nx_lt hA.1 (l := τ j) hs
          have hwj := hwo _ hxj
          refine ⟨vp_in_nI (by omega) (by decide), ?_⟩
          rw [nI_clamp (show i < 2 ^ 31 by omega), hq'.2]
          refine pk_le (σ (pb i)) j (fun z => absurd z (by omega)) (fun _ => ⟨rf_ixi (by omega), ?_⟩)
          rw [rf_ixc (by omega)]
          refine nm_r hr (pk_eq (A.2.2.1 s (τ j)) 0 (fun e => nm_r (nI_1 j) (hw v (by omega))) (fun e => ⟨vp_in_nI (by omega) (by decide), ?_⟩))
          rw [nI_clamp (show A.2.2.1 s (τ j) < 2 ^ 31 by omega), m8 _ hxj]
          have e5 : nI v + (1 + nI (rf_wo A (A.2.2.1 s (τ j)))) = nI (v + (1 + rf_wo A (A.2.2.1 s (τ j)))) := by
            rw [← nI_add, ← nI_add]
            rfl
          exact nm_r e5 (nm_r (nI_1 j) (hw _ (by omega)))
      refine br_f (nI_ge (by omega) (by omega)) (pk_le i 0 (fun e => inner b (by omega)) (fun e => nm_r (nI_1 b) (inner (b + 1) (by omega))))
  exact ⟨pl + 1, lp pl 0 0 0 (by omega) hn0 (by omega)⟩
end
end
section
/-! ===== type, shift, ask, wipe ===== -/
section
variable {σ τ : Nat → Nat} {tl : Nat} {tx : Nat → Nat} {pl : Nat} {pb : Nat → Nat} {post : Int32 → St1 → Prop} {u : St1}
theorem rf_q_type1 {c : Nat} (hσ : rf_Pm σ τ) (hc : c < 4) (ht : tl < 24) (h : rf_Ob σ tl tx pl pb u) (H : ∀ v, rf_Ob σ (tl + 1) (rf_up tx tl c) pl pb v → post (nI (tl + 1)) v) : wpX_type post u (nI (σ c)) := by
  obtain ⟨f1, f2, f3, f4, f5, f6, a1, a2, a3, a4, a5, a6, a7, a8, a9⟩ := u
  obtain ⟨⟨e1, e2, htl, hpl, hx, hq⟩, _⟩ := h
  subst e1 e2
  have k := hσ c hc
  unfold wpX_type
  dsimp only
  refine br_t (nI_lt (b := 24) ht (by decide)) (br_f (nI_pos (by omega)) (br_t (nI_lt (b := 4) k.1 (by decide)) ⟨vp_in_nI ht (by decide), ?_⟩))
  rw [nI_clamp (by omega), rf_b8 _ (by omega), nI_1]
  refine nm_e (nm_e (H _ ⟨⟨rfl, rfl, by omega, hpl, fun i hi => ?_, hq⟩, Or.inl rfl⟩))
  by_cases e : i = tl
  · rw [e, rf_us, pk_us]
    exact ⟨hc, rfl⟩
  · rw [rf_un e, pk_un e]
    exact hx i (by omega)
theorem rf_q_type0 {c : Nat} (ht : ¬ tl < 24) (h : rf_Ob σ tl tx pl pb u) (H : ∀ v, rf_Ob σ tl tx pl pb v → post (-1) v) : wpX_type post u (nI (σ c)) := by
  obtain ⟨f1, f2, f3, f4, f5, f6, a1, a2, a3, a4, a5, a6, a7, a8, a9⟩ := u
  have e1 : f1 = nI tl := h.1.1
  have htl : tl ≤ 24 := h.1.2.2.1
  unfold wpX_type
  dsimp only
  exact br_f (by rw [e1]; exact nI_nlt (b := 24) (by omega) (by omega)) (H _ h)
theorem rf_q_ask1 {c : Nat} (hσ : rf_Pm σ τ) (hc : c < 4) (ht : pl < 12) (h : rf_Ob σ tl tx pl pb u) (H : ∀ v, rf_Ob σ tl tx (pl + 1) (rf_up pb pl c) v → post (nI (pl + 1)) v) : wpX_ask post u (nI (σ c)) := by
  obtain ⟨f1, f2, f3, f4, f5, f6, a1, a2, a3, a4, a5, a6, a7, a8, a9⟩ := u
  obtain ⟨⟨e1, e2, htl, hpl, hx, hq⟩, hB⟩ := h
  subst e1 e2
  have k := hσ c hc
  unfold wpX_ask
  dsimp only
  refine br_t (nI_lt (b := 12) ht (by decide)) (br_f (nI_pos (by omega)) (br_t (nI_lt (b := 4) k.1 (by decide)) ⟨vp_in_nI ht (by decide), ?_⟩))
  rw [nI_clamp (by omega), rf_b8 _ (by omega), nI_1]
  refine nm_e (nm_e (H _ ⟨⟨rfl, rfl, htl, by omega, hx, fun i hi => ?_⟩, hB⟩))
  by_cases e : i = pl
  · rw [e, rf_us, pk_us]
    exact ⟨hc, rfl⟩
  · rw [rf_un e, pk_un e]
    exact hq i (by omega)
theorem rf_q_ask0 {c : Nat} (ht : ¬ pl < 12) (h : rf_Ob σ tl tx pl pb u) (H : ∀ v, rf_Ob σ tl tx pl pb v → post (-1) v) : wpX_ask post u (nI (σ c)) := by
  obtain ⟨f1, f2, f3, f4, f5, f6, a1, a2, a3, a4, a5, a6, a7, a8, a9⟩ := u
  have e1 : f2 = nI pl := h.1.2.1
  have htl : pl ≤ 12 := h.1.2.2.2.1
  unfold wpX_ask
  dsimp only
  exact br_f (by rw [e1]; exact nI_nlt (b := 12) (by omega) (by omega)) (H _ h)
theorem rf_q_wipe (h : rf_Ob σ tl tx pl pb u) (H : ∀ v, rf_Ob σ tl tx 0 pb v → post (nI pl) v) : wpX_wipe post u := by
  obtain ⟨f1, f2, f3, f4, f5, f6, a1, a2, a3, a4, a5, a6, a7, a8, a9⟩ := u
  obtain ⟨⟨e1, e2, htl, hpl, hx, hq⟩, hB⟩ := h
  subst e1 e2
  exact H _ ⟨⟨rfl, rfl, htl, by omega, hx, fun i hi => absurd hi (by omega)⟩, hB⟩
theorem rf_q_shift0 (ht : tl = 0) (h : rf_Ob σ tl tx pl pb u) (H : ∀ v, rf_Ob σ tl tx pl pb v → post (-2) v) : wpX_shift post u := by
  obtain ⟨f1, f2, f3, f4, f5, f6, a1, a2, a3, a4, a5, a6, a7, a8, a9⟩ := u
  have e1 : f1 = nI tl := h.1.1
  unfold wpX_shift
  dsimp only
  exact br_t (by rw [e1, ht]; rfl) (H _ h)
theorem rf_q_shift1 {t : Nat} (hσ : rf_Pm σ τ) (ht : tl = t + 1) (h : rf_Ob σ tl tx pl pb u) (H : ∀ v, rf_Ob σ t (fun i => tx (i + 1)) pl pb v → post (nI t) v) : wpX_shift post u := by
  obtain ⟨f1, f2, f3, f4, f5, f6, a1, a2, a3, a4, a5, a6, a7, a8, a9⟩ := u
  obtain ⟨⟨e1, e2, htl, hpl, hx, hq⟩, _⟩ := h
  subst e1 e2 ht
  unfold wpX_shift
  dsimp only
  rw [nI_pred]
  refine br_f (nI_ne0 (by omega) (by omega)) (nm_e ?_)
  refine pk_loop (fun m i s => wX_shift_22 post (nI t) (nI pl) f3 f4 f5 f6 m (nI i) s a2 a3 a4 a5 a6 a7 a8 a9) (fun i s => (∀ j, j < i → s j = nI (σ (tx (j + 1)))) ∧ (∀ j, i ≤ j → s j = a1 j)) t 0 a1 (by omega) ⟨fun j h => absurd h (by omega), fun _ _ => rfl⟩ ?_ ?_
  · intro m s hs
    exact pk_le t t (fun _ => H _ ⟨⟨rfl, rfl, by omega, hpl, fun i hi => ⟨(hx (i + 1) (by omega)).1, hs.1 i hi⟩, hq⟩, Or.inl rfl⟩) (fun z => absurd z (by omega))
  · intro m i s hi hs hw
    have hxi := hx (i + 1) (by omega)
    have k := hσ _ hxi.1
    refine pk_le t i (fun z => absurd z (by omega)) (fun _ => ?_)
    rw [nI_1, nI_clamp (show i + 1 < 2 ^ 31 by omega), nI_clamp (show i < 2 ^ 31 by omega), hs.2 (i + 1) (by omega), hxi.2, rf_nb (by omega)]
    refine ⟨vp_in_nI (by omega) (by decide), vp_in_nI (by omega) (by decide), nm_e (nm_e (hw _ ⟨fun j hj => ?_, fun j hj => ?_⟩))⟩
    · by_cases e : j = i
      · rw [e, pk_us]
      · rw [pk_un e]
        exact hs.1 j (by omega)
    · rw [pk_un (by omega)]
      exact hs.2 j (by omega)
end
end
section
/-! ===== the law: both objects ===== -/
section
variable {σ τ ρ υ : Nat → Nat} {tl : Nat} {tx : Nat → Nat} {pl : Nat} {pb : Nat → Nat}
theorem rf_s59 {post : Int32 → St2 → Prop} (hσ : rf_Pm σ τ) (hρ : rf_Pm ρ υ) (H : ∀ (f1 f2 f3 f4 f5 f6 : Int32) (a1 a2 a3 a4 a5 a6 a7 a8 a9 : Nat → Int32) (g1 g2 g3 g4 g5 g6 : Int32) (b1 b2 b3 b4 b5 b6 b7 b8 b9 : Nat → Int32), rf_Ob σ tl tx pl pb (f1, f2, f3, f4, f5, f6, a1, a2, a3, a4, a5, a6, a7, a8, a9) → rf_Ob ρ tl tx pl pb (g1, g2, g3, g4, g5, g6, b1, b2, b3, b4, b5, b6, b7, b8, b9) → post 1 (f1, f2, f3, f4, f5, f6, a1, a2, a3, a4, a5, a6, a7, a8, a9, g1, g2, g3, g4, g5, g6, b1, b2, b3, b4, b5, b6, b7, b8, b9)) : ∀ (m k : Nat) (f1 f2 f3 f4 f5 f6 : Int32) (a1 a2 a3 a4 a5 a6 a7 a8 a9 : Nat → Int32) (g1 g2 g3 g4 g5 g6 : Int32) (b1 b2 b3 b4 b5 b6 b7 b8 b9 : Nat → Int32), k + m = 25 → rf_Ob σ tl tx pl pb (f1, f2, f3, f4, f5, f6, a1, a2, a3, a4, a5, a6, a7, a8, a9) → rf_Ob ρ tl tx pl pb (g1, g2, g3, g4, g5, g6, b1, b2, b3, b4, b5, b6, b7, b8, b9) → wL_same_59 post (m + 1) (nI k) f1 f2 f3 f4 f5 f6 a1 a2 a3 a4 a5 a6 a7 a8 a9 g1 g2 g3 g4 g5 g6 b1 b2 b3 b4 b5 b6 b7 b8 b9 := by
  intro m
  induction m with
  | zero =>
    intro k f1 f2 f3 f4 f5 f6 a1 a2 a3 a4 a5 a6 a7 a8 a9 g1 g2 g3 g4 g5 g6 b1 b2 b3 b4 b5 b6 b7 b8 b9 hk hx hy
    exact br_t (nI_le (a := 25) (by omega) (by omega)) (H _ _ _ _ _ _ _ _ _ _ _ _ _ _ _ _ _ _ _ _ _ _ _ _ _ _ _ _ _ _ hx hy)
  | succ m ih =>
    intro k f1 f2 f3 f4 f5 f6 a1 a2 a3 a4 a5 a6 a7 a8 a9 g1 g2 g3 g4 g5 g6 b1 b2 b3 b4 b5 b6 b7 b8 b9 hk hx hy
    refine br_f (nI_ge (b := 25) (by omega) (by decide)) ?_
    refine rf_q_longest (show k < 100 by omega) hσ hx (fun u hx => ?_)
    obtain ⟨f1, f2, f3, f4, f5, f6, a1, a2, a3, a4, a5, a6, a7, a8, a9⟩ := u
    dsimp only
    refine rf_q_longest (show k < 100 by omega) hρ hy (fun v hy => ?_)
    obtain ⟨g1, g2, g3, g4, g5, g6, b1, b2, b3, b4, b5, b6, b7, b8, b9⟩ := v
    dsimp only
    refine br_t rfl ?_
    refine rf_q_unique (show k < 100 by omega) hσ hx (fun u hx => ?_)
    obtain ⟨f1, f2, f3, f4, f5, f6, a1, a2, a3, a4, a5, a6, a7, a8, a9⟩ := u
    dsimp only
    refine rf_q_unique (show k < 100 by omega) hρ hy (fun v hy => ?_)
    obtain ⟨g1, g2, g3, g4, g5, g6, b1, b2, b3, b4, b5, b6, b7, b8, b9⟩ := v
    dsimp only
    refine br_t rfl ?_
    exact nm_r (nI_1 k) (ih (k + 1) _ _ _ _ _ _ _ _ _ _ _ _ _ _ _ _ _ _ _ _ _ _ _ _ _ _ _ _ _ _ (by omega) hx hy)
theorem rf_same {post : Int32 → St2 → Prop} {p2 : Int32} {f1 f2 f3 f4 f5 f6 : Int32} {a1 a2 a3 a4 a5 a6 a7 a8 a9 : Nat → Int32} {g1 g2 g3 g4 g5 g6 : Int32} {b1 b2 b3 b4 b5 b6 b7 b8 b9 : Nat → Int32} (hσ : rf_Pm σ τ) (hρ : rf_Pm ρ υ) (hx : rf_Ob σ tl tx pl pb (f1, f2, f3, f4, f5, f6, a1, a2, a3, a4, a5, a6, a7, a8, a9)) (hy : rf_Ob ρ tl tx pl pb (g1, g2, g3, g4, g5, g6, b1, b2, b3, b4, b5, b6, b7, b8, b9)) (H : ∀ (f1 f2 f3 f4 f5 f6 : Int32) (a1 a2 a3 a4 a5 a6 a7 a8 a9 : Nat → Int32) (g1 g2 g3 g4 g5 g6 : Int32) (b1 b2 b3 b4 b5 b6 b7 b8 b9 : Nat → Int32), rf_Ob σ tl tx pl pb (f1, f2, f3, f4, f5, f6, a1, a2, a3, a4, a5, a6, a7, a8, a9) → rf_Ob ρ tl tx pl pb (g1, g2, g3, g4, g5, g6, b1, b2, b3, b4, b5, b6, b7, b8, b9) → post 1 (f1, f2, f3, f4, f5, f6, a1, a2, a3, a4, a5, a6, a7, a8, a9, g1, g2, g3, g4, g5, g6, b1, b2, b3, b4, b5, b6, b7, b8, b9)) : wpL_same post (f1, f2, f3, f4, f5, f6, a1, a2, a3, a4, a5, a6, a7, a8, a9, g1, g2, g3, g4, g5, g6, b1, b2, b3, b4, b5, b6, b7, b8, b9) p2 := by
  unfold wpL_same
  dsimp only
  refine rf_q_words hσ hx (fun u hx => ?_)
  obtain ⟨f1, f2, f3, f4, f5, f6, a1, a2, a3, a4, a5, a6, a7, a8, a9⟩ := u
  dsimp only
  refine rf_q_words hρ hy (fun v hy => ?_)
  obtain ⟨g1, g2, g3, g4, g5, g6, b1, b2, b3, b4, b5, b6, b7, b8, b9⟩ := v
  dsimp only
  refine br_t rfl ?_
  refine rf_q_repeats hσ hx (fun u hx => ?_)
  obtain ⟨f1, f2, f3, f4, f5, f6, a1, a2, a3, a4, a5, a6, a7, a8, a9⟩ := u
  dsimp only
  refine rf_q_repeats hρ hy (fun v hy => ?_)
  obtain ⟨g1, g2, g3, g4, g5, g6, b1, b2, b3, b4, b5, b6, b7, b8, b9⟩ := v
  dsimp only
  refine br_t rfl ?_
  refine rf_q_common hσ hx (fun u hx => ?_)
  obtain ⟨f1, f2, f3, f4, f5, f6, a1, a2, a3, a4, a5, a6, a7, a8, a9⟩ := u
  dsimp only
  refine rf_q_common hρ hy (fun v hy => ?_)
  obtain ⟨g1, g2, g3, g4, g5, g6, b1, b2, b3, b4, b5, b6, b7, b8, b9⟩ := v
  dsimp only
  refine br_t rfl ?_
  refine rf_q_count hσ hx (fun u hx => ?_)
  obtain ⟨f1, f2, f3, f4, f5, f6, a1, a2, a3, a4, a5, a6, a7, a8, a9⟩ := u
  dsimp only
  refine rf_q_count hρ hy (fun v hy => ?_)
  obtain ⟨g1, g2, g3, g4, g5, g6, b1, b2, b3, b4, b5, b6, b7, b8, b9⟩ := v
  dsimp only
  refine br_t rfl ?_
  refine rf_q_place hσ hx (fun u hx => ?_)
  obtain ⟨f1, f2, f3, f4, f5, f6, a1, a2, a3, a4, a5, a6, a7, a8, a9⟩ := u
  dsimp only
  refine rf_q_place hρ hy (fun v hy => ?_)
  obtain ⟨g1, g2, g3, g4, g5, g6, b1, b2, b3, b4, b5, b6, b7, b8, b9⟩ := v
  dsimp only
  refine br_t rfl ?_
  exact ⟨26, rf_s59 hσ hρ H 25 0 _ _ _ _ _ _ _ _ _ _ _ _ _ _ _ _ _ _ _ _ _ _ _ _ _ _ _ _ _ _ (by omega) hx hy⟩
theorem rf_250 {L : Nat} {xs : Nat → Int32} {J : Int32 → Int32 → Int32 → Int32 → Int32 → Int32 → Int32 → Int32 → Int32 → (Nat → Int32) → (Nat → Int32) → (Nat → Int32) → (Nat → Int32) → (Nat → Int32) → (Nat → Int32) → (Nat → Int32) → (Nat → Int32) → (Nat → Int32) → Int32 → Int32 → Int32 → Int32 → Int32 → Int32 → (Nat → Int32) → (Nat → Int32) → (Nat → Int32) → (Nat → Int32) → (Nat → Int32) → (Nat → Int32) → (Nat → Int32) → (Nat → Int32) → (Nat → Int32) → Prop} {x3 x4 x7 : Int32} {kc ks : Nat} {f1 f2 f3 f4 f5 f6 : Int32} {a1 a2 a3 a4 a5 a6 a7 a8 a9 : Nat → Int32} {g1 g2 g3 g4 g5 g6 : Int32} {b1 b2 b3 b4 b5 b6 b7 b8 b9 : Nat → Int32} (hσ : rf_Pm σ τ) (hρ : rf_Pm ρ υ) (hx : rf_Ob σ tl tx pl pb (f1, f2, f3, f4, f5, f6, a1, a2, a3, a4, a5, a6, a7, a8, a9)) (hy : rf_Ob ρ tl tx pl pb (g1, g2, g3, g4, g5, g6, b1, b2, b3, b4, b5, b6, b7, b8, b9)) (K : ∀ (f1 f2 f3 f4 f5 f6 : Int32) (a1 a2 a3 a4 a5 a6 a7 a8 a9 : Nat → Int32) (g1 g2 g3 g4 g5 g6 : Int32) (b1 b2 b3 b4 b5 b6 b7 b8 b9 : Nat → Int32), rf_Ob σ tl tx pl pb (f1, f2, f3, f4, f5, f6, a1, a2, a3, a4, a5, a6, a7, a8, a9) → rf_Ob ρ tl tx pl pb (g1, g2, g3, g4, g5, g6, b1, b2, b3, b4, b5, b6, b7, b8, b9) → J (nI tl) (nI pl) (x7 + 2) f1 f2 f3 f4 f5 f6 a1 a2 a3 a4 a5 a6 a7 a8 a9 g1 g2 g3 g4 g5 g6 b1 b2 b3 b4 b5 b6 b7 b8 b9) : wL_law_250 (fun r => r = 1) L xs J x3 x4 (nI tl) (nI pl) x7 kc ks f1 f2 f3 f4 f5 f6 a1 a2 a3 a4 a5 a6 a7 a8 a9 g1 g2 g3 g4 g5 g6 b1 b2 b3 b4 b5 b6 b7 b8 b9 := by
  have hpl : pl ≤ 12 := hx.1.2.2.2.1
  unfold wL_law_250
  refine rf_same hσ hρ hx hy (fun f1 f2 f3 f4 f5 f6 a1 a2 a3 a4 a5 a6 a7 a8 a9 g1 g2 g3 g4 g5 g6 b1 b2 b3 b4 b5 b6 b7 b8 b9 hx hy => ?_)
  dsimp only
  refine br_f (by decide) ?_
  refine rf_q_longest (k := 1) (by omega) hσ hx (fun u hx => ?_)
  obtain ⟨f1, f2, f3, f4, f5, f6, a1, a2, a3, a4, a5, a6, a7, a8, a9⟩ := u
  dsimp only
  refine br_t (rf_aL_1 tl tx) (pk_le pl 0 (fun _ => nm_e (K _ _ _ _ _ _ _ _ _ _ _ _ _ _ _ _ _ _ _ _ _ _ _ _ _ _ _ _ _ _ hx hy)) (fun e => ?_))
  refine rf_q_rank hσ e hx (fun r u hr hx => ?_)
  obtain ⟨f1, f2, f3, f4, f5, f6, a1, a2, a3, a4, a5, a6, a7, a8, a9⟩ := u
  dsimp only
  exact br_t hr (nm_e (K _ _ _ _ _ _ _ _ _ _ _ _ _ _ _ _ _ _ _ _ _ _ _ _ _ _ _ _ _ _ hx hy))
theorem rf_129 {L : Nat} {xs : Nat → Int32} {J : Int32 → Int32 → Int32 → Int32 → Int32 → Int32 → Int32 → Int32 → Int32 → (Nat → Int32) → (Nat → Int32) → (Nat → Int32) → (Nat → Int32) → (Nat → Int32) → (Nat → Int32) → (Nat → Int32) → (Nat → Int32) → (Nat → Int32) → Int32 → Int32 → Int32 → Int32 → Int32 → Int32 → (Nat → Int32) → (Nat → Int32) → (Nat → Int32) → (Nat → Int32) → (Nat → Int32) → (Nat → Int32) → (Nat → Int32) → (Nat → Int32) → (Nat → Int32) → Prop} {x3 x4 x7 : Int32} {kc ks op c : Nat} {f1 f2 f3 f4 f5 f6 : Int32} {a1 a2 a3 a4 a5 a6 a7 a8 a9 : Nat → Int32} {g1 g2 g3 g4 g5 g6 : Int32} {b1 b2 b3 b4 b5 b6 b7 b8 b9 : Nat → Int32} (hop : op < 8) (hc : c < 4) (hσ : rf_Pm σ τ) (hρ : rf_Pm ρ υ) (hx : rf_Ob σ tl tx pl pb (f1, f2, f3, f4, f5, f6, a1, a2, a3, a4, a5, a6, a7, a8, a9)) (hy : rf_Ob ρ tl tx pl pb (g1, g2, g3, g4, g5, g6, b1, b2, b3, b4, b5, b6, b7, b8, b9)) (K : ∀ (tl' : Nat) (tx' : Nat → Nat) (pl' : Nat) (pb' : Nat → Nat) (f1 f2 f3 f4 f5 f6 : Int32) (a1 a2 a3 a4 a5 a6 a7 a8 a9 : Nat → Int32) (g1 g2 g3 g4 g5 g6 : Int32) (b1 b2 b3 b4 b5 b6 b7 b8 b9 : Nat → Int32), rf_Ob σ tl' tx' pl' pb' (f1, f2, f3, f4, f5, f6, a1, a2, a3, a4, a5, a6, a7, a8, a9) → rf_Ob ρ tl' tx' pl' pb' (g1, g2, g3, g4, g5, g6, b1, b2, b3, b4, b5, b6, b7, b8, b9) → J (nI tl') (nI pl') (x7 + 2) f1 f2 f3 f4 f5 f6 a1 a2 a3 a4 a5 a6 a7 a8 a9 g1 g2 g3 g4 g5 g6 b1 b2 b3 b4 b5 b6 b7 b8 b9) : wL_law_129 (fun r => r = 1) L xs J x3 x4 (nI tl) (nI pl) x7 (nI op) (nI (σ c)) (nI (ρ c)) kc ks f1 f2 f3 f4 f5 f6 a1 a2 a3 a4 a5 a6 a7 a8 a9 g1 g2 g3 g4 g5 g6 b1 b2 b3 b4 b5 b6 b7 b8 b9 := by
  have htl : tl ≤ 24 := hx.1.2.2.1
  have hpl : pl ≤ 12 := hx.1.2.2.2.1
  unfold wL_law_129
  refine pk_lt 4 op (fun e4 => pk_eq op 5 (fun e5 => ?_) (fun e5 => pk_eq op 6 (fun e6 => ?_) (fun e6 => ?_))) (fun e4 => ?_)
  · by_cases ht : tl = 0
    · refine rf_q_shift0 ht hx (fun u hx => ?_)
      obtain ⟨f1, f2, f3, f4, f5, f6, a1, a2, a3, a4, a5, a6, a7, a8, a9⟩ := u
      dsimp only
      refine rf_q_shift0 ht hy (fun v hy => ?_)
      obtain ⟨g1, g2, g3, g4, g5, g6, b1, b2, b3, b4, b5, b6, b7, b8, b9⟩ := v
      dsimp only
      refine br_t rfl ?_
      exact pk_le tl 0 (fun _ => rf_250 hσ hρ hx hy (K _ _ _ _)) (fun z => absurd z (by omega))
    · obtain ⟨t, ht'⟩ : ∃ t, tl = t + 1 := ⟨tl - 1, by omega⟩
      refine rf_q_shift1 hσ ht' hx (fun u hx => ?_)
      obtain ⟨f1, f2, f3, f4, f5, f6, a1, a2, a3, a4, a5, a6, a7, a8, a9⟩ := u
      dsimp only
      refine rf_q_shift1 hρ ht' hy (fun v hy => ?_)
      obtain ⟨g1, g2, g3, g4, g5, g6, b1, b2, b3, b4, b5, b6, b7, b8, b9⟩ := v
      dsimp only
      refine br_t rfl ?_
      exact pk_le tl 0 (fun z => absurd z (by omega)) (fun _ => nm_r (by rw [ht', pk_m1]) (rf_250 hσ hρ hx hy (K _ _ _ _)))
  · by_cases ht : pl < 12
    · refine rf_q_ask1 hσ hc ht hx (fun u hx => ?_)
      obtain ⟨f1, f2, f3, f4, f5, f6, a1, a2, a3, a4, a5, a6, a7, a8, a9⟩ := u
      dsimp only
      refine rf_q_ask1 hρ hc ht hy (fun v hy => ?_)
      obtain ⟨g1, g2, g3, g4, g5, g6, b1, b2, b3, b4, b5, b6, b7, b8, b9⟩ := v
      dsimp only
      refine br_t rfl ?_
      exact pk_le 12 pl (fun z => absurd z (by omega)) (fun _ => nm_r (nI_1 pl) (rf_250 hσ hρ hx hy (K _ _ _ _)))
    · refine rf_q_ask0 ht hx (fun u hx => ?_)
      obtain ⟨f1, f2, f3, f4, f5, f6, a1, a2, a3, a4, a5, a6, a7, a8, a9⟩ := u
      dsimp only
      refine rf_q_ask0 ht hy (fun v hy => ?_)
      obtain ⟨g1, g2, g3, g4, g5, g6, b1, b2, b3, b4, b5, b6, b7, b8, b9⟩ := v
      dsimp only
      refine br_t rfl ?_
      exact pk_le 12 pl (fun _ => rf_250 hσ hρ hx hy (K _ _ _ _)) (fun z => absurd z (by omega))
  · refine rf_q_wipe hx (fun u hx => ?_)
    obtain ⟨f1, f2, f3, f4, f5, f6, a1, a2, a3, a4, a5, a6, a7, a8, a9⟩ := u
    dsimp only
    refine rf_q_wipe hy (fun v hy => ?_)
    obtain ⟨g1, g2, g3, g4, g5, g6, b1, b2, b3, b4, b5, b6, b7, b8, b9⟩ := v
    dsimp only
    refine br_t rfl ?_
    exact rf_250 hσ hρ hx hy (K _ _ _ _)
  · by_cases ht : tl < 24
    · refine rf_q_type1 hσ hc ht hx (fun u hx => ?_)
      obtain ⟨f1, f2, f3, f4, f5, f6, a1, a2, a3, a4, a5, a6, a7, a8, a9⟩ := u
      dsimp only
      refine rf_q_type1 hρ hc ht hy (fun v hy => ?_)
      obtain ⟨g1, g2, g3, g4, g5, g6, b1, b2, b3, b4, b5, b6, b7, b8, b9⟩ := v
      dsimp only
      refine br_t rfl ?_
      exact pk_le 24 tl (fun z => absurd z (by omega)) (fun _ => nm_r (nI_1 tl) (rf_250 hσ hρ hx hy (K _ _ _ _)))
    · refine rf_q_type0 ht hx (fun u hx => ?_)
      obtain ⟨f1, f2, f3, f4, f5, f6, a1, a2, a3, a4, a5, a6, a7, a8, a9⟩ := u
      dsimp only
      refine rf_q_type0 ht hy (fun v hy => ?_)
      obtain ⟨g1, g2, g3, g4, g5, g6, b1, b2, b3, b4, b5, b6, b7, b8, b9⟩ := v
      dsimp only
      refine br_t rfl ?_
      exact pk_le 24 tl (fun _ => rf_250 hσ hρ hx hy (K _ _ _ _)) (fun z => absurd z (by omega))
end
end
section
/-! ===== the relabelling, the law's loop ===== -/
def rf_sg (mk sw l : Nat) : Nat := if sw = 1 ∧ l < 2 then (1 - l) ^^^ mk else l ^^^ mk
def rf_tg (mk sw d : Nat) : Nat := if sw = 1 ∧ d ^^^ mk < 2 then 1 - (d ^^^ mk) else d ^^^ mk
theorem rf_sg_ok : ∀ mk, mk < 4 → ∀ sw, sw < 2 → ∀ l, l < 4 → rf_sg mk sw l < 4 ∧ rf_tg mk sw l < 4 ∧ rf_tg mk sw (rf_sg mk sw l) = l ∧ rf_sg mk sw (rf_tg mk sw l) = l := by decide +kernel
theorem rf_id_ok : rf_Pm (fun l => l) (fun l => l) := fun l hl => ⟨hl, hl, rfl, rfl⟩
theorem rf_x1 : ∀ c, c < 4 → ∀ mk, mk < 4 → nI c ^^^ nI mk = nI (c ^^^ mk) := by decide +kernel
theorem rf_x2 : ∀ c, c < 2 → ∀ mk, mk < 4 → (1 - nI c) ^^^ nI mk = nI ((1 - c) ^^^ mk) := by decide +kernel
theorem rf_m2 : ∀ j, j < 4 → nI j &&& 2 = nI (j / 2 * 2) := by decide +kernel
theorem rf_let (x : Int32) : ∃ c, c < 4 ∧ (x &&& 1) + ((x >>> ((4 : Int32) &&& 31)) &&& 2) = nI c := by
  obtain ⟨a, ha, ea⟩ := pk_andE x (m := 1) 1 (by decide)
  obtain ⟨b, hb, eb⟩ := pk_andE (x >>> ((4 : Int32) &&& 31)) (m := 3) 2 (by decide)
  have e2 : (x >>> ((4 : Int32) &&& 31)) &&& 2 = nI (b / 2 * 2) := by
    rw [← rf_m2 b (by omega), ← eb, Int32.and_assoc, show (3 : Int32) &&& 2 = 2 by decide]
  refine ⟨a + b / 2 * 2, by omega, ?_⟩
  rw [ea, e2, nI_add]
theorem rf_gd {L i : Nat} (hL : L ≤ 260) (hi : i ≤ 200) : Int32.ofNat L - 2 < nI i ↔ L < i + 2 := by
  have e : (Int32.ofNat L - 2).toInt = (L : Int) - 2 := pk_sub_toInt (a := L) (b := 2) (by omega) (by omega)
  rw [Int32.lt_iff_toInt_lt, e, nI_toInt (by omega)]
  omega
theorem rf_58 {L : Nat} {xs : Nat → Int32} {mk sw kc ks : Nat} (hL : L ≤ 260) (hmk : mk < 4) (hsw : sw < 2) : ∀ (n i tl : Nat) (tx : Nat → Nat) (pl : Nat) (pb : Nat → Nat) (f1 f2 f3 f4 f5 f6 : Int32) (a1 a2 a3 a4 a5 a6 a7 a8 a9 : Nat → Int32) (g1 g2 g3 g4 g5 g6 : Int32) (b1 b2 b3 b4 b5 b6 b7 b8 b9 : Nat → Int32), i ≤ 121 → 122 ≤ i + 2 * n → rf_Ob (fun l => l) tl tx pl pb (f1, f2, f3, f4, f5, f6, a1, a2, a3, a4, a5, a6, a7, a8, a9) → rf_Ob (rf_sg mk sw) tl tx pl pb (g1, g2, g3, g4, g5, g6, b1, b2, b3, b4, b5, b6, b7, b8, b9) → wL_law_58 (fun r => r = 1) L xs (nI mk) (nI sw) kc ks n (nI tl) (nI pl) (nI i) f1 f2 f3 f4 f5 f6 a1 a2 a3 a4 a5 a6 a7 a8 a9 g1 g2 g3 g4 g5 g6 b1 b2 b3 b4 b5 b6 b7 b8 b9 := by
  intro n
  induction n with
  | zero =>
    intro i tl tx pl pb f1 f2 f3 f4 f5 f6 a1 a2 a3 a4 a5 a6 a7 a8 a9 g1 g2 g3 g4 g5 g6 b1 b2 b3 b4 b5 b6 b7 b8 b9 h1 h2
    exact absurd h2 (by omega)
  | succ n ih =>
    intro i tl tx pl pb f1 f2 f3 f4 f5 f6 a1 a2 a3 a4 a5 a6 a7 a8 a9 g1 g2 g3 g4 g5 g6 b1 b2 b3 b4 b5 b6 b7 b8 b9 h1 h2 hx hy
    have hρ : rf_Pm (rf_sg mk sw) (rf_tg mk sw) := fun l hl => rf_sg_ok mk hmk sw hsw l hl
    refine ek_if (rf_gd hL (by omega)) (fun _ => rfl) (fun hlt => ?_)
    refine pk_le 120 i (fun _ => rfl) (fun hi => ⟨vp_in_nI (by omega) (by omega), ?_⟩)
    obtain ⟨op, hop, eop⟩ := pk_andE (xs (nI i).toNatClampNeg) (m := 7) 3 (by decide)
    obtain ⟨c, hc, ec⟩ := rf_let (xs (nI i + 1).toNatClampNeg)
    refine nm_r eop ⟨?_, ?_, nm_r ec ?_⟩
    · rw [nI_1]
      exact vp_in_nI (by omega) (by omega)
    · rw [nI_1]
      exact vp_in_nI (by omega) (by omega)
    · have go : ∀ z : Int32, z = nI (rf_sg mk sw c) → wL_law_129 (fun r => r = 1) L xs (wL_law_58 (fun r => r = 1) L xs (nI mk) (nI sw) kc ks n) (nI mk) (nI sw) (nI tl) (nI pl) (nI i) (nI op) (nI c) z kc ks f1 f2 f3 f4 f5 f6 a1 a2 a3 a4 a5 a6 a7 a8 a9 g1 g2 g3 g4 g5 g6 b1 b2 b3 b4 b5 b6 b7 b8 b9 := by
        intro z ez
        rw [ez]
        refine rf_129 (σ := fun l => l) (ρ := rf_sg mk sw) hop hc rf_id_ok hρ hx hy (fun tl' tx' pl' pb' f1 f2 f3 f4 f5 f6 a1 a2 a3 a4 a5 a6 a7 a8 a9 g1 g2 g3 g4 g5 g6 b1 b2 b3 b4 b5 b6 b7 b8 b9 hx hy => ?_)
        have e2 : nI i + 2 = nI (i + 2) := nI_add i 2
        rw [e2]
        exact ih (i + 2) tl' tx' pl' pb' _ _ _ _ _ _ _ _ _ _ _ _ _ _ _ _ _ _ _ _ _ _ _ _ _ _ _ _ _ _ (by omega) (by omega) hx hy
      refine pk_eq sw 1 (fun es => pk_le 2 c (fun h2c => ?_) (fun h2c => ?_)) (fun es => ?_)
      · unfold wL_law_125
        refine go _ ?_
        unfold rf_sg
        rw [rf_x1 c hc mk hmk, if_neg (fun z => absurd z.2 (by omega))]
      · refine go _ ?_
        unfold rf_sg
        rw [rf_x2 c h2c mk hmk, if_pos ⟨es, h2c⟩]
      · unfold wL_law_125
        refine go _ ?_
        unfold rf_sg
        rw [rf_x1 c hc mk hmk, if_neg (fun z => es z.1)]
theorem rf_Ob0 (σ : Nat → Nat) : rf_Ob σ 0 (fun _ => 0) 0 (fun _ => 0) (0, 0, 0, 0, 0, 0, (fun _ => 0), (fun _ => 0), (fun _ => 0), (fun _ => 0), (fun _ => 0), (fun _ => 0), (fun _ => 0), (fun _ => 0), (fun _ => 0)) :=
  ⟨⟨rfl, rfl, by omega, by omega, fun i hi => absurd hi (by omega), fun i hi => absurd hi (by omega)⟩, Or.inl rfl⟩
theorem i_vc (xs : Nat → Int32) (L : Nat) (hL : L ≤ 260) : wpL_law (fun r => r = 1) L xs := by
  refine ⟨9, 536, by decide, by decide, by decide, by decide, by decide, by decide, by decide, by decide, by decide, by decide, by decide, by decide, by decide, by decide, by decide, by decide, by decide, by decide, by decide, by decide, ?_⟩
  refine ⟨by decide, by decide, 9, 536, by decide, by decide, by decide, by decide, by decide, by decide, by decide, by decide, by decide, by decide, by decide, by decide, by decide, by decide, by decide, by decide, by decide, by decide, by decide, by decide, ?_⟩
  have go : ∀ (mk sw : Nat), mk < 4 → sw < 2 → ∃ n, wL_law_58 (fun r => r = 1) L xs (nI mk) (nI sw) (1 + 9 + 1 + 9) (15 + 536 + 15 + 536) n 0 0 1 0 0 0 0 0 0 (fun _ => 0) (fun _ => 0) (fun _ => 0) (fun _ => 0) (fun _ => 0) (fun _ => 0) (fun _ => 0) (fun _ => 0) (fun _ => 0) 0 0 0 0 0 0 (fun _ => 0) (fun _ => 0) (fun _ => 0) (fun _ => 0) (fun _ => 0) (fun _ => 0) (fun _ => 0) (fun _ => 0) (fun _ => 0) :=
    fun mk sw hmk hsw => ⟨61, rf_58 hL hmk hsw 61 1 0 (fun _ => 0) 0 (fun _ => 0) _ _ _ _ _ _ _ _ _ _ _ _ _ _ _ _ _ _ _ _ _ _ _ _ _ _ _ _ _ _ (by omega) (by omega) (rf_Ob0 _) (rf_Ob0 _)⟩
  dsimp only
  obtain ⟨mk, hmk, emk⟩ := pk_andE (xs (0 : Int32).toNatClampNeg) (m := 3) 2 (by decide)
  obtain ⟨sw, hsw, esw⟩ := pk_andE ((xs (0 : Int32).toNatClampNeg) >>> ((2 : Int32) &&& 31)) (m := 1) 1 (by decide)
  refine pk_le L 0 (fun e => ?_) (fun e => ⟨vp_in_nI e (by omega), ?_⟩)
  · exact pk_le L 0 (fun _ => go 0 0 (by omega) (by omega)) (fun z => absurd z (by omega))
  · rw [emk]
    exact pk_le L 0 (fun z => absurd z (by omega)) (fun _ => ⟨vp_in_nI e (by omega), nm_r esw (go mk sw (by omega) (by omega))⟩)
end
