section
/-- a place of a table of naturals is written -/
def cn_up (f : Nat → Nat) (k v : Nat) : Nat → Nat := fun j => if j = k then v else f j
theorem cn_us {f : Nat → Nat} {k v : Nat} : cn_up f k v k = v := if_pos rfl
theorem cn_un {f : Nat → Nat} {k j v : Nat} (h : j ≠ k) : cn_up f k v j = f j := if_neg h
theorem cn_up_self {f : Nat → Nat} {k v : Nat} (h : f k = v) : cn_up f k v = f := by
  funext j
  by_cases e : j = k
  · rw [e, cn_us, h]
  · rw [cn_un e]
/-- a head of the copy -/
def cn_hd (p : Nat) : Bool := decide (p < 1470) && decide (p % 3 = 0)
theorem cn_hd_t {p : Nat} (h : p < 1470) (h2 : p % 3 = 0) : cn_hd p = true := by
  simp [cn_hd, h, h2]
theorem cn_hd_e {p : Nat} (h : cn_hd p = true) : p < 1470 ∧ p % 3 = 0 := by
  simpa [cn_hd] using h
theorem cn_hd_f {p : Nat} (h : 1470 ≤ p ∨ p % 3 ≠ 0) : cn_hd p = false := by
  cases hh : cn_hd p with
  | false => rfl
  | true =>
    have := cn_hd_e hh
    omega
/-! the wires: S: the ports that are there; 5000 is a loose one -/
def cn_U (S : Nat → Prop) (O : Nat → Nat) : Prop := ∀ p, S p → p < 5000 ∧ (O p = 5000 ∨ (S (O p) ∧ O (O p) = p ∧ O p ≠ p))
theorem cn_U_iff {S S' : Nat → Prop} {O : Nat → Nat} (h : cn_U S O) (e : ∀ r, S' r ↔ S r) : cn_U S' O := by
  intro p hp
  obtain ⟨h1, h2⟩ := h p ((e p).mp hp)
  exact ⟨h1, h2.imp id (fun t => ⟨(e _).mpr t.1, t.2⟩)⟩
theorem cn_U_drop {S : Nat → Prop} {O : Nat → Nat} {p : Nat} (h : cn_U S O) (hp : O p = 5000) : cn_U (fun r => S r ∧ r ≠ p) O := by
  intro r hr
  obtain ⟨h1, h2⟩ := h r hr.1
  refine ⟨h1, h2.imp id (fun t => ⟨⟨t.1, fun e => ?_⟩, t.2⟩)⟩
  have := t.2.1
  rw [e, hp] at this
  omega
theorem cn_U_pair {S : Nat → Prop} {O : Nat → Nat} {p q : Nat} (h : cn_U S O) (hp : S p) (e : O p = q) (hq : q ≠ 5000) : cn_U (fun r => S r ∧ r ≠ p ∧ r ≠ q) O := by
  intro r hr
  obtain ⟨h1, h2⟩ := h r hr.1
  obtain ⟨p1, p2⟩ := h p hp
  have e2 : O q = p := by
    rcases p2 with z | z
    · omega
    · rw [← e]; exact z.2.1
  refine ⟨h1, h2.imp id (fun t => ⟨⟨t.1, fun z => ?_, fun z => ?_⟩, t.2⟩)⟩
  · have := t.2.1
    rw [z, e] at this
    exact hr.2.2 this.symm
  · have := t.2.1
    rw [z, e2] at this
    exact hr.2.1 this.symm
theorem cn_U_wire {S : Nat → Prop} {O : Nat → Nat} {p q : Nat} (h : cn_U S O) (hp : S p) (hq : S q) (n : p ≠ q) (op : O p = 5000) (oq : O q = 5000) : cn_U S (cn_up (cn_up O p q) q p) := by
  intro r hr
  obtain ⟨h1, h2⟩ := h r hr
  refine ⟨h1, ?_⟩
  have p1 := (h p hp).1
  have q1 := (h q hq).1
  by_cases e1 : r = q
  · right
    rw [e1, cn_us, cn_un n, cn_us]
    exact ⟨hp, rfl, n⟩
  · by_cases e2 : r = p
    · right
      rw [e2, cn_un n, cn_us, cn_us]
      exact ⟨hq, rfl, fun z => n z.symm⟩
    · rw [cn_un e1, cn_un e2]
      refine h2.imp id (fun t => ⟨t.1, ?_, t.2.2⟩)
      rw [cn_un (fun z => ?_), cn_un (fun z => ?_)]
      · exact t.2.1
      · have := t.2.1; rw [z] at this; omega
      · have := t.2.1; rw [z] at this; omega
theorem cn_U_half {S : Nat → Prop} {O : Nat → Nat} {p q : Nat} (h : cn_U S O) (hp : S p) (hq : S q) (n : p ≠ q) (op : O p = 5000) (oq : O q ≠ 5000) : cn_U (fun r => S r ∧ r ≠ p ∧ r ≠ q) (cn_up O (O q) 5000) := by
  intro r hr
  obtain ⟨h1, h2⟩ := h r hr.1
  refine ⟨h1, ?_⟩
  obtain ⟨q1, q2⟩ := h q hq
  have q3 := (q2.resolve_left oq)
  by_cases e1 : r = O q
  · left
    rw [e1, cn_us]
  · rw [cn_un e1]
    refine h2.imp id (fun t => ⟨⟨t.1, fun z => ?_, fun z => ?_⟩, ?_, t.2.2⟩)
    · have := t.2.1; rw [z] at this; omega
    · have := t.2.1; rw [z] at this; exact e1 this.symm
    · rw [cn_un (fun z => ?_)]
      · exact t.2.1
      · have := t.2.1; rw [z, q3.2.1] at this; exact hr.2.2 this.symm
theorem cn_U_fuse {S : Nat → Prop} {O : Nat → Nat} {p q : Nat} (h : cn_U S O) (hp : S p) (hq : S q) (n : p ≠ q) (op : O p ≠ 5000) (oq : O q ≠ 5000) (ne : O p ≠ q) : cn_U (fun r => S r ∧ r ≠ p ∧ r ≠ q) (cn_up (cn_up O (O p) (O q)) (O q) (O p)) := by
  obtain ⟨p1, p2⟩ := h p hp
  have p3 := (p2.resolve_left op)
  obtain ⟨q1, q2⟩ := h q hq
  have q3 := (q2.resolve_left oq)
  have ab : O p ≠ O q := fun z => n (by rw [← p3.2.1, z, q3.2.1])
  have qp : O q ≠ p := fun z => ne (by rw [← z]; exact q3.2.1)
  intro r hr
  obtain ⟨h1, h2⟩ := h r hr.1
  refine ⟨h1, ?_⟩
  by_cases e1 : r = O q
  · right
    rw [e1, cn_us, cn_un ab, cn_us]
    exact ⟨⟨p3.1, p3.2.2, ne⟩, rfl, ab⟩
  · by_cases e2 : r = O p
    · right
      rw [e2, cn_un ab, cn_us, cn_us]
      exact ⟨⟨q3.1, qp, q3.2.2⟩, rfl, fun z => ab z.symm⟩
    · rw [cn_un e1, cn_un e2]
      refine h2.imp id (fun t => ⟨⟨t.1, fun z => ?_, fun z => ?_⟩, ?_, t.2.2⟩)
      · have := t.2.1; rw [z] at this; exact e2 this.symm
      · have := t.2.1; rw [z] at this; exact e1 this.symm
      · rw [cn_un (fun z => ?_), cn_un (fun z => ?_)]
        · exact t.2.1
        · have := t.2.1; rw [z, p3.2.1] at this; exact hr.2.1 this.symm
        · have := t.2.1; rw [z, q3.2.1] at this; exact hr.2.2 this.symm
theorem cn_U_take {S : Nat → Prop} {O : Nat → Nat} {p q : Nat} (h : cn_U S O) (hp : S p) (hq : S q) (n : p ≠ q) (op : O p = 5000) (oq : O q ≠ 5000) : cn_U (fun r => S r ∧ r ≠ q) (cn_up (cn_up O p (O q)) (O q) p) := by
  obtain ⟨p1, p2⟩ := h p hp
  obtain ⟨q1, q2⟩ := h q hq
  have q3 := (q2.resolve_left oq)
  have pq : O q ≠ p := fun z => by
    have := q3.2.1
    rw [z] at this
    omega
  intro r hr
  obtain ⟨h1, h2⟩ := h r hr.1
  refine ⟨h1, ?_⟩
  by_cases e1 : r = O q
  · right
    rw [e1, cn_us, cn_un (fun z => pq z.symm), cn_us]
    exact ⟨⟨hp, n⟩, rfl, fun z => pq z.symm⟩
  · by_cases e2 : r = p
    · right
      rw [e2, cn_un (fun z => pq z.symm), cn_us, cn_us]
      exact ⟨⟨q3.1, q3.2.2⟩, rfl, pq⟩
    · rw [cn_un e1, cn_un e2]
      refine h2.imp id (fun t => ⟨⟨t.1, fun z => ?_⟩, ?_, t.2.2⟩)
      · have := t.2.1; rw [z] at this; exact e1 this.symm
      · rw [cn_un (fun z => ?_), cn_un (fun z => ?_)]
        · exact t.2.1
        · have := t.2.1; rw [z] at this; omega
        · have := t.2.1; rw [z, q3.2.1] at this; exact hr.2 this.symm
theorem cn_U_new {S : Nat → Prop} {O : Nat → Nat} {a : Nat} (h : cn_U S O) (ha : a + 2 < 5000) (hn : ∀ r, S r → r < a ∨ a + 2 < r) : cn_U (fun r => S r ∨ r = a ∨ r = a + 1 ∨ r = a + 2) (cn_up (cn_up (cn_up O a 5000) (a + 1) 5000) (a + 2) 5000) := by
  have un : ∀ r, S r → cn_up (cn_up (cn_up O a 5000) (a + 1) 5000) (a + 2) 5000 r = O r := by
    intro r hr
    have := hn r hr
    rw [cn_un (by omega), cn_un (by omega), cn_un (by omega)]
  intro r hr
  rcases hr with hr | hr | hr | hr
  · obtain ⟨h1, h2⟩ := h r hr
    refine ⟨h1, ?_⟩
    rw [un r hr]
    refine h2.imp id (fun t => ⟨Or.inl t.1, ?_, t.2.2⟩)
    rw [un _ t.1]
    exact t.2.1
  · refine ⟨by omega, Or.inl ?_⟩
    rw [hr, cn_un (by omega), cn_un (by omega), cn_us]
  · refine ⟨by omega, Or.inl ?_⟩
    rw [hr, cn_un (by omega), cn_us]
  · refine ⟨by omega, Or.inl ?_⟩
    rw [hr, cn_us]
end
section
/-- the copy's picture: made, kinds, gone, wires, done, loops, tired, waiting, wait -/
abbrev cn_Pc : Type := Nat × (Nat → Nat) × (Nat → Nat) × (Nat → Nat) × Nat × Nat × Nat × Nat × (Nat → Nat)
def cn_mk (md : Nat) (K G O : Nat → Nat) (dn lp td wt : Nat) (W : Nat → Nat) : cn_Pc := (md, K, G, O, dn, lp, td, wt, W)
def cn_md (x : cn_Pc) : Nat := x.1
def cn_K (x : cn_Pc) : Nat → Nat := x.2.1
def cn_G (x : cn_Pc) : Nat → Nat := x.2.2.1
def cn_O (x : cn_Pc) : Nat → Nat := x.2.2.2.1
def cn_dn (x : cn_Pc) : Nat := x.2.2.2.2.1
def cn_lp (x : cn_Pc) : Nat := x.2.2.2.2.2.1
def cn_td (x : cn_Pc) : Nat := x.2.2.2.2.2.2.1
def cn_wt (x : cn_Pc) : Nat := x.2.2.2.2.2.2.2.1
def cn_W (x : cn_Pc) : Nat → Nat := x.2.2.2.2.2.2.2.2
def cn_sO (x : cn_Pc) (p v : Nat) : cn_Pc := cn_mk (cn_md x) (cn_K x) (cn_G x) (cn_up (cn_O x) p v) (cn_dn x) (cn_lp x) (cn_td x) (cn_wt x) (cn_W x)
def cn_wA (x : cn_Pc) (p q : Nat) : cn_Pc := cn_mk (cn_md x) (cn_K x) (cn_G x) (cn_up (cn_up (cn_O x) p q) q p) (cn_dn x) (cn_lp x) (cn_td x) (cn_wt x + 1) (cn_up (cn_W x) (cn_wt x) (p / 3))
def cn_wB (x : cn_Pc) (p q : Nat) : cn_Pc := cn_mk (cn_md x) (cn_K x) (cn_G x) (cn_up (cn_up (cn_O x) p q) q p) (cn_dn x) (cn_lp x) (cn_td x) (cn_wt x) (cn_W x)
def cn_wire (x : cn_Pc) (p q : Nat) : cn_Pc := if (cn_hd p && cn_hd q) = true then cn_wA x p q else cn_wB x p q
def cn_take (x : cn_Pc) (p q : Nat) : cn_Pc := if cn_O x q = 5000 then cn_sO x p 5000 else cn_wire x p (cn_O x q)
def cn_lop (x : cn_Pc) : cn_Pc := cn_mk (cn_md x) (cn_K x) (cn_G x) (cn_O x) (cn_dn x) (cn_lp x + 1) (cn_td x) (cn_wt x) (cn_W x)
def cn_fuse (x : cn_Pc) (p q : Nat) : cn_Pc := if cn_O x p = q then cn_lop x else if cn_O x p = 5000 then (if cn_O x q = 5000 then x else cn_sO x (cn_O x q) 5000) else if cn_O x q = 5000 then cn_sO x (cn_O x p) 5000 else cn_wire x (cn_O x p) (cn_O x q)
def cn_new (x : cn_Pc) (k : Nat) : cn_Pc := cn_mk (cn_md x + 1) (cn_up (cn_K x) (cn_md x) k) (cn_up (cn_G x) (cn_md x) 0) (cn_up (cn_up (cn_up (cn_O x) (3 * cn_md x) 5000) (3 * cn_md x + 1) 5000) (3 * cn_md x + 2) 5000) (cn_dn x) (cn_lp x) (cn_td x) (cn_wt x) (cn_W x)
def cn_kill (x : cn_Pc) (c d : Nat) : cn_Pc := cn_mk (cn_md x) (cn_K x) (cn_up (cn_up (cn_G x) c 1) d 1) (cn_O x) (cn_dn x) (cn_lp x) (cn_td x) (cn_wt x) (cn_W x)
def cn_ann (x : cn_Pc) (c d : Nat) : cn_Pc := cn_fuse (cn_fuse x (3 * c + 1) (3 * d + 1)) (3 * c + 2) (3 * d + 2)
def cn_era (x : cn_Pc) (c : Nat) : cn_Pc := cn_take (cn_new (cn_take (cn_new x 2) (3 * cn_md x) (3 * c + 1)) 2) (3 * (cn_md x + 1)) (3 * c + 2)
def cn_com (x : cn_Pc) (c d : Nat) : cn_Pc := cn_wire (cn_wire (cn_wire (cn_wire (cn_take (cn_take (cn_take (cn_take (cn_new (cn_new (cn_new (cn_new x 1) 1) 0) 0) (3 * cn_md x) (3 * c + 1)) (3 * (cn_md x + 1)) (3 * c + 2)) (3 * (cn_md x + 2)) (3 * d + 1)) (3 * (cn_md x + 3)) (3 * d + 2)) (3 * cn_md x + 1) (3 * (cn_md x + 2) + 1)) (3 * cn_md x + 2) (3 * (cn_md x + 3) + 1)) (3 * (cn_md x + 1) + 1) (3 * (cn_md x + 2) + 2)) (3 * (cn_md x + 1) + 2) (3 * (cn_md x + 3) + 2)
def cn_step (x : cn_Pc) (c d : Nat) : cn_Pc := if cn_K x c = 2 ∧ cn_K x d = 2 then cn_kill x c d else if cn_K x c = cn_K x d then cn_ann (cn_kill x c d) c d else if cn_K x c = 2 then cn_era (cn_kill x c d) d else if cn_K x d = 2 then cn_era (cn_kill x c d) c else if cn_K x c = 0 then cn_com (cn_kill x c d) c d else cn_com (cn_kill x c d) d c
/-- what a method that wires leaves as it is -/
theorem cn_md_wire (x : cn_Pc) (p q : Nat) : cn_md (cn_wire x p q) = cn_md x := by
  unfold cn_wire
  split <;> rfl
theorem cn_md_take (x : cn_Pc) (p q : Nat) : cn_md (cn_take x p q) = cn_md x := by
  unfold cn_take
  split
  · rfl
  · exact cn_md_wire _ _ _
theorem cn_md_fuse (x : cn_Pc) (p q : Nat) : cn_md (cn_fuse x p q) = cn_md x := by
  unfold cn_fuse
  split
  · rfl
  · split
    · split <;> rfl
    · split
      · rfl
      · exact cn_md_wire _ _ _
theorem cn_md_ann (x : cn_Pc) (c d : Nat) : cn_md (cn_ann x c d) = cn_md x := by
  unfold cn_ann
  rw [cn_md_fuse, cn_md_fuse]
theorem cn_K_wire (x : cn_Pc) (p q : Nat) : cn_K (cn_wire x p q) = cn_K x := by
  unfold cn_wire
  split <;> rfl
theorem cn_K_take (x : cn_Pc) (p q : Nat) : cn_K (cn_take x p q) = cn_K x := by
  unfold cn_take
  split
  · rfl
  · exact cn_K_wire _ _ _
theorem cn_K_fuse (x : cn_Pc) (p q : Nat) : cn_K (cn_fuse x p q) = cn_K x := by
  unfold cn_fuse
  split
  · rfl
  · split
    · split <;> rfl
    · split
      · rfl
      · exact cn_K_wire _ _ _
theorem cn_K_ann (x : cn_Pc) (c d : Nat) : cn_K (cn_ann x c d) = cn_K x := by
  unfold cn_ann
  rw [cn_K_fuse, cn_K_fuse]
theorem cn_G_wire (x : cn_Pc) (p q : Nat) : cn_G (cn_wire x p q) = cn_G x := by
  unfold cn_wire
  split <;> rfl
theorem cn_G_take (x : cn_Pc) (p q : Nat) : cn_G (cn_take x p q) = cn_G x := by
  unfold cn_take
  split
  · rfl
  · exact cn_G_wire _ _ _
theorem cn_G_fuse (x : cn_Pc) (p q : Nat) : cn_G (cn_fuse x p q) = cn_G x := by
  unfold cn_fuse
  split
  · rfl
  · split
    · split <;> rfl
    · split
      · rfl
      · exact cn_G_wire _ _ _
theorem cn_G_ann (x : cn_Pc) (c d : Nat) : cn_G (cn_ann x c d) = cn_G x := by
  unfold cn_ann
  rw [cn_G_fuse, cn_G_fuse]
theorem cn_dn_wire (x : cn_Pc) (p q : Nat) : cn_dn (cn_wire x p q) = cn_dn x := by
  unfold cn_wire
  split <;> rfl
theorem cn_dn_take (x : cn_Pc) (p q : Nat) : cn_dn (cn_take x p q) = cn_dn x := by
  unfold cn_take
  split
  · rfl
  · exact cn_dn_wire _ _ _
theorem cn_dn_fuse (x : cn_Pc) (p q : Nat) : cn_dn (cn_fuse x p q) = cn_dn x := by
  unfold cn_fuse
  split
  · rfl
  · split
    · split <;> rfl
    · split
      · rfl
      · exact cn_dn_wire _ _ _
theorem cn_dn_ann (x : cn_Pc) (c d : Nat) : cn_dn (cn_ann x c d) = cn_dn x := by
  unfold cn_ann
  rw [cn_dn_fuse, cn_dn_fuse]
theorem cn_td_wire (x : cn_Pc) (p q : Nat) : cn_td (cn_wire x p q) = cn_td x := by
  unfold cn_wire
  split <;> rfl
theorem cn_td_take (x : cn_Pc) (p q : Nat) : cn_td (cn_take x p q) = cn_td x := by
  unfold cn_take
  split
  · rfl
  · exact cn_td_wire _ _ _
theorem cn_td_fuse (x : cn_Pc) (p q : Nat) : cn_td (cn_fuse x p q) = cn_td x := by
  unfold cn_fuse
  split
  · rfl
  · split
    · split <;> rfl
    · split
      · rfl
      · exact cn_td_wire _ _ _
theorem cn_td_ann (x : cn_Pc) (c d : Nat) : cn_td (cn_ann x c d) = cn_td x := by
  unfold cn_ann
  rw [cn_td_fuse, cn_td_fuse]
theorem cn_md_new (x : cn_Pc) (k : Nat) : cn_md (cn_new x k) = cn_md x + 1 := rfl
theorem cn_K_new (x : cn_Pc) (k : Nat) : cn_K (cn_new x k) = cn_up (cn_K x) (cn_md x) k := rfl
theorem cn_G_new (x : cn_Pc) (k : Nat) : cn_G (cn_new x k) = cn_up (cn_G x) (cn_md x) 0 := rfl
theorem cn_dn_new (x : cn_Pc) (k : Nat) : cn_dn (cn_new x k) = cn_dn x := rfl
theorem cn_td_new (x : cn_Pc) (k : Nat) : cn_td (cn_new x k) = cn_td x := rfl
theorem cn_O_wire (x : cn_Pc) (p q : Nat) : cn_O (cn_wire x p q) = cn_up (cn_up (cn_O x) p q) q p := by
  unfold cn_wire
  split <;> rfl
theorem cn_wt_wire (x : cn_Pc) (p q : Nat) : cn_wt (cn_wire x p q) ≤ cn_wt x + 1 := by
  unfold cn_wire
  split
  · exact Nat.le_refl _
  · exact Nat.le_succ _
/-- which places of the wires count -/
def cn_R (md p : Nat) : Prop := p < 3 * md ∨ (1470 ≤ p ∧ p < 1474)
/-- a stage: S the ports that are there, Z ports known to be loose, b a bound of the cells that wait -/
def cn_T (S Z : Nat → Prop) (b : Nat) (x : cn_Pc) : Prop := cn_U S (cn_O x) ∧ (∀ r, S r → cn_R (cn_md x) r) ∧ (∀ r, Z r → S r ∧ cn_O x r = 5000) ∧ cn_md x ≤ 490 ∧ cn_wt x ≤ b ∧ (∀ i, i < cn_wt x → cn_W x i < cn_md x)
theorem cn_T_lt {S Z : Nat → Prop} {b : Nat} {x : cn_Pc} (h : cn_T S Z b x) {r : Nat} (hr : S r) : r < 1474 := by
  have h1 := h.2.1 r hr
  have h2 := h.2.2.2.1
  unfold cn_R at h1
  omega
theorem cn_T_iff {S S' Z Z' : Nat → Prop} {b b' : Nat} {x : cn_Pc} (h : cn_T S Z b x) (e : ∀ r, S' r ↔ S r) (z : ∀ r, Z' r → Z r) (hb : b ≤ b') : cn_T S' Z' b' x := by
  obtain ⟨h1, h2, h3, h4, h5, h6⟩ := h
  exact ⟨cn_U_iff h1 e, fun r hr => h2 r ((e r).mp hr), fun r hr => ⟨(e r).mpr (h3 r (z r hr)).1, (h3 r (z r hr)).2⟩, h4, by omega, h6⟩
theorem cn_T_drop {S Z : Nat → Prop} {b p : Nat} {x : cn_Pc} (h : cn_T S Z b x) (hp : Z p) : cn_T (fun r => S r ∧ r ≠ p) (fun r => Z r ∧ r ≠ p) b x := by
  obtain ⟨h1, h2, h3, h4, h5, h6⟩ := h
  exact ⟨cn_U_drop h1 (h3 p hp).2, fun r hr => h2 r hr.1, fun r hr => ⟨⟨(h3 r hr.1).1, hr.2⟩, (h3 r hr.1).2⟩, h4, h5, h6⟩
theorem cn_T_pair {S Z : Nat → Prop} {b p q : Nat} {x : cn_Pc} (h : cn_T S Z b x) (hp : S p) (e : cn_O x p = q) (hq : q ≠ 5000) : cn_T (fun r => S r ∧ r ≠ p ∧ r ≠ q) (fun r => Z r ∧ r ≠ p ∧ r ≠ q) b x := by
  obtain ⟨h1, h2, h3, h4, h5, h6⟩ := h
  exact ⟨cn_U_pair h1 hp e hq, fun r hr => h2 r hr.1, fun r hr => ⟨⟨(h3 r hr.1).1, hr.2⟩, (h3 r hr.1).2⟩, h4, h5, h6⟩
theorem cn_WW {x : cn_Pc} {p q : Nat} (hp : cn_R (cn_md x) p) (h : ∀ i, i < cn_wt x → cn_W x i < cn_md x) : ∀ i, i < cn_wt (cn_wire x p q) → cn_W (cn_wire x p q) i < cn_md (cn_wire x p q) := by
  rw [cn_md_wire]
  unfold cn_wire
  split
  · next z =>
    intro i hi
    show cn_up (cn_W x) (cn_wt x) (p / 3) i < cn_md x
    have hi' : i < cn_wt x + 1 := hi
    have z1 := cn_hd_e (show cn_hd p = true by simp at z; exact z.1)
    by_cases e : i = cn_wt x
    · rw [e, cn_us]
      unfold cn_R at hp
      omega
    · rw [cn_un e]
      exact h i (by omega)
  · exact h
theorem cn_T_wire {S Z : Nat → Prop} {b p q : Nat} {x : cn_Pc} (h : cn_T S Z b x) (hp : Z p) (hq : Z q) (n : p ≠ q) : cn_T S (fun r => Z r ∧ r ≠ p ∧ r ≠ q) (b + 1) (cn_wire x p q) := by
  obtain ⟨h1, h2, h3, h4, h5, h6⟩ := h
  have w := cn_wt_wire x p q
  refine ⟨?_, ?_, ?_, ?_, by omega, cn_WW (h2 p (h3 p hp).1) h6⟩
  · rw [cn_O_wire]
    exact cn_U_wire h1 (h3 p hp).1 (h3 q hq).1 n (h3 p hp).2 (h3 q hq).2
  · rw [cn_md_wire]
    exact h2
  · intro r hr
    rw [cn_O_wire, cn_un hr.2.2, cn_un hr.2.1]
    exact h3 r hr.1
  · rw [cn_md_wire]
    exact h4
theorem cn_T_take {S Z : Nat → Prop} {b p q : Nat} {x : cn_Pc} (h : cn_T S Z b x) (hp : Z p) (hq : S q) (n : p ≠ q) : cn_T (fun r => S r ∧ r ≠ q) (fun r => Z r ∧ r ≠ p ∧ r ≠ q) (b + 1) (cn_take x p q) := by
  obtain ⟨h1, h2, h3, h4, h5, h6⟩ := h
  have p5 := (h1 p (h3 p hp).1).1
  have q5 := (h1 q hq).1
  unfold cn_take
  split
  · next z =>
    have e : cn_O (cn_sO x p 5000) = cn_O x := cn_up_self (h3 p hp).2
    refine ⟨?_, fun r hr => h2 r hr.1, ?_, h4, Nat.le_succ_of_le h5, h6⟩
    · rw [e]
      exact cn_U_drop h1 z
    · intro r hr
      rw [e]
      exact ⟨⟨(h3 r hr.1).1, hr.2.2⟩, (h3 r hr.1).2⟩
  · next z =>
    have q3 := (h1 q hq).2.resolve_left z
    have w := cn_wt_wire x p (cn_O x q)
    refine ⟨?_, ?_, ?_, ?_, by omega, cn_WW (h2 p (h3 p hp).1) h6⟩
    · rw [cn_O_wire]
      exact cn_U_take h1 (h3 p hp).1 hq n (h3 p hp).2 z
    · rw [cn_md_wire]
      exact fun r hr => h2 r hr.1
    · intro r hr
      have hne : r ≠ cn_O x q := fun e => by
        have := (h3 r hr.1).2
        rw [e, q3.2.1] at this
        omega
      rw [cn_O_wire, cn_un hne, cn_un hr.2.1]
      exact ⟨⟨(h3 r hr.1).1, hr.2.2⟩, (h3 r hr.1).2⟩
    · rw [cn_md_wire]
      exact h4
theorem cn_T_fuse {S Z : Nat → Prop} {b p q : Nat} {x : cn_Pc} (h : cn_T S Z b x) (hp : S p) (hq : S q) (n : p ≠ q) : cn_T (fun r => S r ∧ r ≠ p ∧ r ≠ q) (fun r => Z r ∧ r ≠ p ∧ r ≠ q) (b + 1) (cn_fuse x p q) := by
  have hh := h
  obtain ⟨h1, h2, h3, h4, h5, h6⟩ := h
  have p5 := (h1 p hp).1
  have q5 := (h1 q hq).1
  unfold cn_fuse
  split
  · next z =>
    have t := cn_T_pair hh hp z (by omega)
    obtain ⟨t1, t2, t3, t4, t5, t6⟩ := t
    exact ⟨t1, t2, t3, t4, Nat.le_succ_of_le h5, t6⟩
  · next z =>
    split
    · next zp =>
      split
      · next zq =>
        refine ⟨cn_U_iff (cn_U_drop (cn_U_drop h1 zp) zq) (fun r => ⟨fun t => ⟨⟨t.1, t.2.1⟩, t.2.2⟩, fun t => ⟨t.1.1, t.1.2, t.2⟩⟩), fun r hr => h2 r hr.1, fun r hr => ⟨⟨(h3 r hr.1).1, hr.2⟩, (h3 r hr.1).2⟩, h4, Nat.le_succ_of_le h5, h6⟩
      · next zq =>
        have q3 := (h1 q hq).2.resolve_left zq
        refine ⟨cn_U_half h1 hp hq n zp zq, fun r hr => h2 r hr.1, ?_, h4, Nat.le_succ_of_le h5, h6⟩
        intro r hr
        have hne : r ≠ cn_O x q := fun e => by
          have := (h3 r hr.1).2
          rw [e, q3.2.1] at this
          omega
        refine ⟨⟨(h3 r hr.1).1, hr.2⟩, ?_⟩
        show cn_up (cn_O x) (cn_O x q) 5000 r = 5000
        rw [cn_un hne]
        exact (h3 r hr.1).2
    · next zp =>
      have p3 := (h1 p hp).2.resolve_left zp
      split
      · next zq =>
        refine ⟨cn_U_iff (cn_U_half h1 hq hp (fun e => n e.symm) zq zp) (fun r => ⟨fun t => ⟨t.1, t.2.2, t.2.1⟩, fun t => ⟨t.1, t.2.2, t.2.1⟩⟩), fun r hr => h2 r hr.1, ?_, h4, Nat.le_succ_of_le h5, h6⟩
        intro r hr
        have hne : r ≠ cn_O x p := fun e => by
          have := (h3 r hr.1).2
          rw [e, p3.2.1] at this
          omega
        refine ⟨⟨(h3 r hr.1).1, hr.2⟩, ?_⟩
        show cn_up (cn_O x) (cn_O x p) 5000 r = 5000
        rw [cn_un hne]
        exact (h3 r hr.1).2
      · next zq =>
        have q3 := (h1 q hq).2.resolve_left zq
        have w := cn_wt_wire x (cn_O x p) (cn_O x q)
        refine ⟨?_, ?_, ?_, ?_, by omega, cn_WW (h2 _ p3.1) h6⟩
        · rw [cn_O_wire]
          exact cn_U_fuse h1 hp hq n zp zq z
        · rw [cn_md_wire]
          exact fun r hr => h2 r hr.1
        · intro r hr
          have hne : r ≠ cn_O x q := fun e => by
            have := (h3 r hr.1).2
            rw [e, q3.2.1] at this
            omega
          have hne2 : r ≠ cn_O x p := fun e => by
            have := (h3 r hr.1).2
            rw [e, p3.2.1] at this
            omega
          rw [cn_O_wire, cn_un hne, cn_un hne2]
          exact ⟨⟨(h3 r hr.1).1, hr.2⟩, (h3 r hr.1).2⟩
        · rw [cn_md_wire]
          exact h4
theorem cn_T_new {S Z : Nat → Prop} {b k m : Nat} {x : cn_Pc} (h : cn_T S Z b x) (hm : cn_md x = m) (h9 : m < 490) : cn_T (fun r => S r ∨ r = 3 * m ∨ r = 3 * m + 1 ∨ r = 3 * m + 2) (fun r => Z r ∨ r = 3 * m ∨ r = 3 * m + 1 ∨ r = 3 * m + 2) b (cn_new x k) := by
  subst hm
  obtain ⟨h1, h2, h3, h4, h5, h6⟩ := h
  have hn : ∀ r, S r → r < 3 * cn_md x ∨ 3 * cn_md x + 2 < r := by
    intro r hr
    have := h2 r hr
    unfold cn_R at this
    omega
  refine ⟨cn_U_new h1 (by omega) hn, ?_, ?_, by rw [cn_md_new]; omega, h5, fun i hi => Nat.lt_succ_of_lt (h6 i hi)⟩
  · intro r hr
    rw [cn_md_new]
    rcases hr with hr | hr | hr | hr
    · have := h2 r hr
      unfold cn_R at *
      omega
    · unfold cn_R; omega
    · unfold cn_R; omega
    · unfold cn_R; omega
  · intro r hr
    show _ ∧ cn_up (cn_up (cn_up (cn_O x) (3 * cn_md x) 5000) (3 * cn_md x + 1) 5000) (3 * cn_md x + 2) 5000 r = 5000
    rcases hr with hr | hr | hr | hr
    · have := hn r (h3 r hr).1
      refine ⟨Or.inl (h3 r hr).1, ?_⟩
      rw [cn_un (by omega), cn_un (by omega), cn_un (by omega)]
      exact (h3 r hr).2
    · refine ⟨Or.inr (Or.inl hr), ?_⟩
      rw [cn_un (by omega), cn_un (by omega), hr, cn_us]
    · refine ⟨Or.inr (Or.inr (Or.inl hr)), ?_⟩
      rw [cn_un (by omega), hr, cn_us]
    · refine ⟨Or.inr (Or.inr (Or.inr hr)), ?_⟩
      rw [hr, cn_us]
end
section
/-- a port as an int -/
def cn_en (n : Nat) : Int32 := if n = 5000 then -1 else nI n
theorem cn_en_o : cn_en 5000 = -1 := if_pos rfl
theorem cn_en_n {n : Nat} (h : n ≠ 5000) : cn_en n = nI n := if_neg h
theorem cn_nm1 {n : Nat} (h : n < 2 ^ 31) : ¬ nI n = -1 := by
  intro e
  have h1 := congrArg Int32.toInt e
  rw [nI_toInt h, show (-1 : Int32).toInt = -1 from by decide] at h1
  omega
theorem cn_en_ne {n : Nat} (h : n ≠ 5000) (hn : n < 2 ^ 31) : ¬ cn_en n = -1 := by
  rw [cn_en_n h]
  exact cn_nm1 hn
/-- a branch over a loose port -/
theorem cn_brO {x : Int32} {A B : Prop} (z : Nat) (hx : x = cn_en z) (hz : z < 1474 ∨ z = 5000) (f : z = 5000 → A) (g : z < 1474 → x = nI z → B) : (x = -1 → A) ∧ (¬ x = -1 → B) := by
  by_cases e : z = 5000
  · exact br_t (by rw [hx, e, cn_en_o]) (f e)
  · exact br_f (by rw [hx]; exact cn_en_ne e (by omega)) (g (by omega) (by rw [hx, cn_en_n e]))
theorem cn_updE {a : Nat → Int32} {O : Nat → Nat} {m k w : Nat} {v : Int32} (h : ∀ r, cn_R m r → a r = cn_en (O r)) (hv : v = cn_en w) : ∀ r, cn_R m r → upd a k v r = cn_en (cn_up O k w r) := by
  intro r hr
  by_cases e : r = k
  · rw [e, pk_us, cn_us, hv]
  · rw [pk_un e, cn_un e, h r hr]
theorem cn_updN {a : Nat → Int32} {f : Nat → Nat} {m k w : Nat} {v : Int32} (h : ∀ r, r < m → a r = nI (f r)) (hv : v = nI w) : ∀ r, r < m → upd a k v r = nI (cn_up f k w r) := by
  intro r hr
  by_cases e : r = k
  · rw [e, pk_us, cn_us, hv]
  · rw [pk_un e, cn_un e, h r hr]
theorem cn_updS {a : Nat → Int32} {f : Nat → Nat} {m w : Nat} {v : Int32} (h : ∀ r, r < m → a r = nI (f r)) (hv : v = nI w) : ∀ r, r < m + 1 → upd a m v r = nI (cn_up f m w r) := by
  intro r hr
  by_cases e : r = m
  · rw [e, pk_us, cn_us, hv]
  · rw [pk_un e, cn_un e, h r (by omega)]
/-- the net's picture: count, kinds, wired -/
abbrev cn_Nt : Type := Nat × (Nat → Nat) × (Nat → Nat)
def cn_MN (N : cn_Nt) (u : St1) : Prop := match u with
  | (ct, kn, md, dn, lp, td, wt, a1, a2, a3, a4, a5, a6, a7, a8) => ct = nI N.1 ∧ (∀ c, c < N.1 → a1 c = nI (N.2.1 c)) ∧ (∀ p, p < 34 → a2 p = cn_en (N.2.2 p))
def cn_MX (x : cn_Pc) (u : St1) : Prop := match u with
  | (ct, kn, md, dn, lp, td, wt, a1, a2, a3, a4, a5, a6, a7, a8) => md = nI (cn_md x) ∧ dn = nI (cn_dn x) ∧ lp = nI (cn_lp x) ∧ td = nI (cn_td x) ∧ wt = nI (cn_wt x) ∧ (∀ c, c < cn_md x → a3 c = nI (cn_K x c)) ∧ (∀ c, c < cn_md x → a4 c = nI (cn_G x c)) ∧ (∀ p, cn_R (cn_md x) p → a5 p = cn_en (cn_O x p)) ∧ (∀ i, i < cn_wt x → a6 i = nI (cn_W x i))
def cn_M (N : cn_Nt) (x : cn_Pc) (u : St1) : Prop := cn_MN N u ∧ cn_MX x u
theorem cn_3 (c : Nat) : (3 : Int32) * nI c = nI (3 * c) := pk_mul 3 c
theorem cn_31 (c : Nat) : (3 : Int32) * nI c + 1 = nI (3 * c + 1) := by rw [cn_3]; exact nI_add _ 1
theorem cn_32 (c : Nat) : (3 : Int32) * nI c + 2 = nI (3 * c + 2) := by rw [cn_3]; exact nI_add _ 2
theorem cn_30 (c : Nat) : (3 : Int32) * nI c + 0 = nI (3 * c) := by rw [cn_3]; exact nI_add _ 0
theorem cn_3s (c s : Nat) : (3 : Int32) * nI c + nI s = nI (3 * c + s) := by rw [cn_3]; exact nI_add _ _
theorem cn_isHead {post : Int32 → Prop} {u : St1} {P : Int32} (p : Nat) (hP : P = cn_en p) (hp : p < 1474 ∨ p = 5000) (h1 : cn_hd p = true → post 1) (h0 : cn_hd p = false → post 0) : wpX_isHead post u P := by
  obtain ⟨f0, f1, f2, f3, f4, f5, f6, a1, a2, a3, a4, a5, a6, a7, a8⟩ := u
  unfold wpX_isHead
  dsimp only
  rcases hp with hp | hp
  · have e : P = nI p := by rw [hP, cn_en_n (by omega)]
    refine pk_lt p 0 (fun z => absurd z (by omega)) (fun _ => pk_le 1470 p (fun z => h0 (cn_hd_f (Or.inl z))) (fun z => ⟨by decide, ?_⟩) (hy := e)) (hx := e)
    refine pk_eq (p % 3) 0 (fun y => h1 (cn_hd_t z y)) (fun y => h0 (cn_hd_f (Or.inr y))) (hx := ?_)
    rw [e]
    exact pk_rem (d := 3) (by omega) (by decide) (by decide)
  · have e : P = -1 := by rw [hP, hp, cn_en_o]
    refine br_t ?_ (h0 (cn_hd_f (Or.inl (by omega))))
    rw [e]
    decide
theorem cn_faces {post : Int32 → Prop} {ct kn md dn lp td wt : Int32} {a1 a2 a3 a4 a5 a6 a7 a8 : Nat → Int32} {P : Int32} (c g o : Nat) (hP : P = nI c) (hc : c < 490) (hg : a4 c = nI g) (g1 : g ≤ 1) (ho : a5 (3 * c) = cn_en o) (o1 : g = 0 → o < 1474 ∨ o = 5000) (h1 : g = 0 → cn_hd o = true → post 1) (h0 : ¬ (g = 0 ∧ cn_hd o = true) → post 0) : wpX_faces post (ct, kn, md, dn, lp, td, wt, a1, a2, a3, a4, a5, a6, a7, a8) P := by
  subst hP
  unfold wpX_faces
  dsimp only
  rw [nI_clamp (show c < 2 ^ 31 by omega), cn_3, nI_clamp (show 3 * c < 2 ^ 31 by omega)]
  refine ⟨pk_in c 490 hc, pk_eq g 0 (fun z => ⟨pk_in (3 * c) 1474 (by omega), ?_⟩) (fun z => h0 (fun t => z t.1)) (hx := hg)⟩
  exact cn_isHead o ho (o1 z) (fun y => br_f (by decide) (h1 z y)) (fun y => br_t rfl (h0 (fun t => by rw [y] at t; exact Bool.noConfusion t.2)))
theorem cn_wire_wp {post : St1 → Prop} {N : cn_Nt} {x : cn_Pc} {u : St1} {P Q : Int32} (p q : Nat) (hP : P = nI p) (hQ : Q = nI q) (hM : cn_M N x u) (hp : cn_R (cn_md x) p) (hq : cn_R (cn_md x) q) (hm : cn_md x ≤ 490) (hw : cn_wt x < 1000) (H : ∀ u', cn_M N (cn_wire x p q) u' → post u') : wpX_wire post u P Q := by
  obtain ⟨f0, f1, f2, f3, f4, f5, f6, a1, a2, a3, a4, a5, a6, a7, a8⟩ := u
  obtain ⟨⟨n1, n2, n3⟩, m1, m2, m3, m4, m5, m6, m7, m8, m9⟩ := hM
  have p1 : p < 1474 := by unfold cn_R at hp; omega
  have q1 : q < 1474 := by unfold cn_R at hq; omega
  have ep : nI p = cn_en p := (cn_en_n (by omega)).symm
  have eq : nI q = cn_en q := (cn_en_n (by omega)).symm
  subst hP hQ
  unfold wpX_wire
  dsimp only
  rw [nI_clamp (show p < 2 ^ 31 by omega), nI_clamp (show q < 2 ^ 31 by omega)]
  have o1 : ∀ r, cn_R (cn_md x) r → upd (upd a5 p (nI q)) q (nI p) r = cn_en (cn_up (cn_up (cn_O x) p q) q p r) := cn_updE (cn_updE m8 eq) ep
  have HB : (cn_hd p && cn_hd q) = false → post (f0, f1, f2, f3, f4, f5, f6, a1, a2, a3, a4, upd (upd a5 p (nI q)) q (nI p), a6, a7, a8) := by
    intro z
    refine H _ ?_
    unfold cn_wire
    rw [if_neg (by rw [z]; decide)]
    exact ⟨⟨n1, n2, n3⟩, m1, m2, m3, m4, m5, m6, m7, o1, m9⟩
  refine ⟨pk_in p 1474 p1, nm_e ⟨pk_in q 1474 q1, nm_e ?_⟩⟩
  refine cn_isHead p ep (Or.inl p1) (fun zp => br_f (by decide) ?_) (fun zp => br_t rfl (HB (by rw [zp]; rfl)))
  refine cn_isHead q eq (Or.inl q1) (fun zq => br_f (by decide) ⟨by decide, ?_⟩) (fun zq => br_t rfl (HB (by rw [zq, zp]; rfl)))
  refine ⟨pk_in (cn_wt x) 1000 hw (hx := m5), nm_e (nm_r (by rw [m5, nI_1]) (H _ ?_))⟩
  unfold cn_wire
  rw [if_pos (by rw [zp, zq]; rfl)]
  refine ⟨⟨n1, n2, n3⟩, m1, m2, m3, m4, rfl, m6, m7, o1, ?_⟩
  rw [m5, nI_clamp (by omega)]
  exact cn_updS m9 (pk_div (d := 3) (by omega) (by decide) (by decide))
theorem cn_take_wp {post : St1 → Prop} {N : cn_Nt} {x : cn_Pc} {u : St1} {S Z : Nat → Prop} {b : Nat} {P Q : Int32} (p q : Nat) (hP : P = nI p) (hQ : Q = nI q) (hM : cn_M N x u) (hT : cn_T S Z b x) (hp : S p) (hq : S q) (hb : b < 1000) (H : ∀ u', cn_M N (cn_take x p q) u' → post u') : wpX_take post u P Q := by
  obtain ⟨f0, f1, f2, f3, f4, f5, f6, a1, a2, a3, a4, a5, a6, a7, a8⟩ := u
  have hM' := hM
  obtain ⟨⟨n1, n2, n3⟩, m1, m2, m3, m4, m5, m6, m7, m8, m9⟩ := hM
  obtain ⟨t1, t2, t3, t4, t5, t6⟩ := hT
  have Rp := t2 p hp
  have Rq := t2 q hq
  have p1 : p < 1474 := by unfold cn_R at Rp; omega
  have q1 : q < 1474 := by unfold cn_R at Rq; omega
  have z1 : cn_O x q < 1474 ∨ cn_O x q = 5000 := by
    rcases (t1 q hq).2 with z | z
    · exact Or.inr z
    · have := t2 _ z.1
      unfold cn_R at this
      omega
  unfold wpX_take
  dsimp only
  refine ⟨pk_in q 1474 q1 hQ, nm_r (e' := cn_en (cn_O x q)) (by rw [hQ, nI_clamp (by omega)]; exact m8 q Rq) ?_⟩
  refine cn_brO (cn_O x q) rfl z1 (fun z => ⟨pk_in p 1474 p1 hP, nm_r (by rw [hP, nI_clamp (by omega)]) (H _ ?_)⟩) (fun z e => ?_)
  · unfold cn_take
    rw [if_pos z]
    exact ⟨⟨n1, n2, n3⟩, m1, m2, m3, m4, m5, m6, m7, cn_updE m8 cn_en_o.symm, m9⟩
  · refine cn_wire_wp p (cn_O x q) hP e hM' Rp ?_ t4 (by omega) (fun u' hu => ?_)
    · exact t2 _ ((t1 q hq).2.resolve_left (by omega)).1
    · obtain ⟨g0, g1, g2, g3, g4, g5, g6, b1, b2, b3, b4, b5, b6, b7, b8⟩ := u'
      refine H _ ?_
      unfold cn_take
      rw [if_neg (by omega)]
      exact hu
theorem cn_fuse_wp {post : St1 → Prop} {N : cn_Nt} {x : cn_Pc} {u : St1} {S Z : Nat → Prop} {b : Nat} {P Q : Int32} (p q : Nat) (hP : P = nI p) (hQ : Q = nI q) (hM : cn_M N x u) (hT : cn_T S Z b x) (hp : S p) (hq : S q) (hb : b < 1000) (H : ∀ u', cn_M N (cn_fuse x p q) u' → post u') : wpX_fuse post u P Q := by
  obtain ⟨f0, f1, f2, f3, f4, f5, f6, a1, a2, a3, a4, a5, a6, a7, a8⟩ := u
  have hM' := hM
  obtain ⟨⟨n1, n2, n3⟩, m1, m2, m3, m4, m5, m6, m7, m8, m9⟩ := hM
  obtain ⟨t1, t2, t3, t4, t5, t6⟩ := hT
  have Rp := t2 p hp
  have Rq := t2 q hq
  have p1 : p < 1474 := by unfold cn_R at Rp; omega
  have q1 : q < 1474 := by unfold cn_R at Rq; omega
  have rr : ∀ s, S s → cn_O x s = 5000 ∨ (cn_O x s < 1474 ∧ cn_R (cn_md x) (cn_O x s)) := by
    intro s hs
    rcases (t1 s hs).2 with z | z
    · exact Or.inl z
    · have z2 := t2 _ z.1
      have z3 := z2
      unfold cn_R at z3
      exact Or.inr ⟨by omega, z2⟩
  have zp := rr p hp
  have zq := rr q hq
  unfold wpX_fuse
  dsimp only
  refine ⟨pk_in p 1474 p1 hP, nm_r (e' := cn_en (cn_O x p)) (by rw [hP, nI_clamp (by omega)]; exact m8 p Rp) ⟨pk_in q 1474 q1 hQ, nm_r (e' := cn_en (cn_O x q)) (by rw [hQ, nI_clamp (by omega)]; exact m8 q Rq) ?_⟩⟩
  refine ek_if (d := cn_O x p = q) ?_ (fun z => ?_) (fun z => ?_)
  · rw [hQ]
    constructor
    · intro e
      rcases zp with y | y
      · rw [y, cn_en_o] at e
        exact absurd e.symm (cn_nm1 (by omega))
      · rw [cn_en_n (by omega)] at e
        exact (nI_eq (by omega) (by omega)).mp e
    · intro e
      rw [e, cn_en_n (by omega)]
  · refine nm_r (by rw [m3, nI_1]) (H _ ?_)
    unfold cn_fuse
    rw [if_pos z]
    exact ⟨⟨n1, n2, n3⟩, m1, m2, rfl, m4, m5, m6, m7, m8, m9⟩
  · have H' := H
    unfold cn_fuse at H'
    rw [if_neg z] at H'
    refine cn_brO (cn_O x p) rfl (by omega) (fun yp => ?_) (fun yp ep => ?_)
    · rw [if_pos yp] at H'
      refine cn_brO (cn_O x q) rfl (by omega) (fun yq => ?_) (fun yq eq => ?_)
      · rw [if_pos yq] at H'
        unfold wX_fuse_55 wX_fuse_76
        refine br_t (by rw [yq, cn_en_o]) (br_t (by rw [yp, cn_en_o]) (br_t (by rw [yp, cn_en_o]) (H' _ hM')))
      · rw [if_neg (by omega)] at H'
        exact ⟨pk_in (cn_O x q) 1474 yq eq, nm_r (by rw [eq, nI_clamp (by omega)]) (H' _ ⟨⟨n1, n2, n3⟩, m1, m2, m3, m4, m5, m6, m7, cn_updE m8 cn_en_o.symm, m9⟩)⟩
    · rw [if_neg (show ¬ cn_O x p = 5000 by omega)] at H'
      unfold wX_fuse_55
      refine cn_brO (cn_O x q) rfl (by omega) (fun yq => ?_) (fun yq eq => ?_)
      · rw [if_pos yq] at H'
        refine br_f (by rw [ep]; exact cn_nm1 (by omega)) ?_
        exact ⟨pk_in (cn_O x p) 1474 yp ep, nm_r (by rw [ep, nI_clamp (by omega)]) (H' _ ⟨⟨n1, n2, n3⟩, m1, m2, m3, m4, m5, m6, m7, cn_updE m8 cn_en_o.symm, m9⟩)⟩
      · rw [if_neg (show ¬ cn_O x q = 5000 by omega)] at H'
        unfold wX_fuse_76
        refine br_f (by rw [ep]; exact cn_nm1 (by omega)) ?_
        refine cn_wire_wp (cn_O x p) (cn_O x q) ep eq hM' (zp.resolve_left (by omega)).2 (zq.resolve_left (by omega)).2 t4 (by omega) (fun u' hu => ?_)
        obtain ⟨g0, g1, g2, g3, g4, g5, g6, b1, b2, b3, b4, b5, b6, b7, b8⟩ := u'
        exact H' _ hu
theorem cn_new_wp {post : Int32 → St1 → Prop} {N : cn_Nt} {x : cn_Pc} {u : St1} {P : Int32} (k m : Nat) (hP : P = nI k) (hM : cn_M N x u) (hm : cn_md x = m) (h9 : m < 490) (H : ∀ u', cn_M N (cn_new x k) u' → post (nI m) u') : wpX_newCell post u P := by
  obtain ⟨f0, f1, f2, f3, f4, f5, f6, a1, a2, a3, a4, a5, a6, a7, a8⟩ := u
  obtain ⟨⟨n1, n2, n3⟩, m1, m2, m3, m4, m5, m6, m7, m8, m9⟩ := hM
  subst hm
  subst m1
  unfold wpX_newCell
  dsimp only
  rw [nI_clamp (show cn_md x < 2 ^ 31 by omega)]
  refine nm_r (nI_1 _) ⟨pk_in (cn_md x) 490 h9, nm_e ⟨pk_in (cn_md x) 490 h9, nm_e ?_⟩⟩
  have c0 : (3 : Int32) * nI (cn_md x) + 0 = nI (3 * cn_md x) := cn_30 _
  have c1 : (3 : Int32) * nI (cn_md x) + 1 = nI (3 * cn_md x + 1) := cn_31 _
  have c2 : (3 : Int32) * nI (cn_md x) + 2 = nI (3 * cn_md x + 2) := cn_32 _
  refine ⟨4, ?_⟩
  refine pk_le 3 0 (fun z => absurd z (by decide)) (fun _ => ⟨pk_in (3 * cn_md x) 1474 (by omega) c0, nm_r (by rw [c0, nI_clamp (by omega)]) (nm_r (show (0 : Int32) + 1 = 1 from by decide) ?_)⟩)
  refine pk_le 3 1 (fun z => absurd z (by decide)) (fun _ => ⟨pk_in (3 * cn_md x + 1) 1474 (by omega) c1, nm_r (by rw [c1, nI_clamp (by omega)]) (nm_r (show (1 : Int32) + 1 = 2 from by decide) ?_)⟩)
  refine pk_le 3 2 (fun z => absurd z (by decide)) (fun _ => ⟨pk_in (3 * cn_md x + 2) 1474 (by omega) c2, nm_r (by rw [c2, nI_clamp (by omega)]) (nm_r (show (2 : Int32) + 1 = 3 from by decide) ?_)⟩)
  refine pk_le 3 3 (fun _ => H _ ?_) (fun z => absurd z (by decide))
  refine ⟨⟨n1, n2, n3⟩, rfl, m2, m3, m4, m5, cn_updS m6 hP, cn_updS m7 rfl, ?_, m9⟩
  have o1 := cn_updE (k := 3 * cn_md x + 2) (cn_updE (k := 3 * cn_md x + 1) (cn_updE (k := 3 * cn_md x) m8 cn_en_o.symm) cn_en_o.symm) cn_en_o.symm
  intro r hr
  show upd (upd (upd a5 (3 * cn_md x) (-1)) (3 * cn_md x + 1) (-1)) (3 * cn_md x + 2) (-1) r = cn_en (cn_up (cn_up (cn_up (cn_O x) (3 * cn_md x) 5000) (3 * cn_md x + 1) 5000) (3 * cn_md x + 2) 5000 r)
  have hr' : cn_R (cn_md x + 1) r := hr
  by_cases e2 : r = 3 * cn_md x + 2
  · rw [e2, pk_us, cn_us, cn_en_o]
  · rw [pk_un e2, cn_un e2]
    by_cases e1 : r = 3 * cn_md x + 1
    · rw [e1, pk_us, cn_us, cn_en_o]
    · rw [pk_un e1, cn_un e1]
      by_cases e0 : r = 3 * cn_md x
      · rw [e0, pk_us, cn_us, cn_en_o]
      · rw [pk_un e0, cn_un e0]
        refine m8 r ?_
        unfold cn_R at *
        omega
end
section
/-- a port that lives -/
def cn_L (x : cn_Pc) (p : Nat) : Prop := (p < 3 * cn_md x ∧ cn_G x (p / 3) = 0) ∨ (1470 ≤ p ∧ p < 1474)
/-- a side port of an eraser that lives -/
def cn_E (x : cn_Pc) (p : Nat) : Prop := p < 3 * cn_md x ∧ cn_G x (p / 3) = 0 ∧ cn_K x (p / 3) = 2 ∧ p % 3 ≠ 0
def cn_I (x : cn_Pc) : Prop := cn_T (cn_L x) (cn_E x) (10 + 8 * cn_dn x) x ∧ cn_dn x ≤ 120 ∧ cn_md x ≤ 10 + 4 * cn_dn x ∧ (∀ c, c < cn_md x → cn_K x c ≤ 2 ∧ cn_G x c ≤ 1) ∧ cn_td x ≤ 1
/-- one popped and counted -/
def cn_pp (x : cn_Pc) : cn_Pc := cn_mk (cn_md x) (cn_K x) (cn_G x) (cn_O x) (cn_dn x + 1) (cn_lp x) (cn_td x) (cn_wt x - 1) (cn_W x)
theorem cn_T_kp {S Z : Nat → Prop} {b c d : Nat} {x : cn_Pc} (h : cn_T S Z b x) : cn_T S Z b (cn_kill (cn_pp x) c d) := by
  obtain ⟨h1, h2, h3, h4, h5, h6⟩ := h
  refine ⟨h1, h2, h3, h4, ?_, fun i hi => h6 i ?_⟩
  · show cn_wt x - 1 ≤ b
    omega
  · have : i < cn_wt x - 1 := hi
    omega
/-! annihilate -/
theorem cn_ann_T {S Z : Nat → Prop} {b c d : Nat} {x : cn_Pc} (h : cn_T S Z b x) (n : c ≠ d) (c1 : S (3 * c + 1)) (c2 : S (3 * c + 2)) (d1 : S (3 * d + 1)) (d2 : S (3 * d + 2)) : cn_T (fun r => (S r ∧ r ≠ 3 * c + 1 ∧ r ≠ 3 * d + 1) ∧ r ≠ 3 * c + 2 ∧ r ≠ 3 * d + 2) (fun r => (Z r ∧ r ≠ 3 * c + 1 ∧ r ≠ 3 * d + 1) ∧ r ≠ 3 * c + 2 ∧ r ≠ 3 * d + 2) (b + 1 + 1) (cn_ann x c d) :=
  cn_T_fuse (cn_T_fuse h c1 d1 (by omega)) ⟨c2, by omega, by omega⟩ ⟨d2, by omega, by omega⟩ (by omega)
theorem cn_ann_wp {post : St1 → Prop} {N : cn_Nt} {x : cn_Pc} {u : St1} {S Z : Nat → Prop} {b : Nat} {P Q : Int32} (c d : Nat) (hP : P = nI c) (hQ : Q = nI d) (hM : cn_M N x u) (h : cn_T S Z b x) (n : c ≠ d) (c1 : S (3 * c + 1)) (c2 : S (3 * c + 2)) (d1 : S (3 * d + 1)) (d2 : S (3 * d + 2)) (hb : b + 1 < 1000) (H : ∀ u', cn_M N (cn_ann x c d) u' → post u') : wpX_annihilate post u P Q := by
  obtain ⟨f0, f1, f2, f3, f4, f5, f6, a1, a2, a3, a4, a5, a6, a7, a8⟩ := u
  subst hP hQ
  unfold wpX_annihilate
  dsimp only
  refine cn_fuse_wp (3 * c + 1) (3 * d + 1) (cn_31 c) (cn_31 d) hM h c1 d1 (by omega) (fun u' hu => ?_)
  obtain ⟨g0, g1, g2, g3, g4, g5, g6, b1, b2, b3, b4, b5, b6, b7, b8⟩ := u'
  refine cn_fuse_wp (3 * c + 2) (3 * d + 2) (cn_32 c) (cn_32 d) hu (cn_T_fuse h c1 d1 (by omega)) ⟨c2, by omega, by omega⟩ ⟨d2, by omega, by omega⟩ hb (fun u' hu => ?_)
  obtain ⟨g0, g1, g2, g3, g4, g5, g6, b1, b2, b3, b4, b5, b6, b7, b8⟩ := u'
  exact H _ hu
/-! erase -/
theorem cn_era_T {S Z : Nat → Prop} {b c m : Nat} {x : cn_Pc} (h : cn_T S Z b x) (hm : cn_md x = m) (h9 : m + 1 < 490) (hc : c < m) (c1 : S (3 * c + 1)) (c2 : S (3 * c + 2)) :
    cn_T (fun r => S r ∨ r = 3 * m ∨ r = 3 * m + 1 ∨ r = 3 * m + 2) (fun r => Z r ∨ r = 3 * m ∨ r = 3 * m + 1 ∨ r = 3 * m + 2) b (cn_new x 2) ∧
    cn_T (fun r => (S r ∨ r = 3 * m ∨ r = 3 * m + 1 ∨ r = 3 * m + 2) ∧ r ≠ 3 * c + 1) (fun r => (Z r ∨ r = 3 * m ∨ r = 3 * m + 1 ∨ r = 3 * m + 2) ∧ r ≠ 3 * m ∧ r ≠ 3 * c + 1) (b + 1) (cn_take (cn_new x 2) (3 * m) (3 * c + 1)) ∧
    cn_T (fun r => ((S r ∨ r = 3 * m ∨ r = 3 * m + 1 ∨ r = 3 * m + 2) ∧ r ≠ 3 * c + 1) ∨ r = 3 * (m + 1) ∨ r = 3 * (m + 1) + 1 ∨ r = 3 * (m + 1) + 2) (fun r => ((Z r ∨ r = 3 * m ∨ r = 3 * m + 1 ∨ r = 3 * m + 2) ∧ r ≠ 3 * m ∧ r ≠ 3 * c + 1) ∨ r = 3 * (m + 1) ∨ r = 3 * (m + 1) + 1 ∨ r = 3 * (m + 1) + 2) (b + 1) (cn_new (cn_take (cn_new x 2) (3 * m) (3 * c + 1)) 2) ∧
    cn_T (fun r => (((S r ∨ r = 3 * m ∨ r = 3 * m + 1 ∨ r = 3 * m + 2) ∧ r ≠ 3 * c + 1) ∨ r = 3 * (m + 1) ∨ r = 3 * (m + 1) + 1 ∨ r = 3 * (m + 1) + 2) ∧ r ≠ 3 * c + 2) (fun r => (((Z r ∨ r = 3 * m ∨ r = 3 * m + 1 ∨ r = 3 * m + 2) ∧ r ≠ 3 * m ∧ r ≠ 3 * c + 1) ∨ r = 3 * (m + 1) ∨ r = 3 * (m + 1) + 1 ∨ r = 3 * (m + 1) + 2) ∧ r ≠ 3 * (m + 1) ∧ r ≠ 3 * c + 2) (b + 1 + 1) (cn_era x c) := by
  have t1 := cn_T_new (k := 2) h hm (by omega)
  have t2 := cn_T_take t1 (p := 3 * m) (q := 3 * c + 1) (Or.inr (Or.inl rfl)) (Or.inl c1) (by omega)
  have t3 := cn_T_new (k := 2) (m := m + 1) t2 (by rw [cn_md_take, cn_md_new, hm]) (by omega)
  have t4 := cn_T_take t3 (p := 3 * (m + 1)) (q := 3 * c + 2) (Or.inr (Or.inl rfl)) (Or.inl ⟨Or.inl c2, by omega⟩) (by omega)
  refine ⟨t1, t2, t3, ?_⟩
  unfold cn_era
  rw [hm]
  exact t4
theorem cn_era_wp {post : St1 → Prop} {N : cn_Nt} {x : cn_Pc} {u : St1} {S Z : Nat → Prop} {b : Nat} {P : Int32} (c m : Nat) (hP : P = nI c) (hM : cn_M N x u) (h : cn_T S Z b x) (hm : cn_md x = m) (h9 : m + 1 < 490) (hc : c < m) (c1 : S (3 * c + 1)) (c2 : S (3 * c + 2)) (hb : b + 1 < 1000) (H : ∀ u', cn_M N (cn_era x c) u' → post u') : wpX_erase post u P := by
  obtain ⟨t1, t2, t3, t4⟩ := cn_era_T h hm h9 hc c1 c2
  obtain ⟨f0, f1, f2, f3, f4, f5, f6, a1, a2, a3, a4, a5, a6, a7, a8⟩ := u
  subst hP
  unfold cn_era at H
  rw [hm] at H
  unfold wpX_erase
  dsimp only
  refine cn_new_wp 2 m rfl hM hm (by omega) (fun u' hu => ?_)
  obtain ⟨g0, g1, g2, g3, g4, g5, g6, b1, b2, b3, b4, b5, b6, b7, b8⟩ := u'
  refine cn_take_wp (3 * m) (3 * c + 1) (cn_3 m) (cn_31 c) hu t1 (Or.inr (Or.inl rfl)) (Or.inl c1) (by omega) (fun u' hu => ?_)
  obtain ⟨g0, g1, g2, g3, g4, g5, g6, b1, b2, b3, b4, b5, b6, b7, b8⟩ := u'
  refine cn_new_wp 2 (m + 1) rfl hu (by rw [cn_md_take, cn_md_new, hm]) (by omega) (fun u' hu => ?_)
  obtain ⟨g0, g1, g2, g3, g4, g5, g6, b1, b2, b3, b4, b5, b6, b7, b8⟩ := u'
  refine cn_take_wp (3 * (m + 1)) (3 * c + 2) (cn_3 (m + 1)) (cn_32 c) hu t3 (Or.inr (Or.inl rfl)) (Or.inl ⟨Or.inl c2, by omega⟩) (by omega) (fun u' hu => ?_)
  obtain ⟨g0, g1, g2, g3, g4, g5, g6, b1, b2, b3, b4, b5, b6, b7, b8⟩ := u'
  exact H _ hu
/-! commute -/
def cn_n4 (x : cn_Pc) : cn_Pc := cn_new (cn_new (cn_new (cn_new x 1) 1) 0) 0
theorem cn_n4_T {S Z : Nat → Prop} {b m : Nat} {x : cn_Pc} (h : cn_T S Z b x) (hm : cn_md x = m) (h9 : m + 3 < 490) : cn_T (fun r => S r ∨ (3 * m ≤ r ∧ r < 3 * m + 12)) (fun r => Z r ∨ (3 * m ≤ r ∧ r < 3 * m + 12)) b (cn_n4 x) := by
  have t1 := cn_T_new (k := 1) h hm (by omega)
  have t2 := cn_T_new (k := 1) (m := m + 1) t1 (by rw [cn_md_new, hm]) (by omega)
  have t3 := cn_T_new (k := 0) (m := m + 2) t2 (by rw [cn_md_new, cn_md_new, hm]) (by omega)
  have t4 := cn_T_new (k := 0) (m := m + 3) t3 (by rw [cn_md_new, cn_md_new, cn_md_new, hm]) (by omega)
  refine cn_T_iff t4 (fun r => ⟨fun t => ?_, fun t => ?_⟩) (fun r t => ?_) (Nat.le_refl _)
  · rcases t with t | t
    · exact Or.inl (Or.inl (Or.inl (Or.inl t)))
    · by_cases e3 : 3 * m + 9 ≤ r
      · exact Or.inr (by omega)
      · by_cases e2 : 3 * m + 6 ≤ r
        · exact Or.inl (Or.inr (by omega))
        · by_cases e1 : 3 * m + 3 ≤ r
          · exact Or.inl (Or.inl (Or.inr (by omega)))
          · exact Or.inl (Or.inl (Or.inl (Or.inr (by omega))))
  · rcases t with (((t | t) | t) | t) | t
    · exact Or.inl t
    · exact Or.inr (by omega)
    · exact Or.inr (by omega)
    · exact Or.inr (by omega)
    · exact Or.inr (by omega)
  · rcases t with t | t
    · exact Or.inl (Or.inl (Or.inl (Or.inl t)))
    · by_cases e3 : 3 * m + 9 ≤ r
      · exact Or.inr (by omega)
      · by_cases e2 : 3 * m + 6 ≤ r
        · exact Or.inl (Or.inr (by omega))
        · by_cases e1 : 3 * m + 3 ≤ r
          · exact Or.inl (Or.inl (Or.inr (by omega)))
          · exact Or.inl (Or.inl (Or.inl (Or.inr (by omega))))
/-- the four takes -/
def cn_t4 (x : cn_Pc) (c d m : Nat) : cn_Pc := cn_take (cn_take (cn_take (cn_take x (3 * m) (3 * c + 1)) (3 * (m + 1)) (3 * c + 2)) (3 * (m + 2)) (3 * d + 1)) (3 * (m + 3)) (3 * d + 2)
theorem cn_t4_T {S Z : Nat → Prop} {b c d m : Nat} {x : cn_Pc} (h : cn_T S Z b x) (hc : c < m) (hd : d < m) (n : c ≠ d) (z0 : Z (3 * m)) (z1 : Z (3 * (m + 1))) (z2 : Z (3 * (m + 2))) (z3 : Z (3 * (m + 3))) (c1 : S (3 * c + 1)) (c2 : S (3 * c + 2)) (d1 : S (3 * d + 1)) (d2 : S (3 * d + 2)) :
    cn_T (fun r => (((S r ∧ r ≠ 3 * c + 1) ∧ r ≠ 3 * c + 2) ∧ r ≠ 3 * d + 1) ∧ r ≠ 3 * d + 2) (fun r => (((Z r ∧ r ≠ 3 * m ∧ r ≠ 3 * c + 1) ∧ r ≠ 3 * (m + 1) ∧ r ≠ 3 * c + 2) ∧ r ≠ 3 * (m + 2) ∧ r ≠ 3 * d + 1) ∧ r ≠ 3 * (m + 3) ∧ r ≠ 3 * d + 2) (b + 1 + 1 + 1 + 1) (cn_t4 x c d m) := by
  have t1 := cn_T_take h (p := 3 * m) (q := 3 * c + 1) z0 c1 (by omega)
  have t2 := cn_T_take t1 (p := 3 * (m + 1)) (q := 3 * c + 2) ⟨z1, by omega, by omega⟩ ⟨c2, by omega⟩ (by omega)
  have t3 := cn_T_take t2 (p := 3 * (m + 2)) (q := 3 * d + 1) ⟨⟨z2, by omega, by omega⟩, by omega, by omega⟩ ⟨⟨d1, by omega⟩, by omega⟩ (by omega)
  exact cn_T_take t3 (p := 3 * (m + 3)) (q := 3 * d + 2) ⟨⟨⟨z3, by omega, by omega⟩, by omega, by omega⟩, by omega, by omega⟩ ⟨⟨⟨d2, by omega⟩, by omega⟩, by omega⟩ (by omega)
/-- the four wires -/
def cn_w4 (x : cn_Pc) (m : Nat) : cn_Pc := cn_wire (cn_wire (cn_wire (cn_wire x (3 * m + 1) (3 * (m + 2) + 1)) (3 * m + 2) (3 * (m + 3) + 1)) (3 * (m + 1) + 1) (3 * (m + 2) + 2)) (3 * (m + 1) + 2) (3 * (m + 3) + 2)
theorem cn_w4_T {S Z : Nat → Prop} {b m : Nat} {x : cn_Pc} (h : cn_T S Z b x) (hz : ∀ r, 3 * m ≤ r → r < 3 * m + 12 → r % 3 ≠ 0 → Z r) :
    cn_T S (fun r => Z r ∧ (r < 3 * m ∨ 3 * m + 12 ≤ r)) (b + 1 + 1 + 1 + 1) (cn_w4 x m) := by
  have t1 := cn_T_wire h (p := 3 * m + 1) (q := 3 * (m + 2) + 1) (hz _ (by omega) (by omega) (by omega)) (hz _ (by omega) (by omega) (by omega)) (by omega)
  have t2 := cn_T_wire t1 (p := 3 * m + 2) (q := 3 * (m + 3) + 1) ⟨hz _ (by omega) (by omega) (by omega), by omega, by omega⟩ ⟨hz _ (by omega) (by omega) (by omega), by omega, by omega⟩ (by omega)
  have t3 := cn_T_wire t2 (p := 3 * (m + 1) + 1) (q := 3 * (m + 2) + 2) ⟨⟨hz _ (by omega) (by omega) (by omega), by omega, by omega⟩, by omega, by omega⟩ ⟨⟨hz _ (by omega) (by omega) (by omega), by omega, by omega⟩, by omega, by omega⟩ (by omega)
  have t4 := cn_T_wire t3 (p := 3 * (m + 1) + 2) (q := 3 * (m + 3) + 2) ⟨⟨⟨hz _ (by omega) (by omega) (by omega), by omega, by omega⟩, by omega, by omega⟩, by omega, by omega⟩ ⟨⟨⟨hz _ (by omega) (by omega) (by omega), by omega, by omega⟩, by omega, by omega⟩, by omega, by omega⟩ (by omega)
  exact cn_T_iff t4 (fun r => Iff.rfl) (fun r t => ⟨⟨⟨⟨t.1, by omega, by omega⟩, by omega, by omega⟩, by omega, by omega⟩, by omega, by omega⟩) (Nat.le_refl _)
theorem cn_com_eq {x : cn_Pc} {c d m : Nat} (hm : cn_md x = m) : cn_com x c d = cn_w4 (cn_t4 (cn_n4 x) c d m) m := by
  unfold cn_com cn_w4 cn_t4 cn_n4
  rw [hm]
theorem cn_com_T {S Z : Nat → Prop} {b c d m : Nat} {x : cn_Pc} (h : cn_T S Z b x) (hm : cn_md x = m) (h9 : m + 3 < 490) (hc : c < m) (hd : d < m) (n : c ≠ d) (c1 : S (3 * c + 1)) (c2 : S (3 * c + 2)) (d1 : S (3 * d + 1)) (d2 : S (3 * d + 2)) :
    cn_T (fun r => ((S r ∧ r ≠ 3 * c + 1 ∧ r ≠ 3 * c + 2) ∧ r ≠ 3 * d + 1 ∧ r ≠ 3 * d + 2) ∨ (3 * m ≤ r ∧ r < 3 * m + 12)) (fun r => Z r ∧ (r < 3 * m ∨ 3 * m + 12 ≤ r) ∧ r ≠ 3 * c + 1 ∧ r ≠ 3 * c + 2 ∧ r ≠ 3 * d + 1 ∧ r ≠ 3 * d + 2) (b + 8) (cn_com x c d) := by
  rw [cn_com_eq hm]
  have t4 := cn_n4_T h hm h9
  have t8 := cn_t4_T t4 hc hd n (Or.inr (by omega)) (Or.inr (by omega)) (Or.inr (by omega)) (Or.inr (by omega)) (Or.inl c1) (Or.inl c2) (Or.inl d1) (Or.inl d2)
  have t12 := cn_w4_T (m := m) t8 (fun r h1 h2 h3 => ⟨⟨⟨⟨Or.inr ⟨h1, h2⟩, by omega, by omega⟩, by omega, by omega⟩, by omega, by omega⟩, by omega, by omega⟩)
  refine cn_T_iff t12 (fun r => ⟨fun t => ?_, fun t => ?_⟩) (fun r t => ?_) (by omega)
  · rcases t with t | t
    · exact ⟨⟨⟨⟨Or.inl t.1.1, t.1.2.1⟩, t.1.2.2⟩, t.2.1⟩, t.2.2⟩
    · exact ⟨⟨⟨⟨Or.inr t, by omega⟩, by omega⟩, by omega⟩, by omega⟩
  · obtain ⟨⟨⟨⟨t1, t2⟩, t3⟩, t4⟩, t5⟩ := t
    rcases t1 with t1 | t1
    · exact Or.inl ⟨⟨t1, t2, t3⟩, t4, t5⟩
    · exact Or.inr t1
  · obtain ⟨z1, z2, z3, z4, z5, z6⟩ := t
    exact ⟨⟨⟨⟨⟨Or.inl z1, by omega, z3⟩, by omega, z4⟩, by omega, z5⟩, by omega, z6⟩, z2⟩
theorem cn_com_wp {post : St1 → Prop} {N : cn_Nt} {x : cn_Pc} {u : St1} {S Z : Nat → Prop} {b : Nat} {P Q : Int32} (c d m : Nat) (hP : P = nI c) (hQ : Q = nI d) (hM : cn_M N x u) (h : cn_T S Z b x) (hm : cn_md x = m) (h9 : m + 3 < 490) (hc : c < m) (hd : d < m) (n : c ≠ d) (c1 : S (3 * c + 1)) (c2 : S (3 * c + 2)) (d1 : S (3 * d + 1)) (d2 : S (3 * d + 2)) (hb : b + 8 < 1000) (H : ∀ u', cn_M N (cn_com x c d) u' → post u') : wpX_commute post u P Q := by
  have t4 := cn_n4_T h hm h9
  have t8 := cn_t4_T t4 hc hd n (Or.inr (by omega)) (Or.inr (by omega)) (Or.inr (by omega)) (Or.inr (by omega)) (Or.inl c1) (Or.inl c2) (Or.inl d1) (Or.inl d2)
  have y1 := cn_T_take t4 (p := 3 * m) (q := 3 * c + 1) (Or.inr (by omega)) (Or.inl c1) (by omega)
  have y2 := cn_T_take y1 (p := 3 * (m + 1)) (q := 3 * c + 2) ⟨Or.inr (by omega), by omega, by omega⟩ ⟨Or.inl c2, by omega⟩ (by omega)
  have y3 := cn_T_take y2 (p := 3 * (m + 2)) (q := 3 * d + 1) ⟨⟨Or.inr (by omega), by omega, by omega⟩, by omega, by omega⟩ ⟨⟨Or.inl d1, by omega⟩, by omega⟩ (by omega)
  have m8 : cn_md (cn_t4 (cn_n4 x) c d m) = m + 4 := by
    unfold cn_t4 cn_n4
    rw [cn_md_take, cn_md_take, cn_md_take, cn_md_take, cn_md_new, cn_md_new, cn_md_new, cn_md_new, hm]
  have w8 := t8.2.2.2.2.1
  have R8 : ∀ r, 3 * m ≤ r → r < 3 * m + 12 → cn_R (m + 4) r := fun r h1 h2 => Or.inl (by omega)
  have v1 := cn_wt_wire (cn_t4 (cn_n4 x) c d m) (3 * m + 1) (3 * (m + 2) + 1)
  have v2 := cn_wt_wire (cn_wire (cn_t4 (cn_n4 x) c d m) (3 * m + 1) (3 * (m + 2) + 1)) (3 * m + 2) (3 * (m + 3) + 1)
  have v3 := cn_wt_wire (cn_wire (cn_wire (cn_t4 (cn_n4 x) c d m) (3 * m + 1) (3 * (m + 2) + 1)) (3 * m + 2) (3 * (m + 3) + 1)) (3 * (m + 1) + 1) (3 * (m + 2) + 2)
  rw [cn_com_eq hm] at H
  obtain ⟨f0, f1, f2, f3, f4, f5, f6, a1, a2, a3, a4, a5, a6, a7, a8⟩ := u
  subst hP hQ
  unfold wpX_commute
  dsimp only
  refine cn_new_wp 1 m rfl hM hm (by omega) (fun u' hu => ?_)
  obtain ⟨g0, g1, g2, g3, g4, g5, g6, b1, b2, b3, b4, b5, b6, b7, b8⟩ := u'
  refine cn_new_wp 1 (m + 1) rfl hu (by rw [cn_md_new, hm]) (by omega) (fun u' hu => ?_)
  obtain ⟨g0, g1, g2, g3, g4, g5, g6, b1, b2, b3, b4, b5, b6, b7, b8⟩ := u'
  refine cn_new_wp 0 (m + 2) rfl hu (by rw [cn_md_new, cn_md_new, hm]) (by omega) (fun u' hu => ?_)
  obtain ⟨g0, g1, g2, g3, g4, g5, g6, b1, b2, b3, b4, b5, b6, b7, b8⟩ := u'
  refine cn_new_wp 0 (m + 3) rfl hu (by rw [cn_md_new, cn_md_new, cn_md_new, hm]) (by omega) (fun u' hu => ?_)
  obtain ⟨g0, g1, g2, g3, g4, g5, g6, b1, b2, b3, b4, b5, b6, b7, b8⟩ := u'
  refine cn_take_wp (3 * m) (3 * c + 1) (cn_3 _) (cn_31 c) hu t4 (Or.inr (by omega)) (Or.inl c1) (by omega) (fun u' hu => ?_)
  obtain ⟨g0, g1, g2, g3, g4, g5, g6, b1, b2, b3, b4, b5, b6, b7, b8⟩ := u'
  refine cn_take_wp (3 * (m + 1)) (3 * c + 2) (cn_3 _) (cn_32 c) hu y1 ⟨Or.inr (by omega), by omega⟩ ⟨Or.inl c2, by omega⟩ (by omega) (fun u' hu => ?_)
  obtain ⟨g0, g1, g2, g3, g4, g5, g6, b1, b2, b3, b4, b5, b6, b7, b8⟩ := u'
  refine cn_take_wp (3 * (m + 2)) (3 * d + 1) (cn_3 _) (cn_31 d) hu y2 ⟨⟨Or.inr (by omega), by omega⟩, by omega⟩ ⟨⟨Or.inl d1, by omega⟩, by omega⟩ (by omega) (fun u' hu => ?_)
  obtain ⟨g0, g1, g2, g3, g4, g5, g6, b1, b2, b3, b4, b5, b6, b7, b8⟩ := u'
  refine cn_take_wp (3 * (m + 3)) (3 * d + 2) (cn_3 _) (cn_32 d) hu y3 ⟨⟨⟨Or.inr (by omega), by omega⟩, by omega⟩, by omega⟩ ⟨⟨⟨Or.inl d2, by omega⟩, by omega⟩, by omega⟩ (by omega) (fun u' hu => ?_)
  obtain ⟨g0, g1, g2, g3, g4, g5, g6, b1, b2, b3, b4, b5, b6, b7, b8⟩ := u'
  have hu8 : cn_M N (cn_t4 (cn_n4 x) c d m) (g0, g1, g2, g3, g4, g5, g6, b1, b2, b3, b4, b5, b6, b7, b8) := hu
  refine cn_wire_wp (3 * m + 1) (3 * (m + 2) + 1) (cn_31 _) (cn_31 _) hu8 (by rw [m8]; exact R8 _ (by omega) (by omega)) (by rw [m8]; exact R8 _ (by omega) (by omega)) (by omega) (by omega) (fun u' hu => ?_)
  obtain ⟨g0, g1, g2, g3, g4, g5, g6, b1, b2, b3, b4, b5, b6, b7, b8⟩ := u'
  refine cn_wire_wp (3 * m + 2) (3 * (m + 3) + 1) (cn_32 _) (cn_31 _) hu (by rw [cn_md_wire, m8]; exact R8 _ (by omega) (by omega)) (by rw [cn_md_wire, m8]; exact R8 _ (by omega) (by omega)) (by rw [cn_md_wire]; omega) (by omega) (fun u' hu => ?_)
  obtain ⟨g0, g1, g2, g3, g4, g5, g6, b1, b2, b3, b4, b5, b6, b7, b8⟩ := u'
  refine cn_wire_wp (3 * (m + 1) + 1) (3 * (m + 2) + 2) (cn_31 _) (cn_32 _) hu (by rw [cn_md_wire, cn_md_wire, m8]; exact R8 _ (by omega) (by omega)) (by rw [cn_md_wire, cn_md_wire, m8]; exact R8 _ (by omega) (by omega)) (by rw [cn_md_wire, cn_md_wire]; omega) (by omega) (fun u' hu => ?_)
  obtain ⟨g0, g1, g2, g3, g4, g5, g6, b1, b2, b3, b4, b5, b6, b7, b8⟩ := u'
  refine cn_wire_wp (3 * (m + 1) + 2) (3 * (m + 3) + 2) (cn_32 _) (cn_32 _) hu (by rw [cn_md_wire, cn_md_wire, cn_md_wire, m8]; exact R8 _ (by omega) (by omega)) (by rw [cn_md_wire, cn_md_wire, cn_md_wire, m8]; exact R8 _ (by omega) (by omega)) (by rw [cn_md_wire, cn_md_wire, cn_md_wire]; omega) (by omega) (fun u' hu => ?_)
  obtain ⟨g0, g1, g2, g3, g4, g5, g6, b1, b2, b3, b4, b5, b6, b7, b8⟩ := u'
  exact H _ hu
end
section
theorem cn_G2 {G : Nat → Nat} {c d j : Nat} : cn_up (cn_up G c 1) d 1 j = 0 ↔ (G j = 0 ∧ j ≠ c ∧ j ≠ d) := by
  by_cases e2 : j = d
  · rw [e2, cn_us]
    exact ⟨fun z => by omega, fun z => absurd rfl z.2.2⟩
  · rw [cn_un e2]
    by_cases e1 : j = c
    · rw [e1, cn_us]
      exact ⟨fun z => by omega, fun z => absurd rfl z.2.1⟩
    · rw [cn_un e1]
      exact ⟨fun z => ⟨z, e1, e2⟩, fun z => z.1⟩
theorem cn_G2le {G : Nat → Nat} {c d j : Nat} (h : G j ≤ 1) : cn_up (cn_up G c 1) d 1 j ≤ 1 := by
  by_cases e2 : j = d
  · rw [e2, cn_us]
    exact Nat.le_refl _
  · rw [cn_un e2]
    by_cases e1 : j = c
    · rw [e1, cn_us]
      exact Nat.le_refl _
    · rw [cn_un e1]
      exact h
/-- a step's facts -/
theorem cn_sf {x : cn_Pc} {c d : Nat} (hI : cn_I x) (hc : c < cn_md x) (gc : cn_G x c = 0) (hO : cn_O x (3 * c) = 3 * d) (hh : 3 * d < 1470) :
    d < cn_md x ∧ cn_G x d = 0 ∧ c ≠ d ∧ cn_T (fun r => cn_L x r ∧ r ≠ 3 * c ∧ r ≠ 3 * d) (fun r => cn_E x r ∧ r ≠ 3 * c ∧ r ≠ 3 * d) (10 + 8 * cn_dn x) (cn_kill (cn_pp x) c d) := by
  obtain ⟨hT, h2, h3, h4, h5⟩ := hI
  have l1 : cn_L x (3 * c) := Or.inl ⟨by omega, by rw [show 3 * c / 3 = c by omega]; exact gc⟩
  have u1 := ((hT.1 _ l1).2.resolve_left (by omega))
  rw [hO] at u1
  obtain ⟨u1, u2, u3⟩ := u1
  have u4 : 3 * d < 3 * cn_md x ∧ cn_G x (3 * d / 3) = 0 := by
    rcases u1 with z | z
    · exact z
    · omega
  rw [show 3 * d / 3 = d by omega] at u4
  exact ⟨by omega, u4.2, by omega, cn_T_kp (cn_T_pair hT l1 hO (by omega))⟩
theorem cn_L_s {x : cn_Pc} {c d s : Nat} (hc : c < cn_md x) (gc : cn_G x c = 0) (h1 : 0 < s) (h3 : s < 3) : cn_L x (3 * c + s) ∧ 3 * c + s ≠ 3 * c ∧ 3 * c + s ≠ 3 * d :=
  ⟨Or.inl ⟨by omega, by rw [show (3 * c + s) / 3 = c by omega]; exact gc⟩, by omega, by omega⟩
theorem cn_E_s {x : cn_Pc} {c d s : Nat} (hc : c < cn_md x) (gc : cn_G x c = 0) (kc : cn_K x c = 2) (h1 : 0 < s) (h3 : s < 3) : cn_E x (3 * c + s) ∧ 3 * c + s ≠ 3 * c ∧ 3 * c + s ≠ 3 * d :=
  ⟨⟨by omega, by rw [show (3 * c + s) / 3 = c by omega]; exact gc, by rw [show (3 * c + s) / 3 = c by omega]; exact kc, by omega⟩, by omega, by omega⟩
theorem cn_E_s' {x : cn_Pc} {c d s : Nat} (hd : d < cn_md x) (gd : cn_G x d = 0) (kd : cn_K x d = 2) (h1 : 0 < s) (h3 : s < 3) : cn_E x (3 * d + s) ∧ 3 * d + s ≠ 3 * c ∧ 3 * d + s ≠ 3 * d :=
  ⟨⟨by omega, by rw [show (3 * d + s) / 3 = d by omega]; exact gd, by rw [show (3 * d + s) / 3 = d by omega]; exact kd, by omega⟩, by omega, by omega⟩
theorem cn_L_s' {x : cn_Pc} {c d s : Nat} (hc : d < cn_md x) (gc : cn_G x d = 0) (h1 : 0 < s) (h3 : s < 3) : cn_L x (3 * d + s) ∧ 3 * d + s ≠ 3 * c ∧ 3 * d + s ≠ 3 * d :=
  ⟨Or.inl ⟨by omega, by rw [show (3 * d + s) / 3 = d by omega]; exact gc⟩, by omega, by omega⟩
/-- the four facts of a copy's picture behind a step -/
theorem cn_fin {x y : cn_Pc} {S Z : Nat → Prop} {b j : Nat} (hT : cn_T S Z b y) (hb : b ≤ 10 + 8 * cn_dn x + 8) (hd : cn_dn y = cn_dn x + 1) (hdn : cn_dn x < 120) (hm : cn_md y = cn_md x + j) (hj : j ≤ 4) (hx : cn_md x ≤ 10 + 4 * cn_dn x) (ht : cn_td y ≤ 1) (hK : ∀ c, c < cn_md y → cn_K y c ≤ 2 ∧ cn_G y c ≤ 1) (hS : ∀ r, cn_L y r ↔ S r) (hZ : ∀ r, cn_E y r → Z r) : cn_I y := by
  refine ⟨cn_T_iff hT hS hZ (by omega), by omega, by omega, hK, ht⟩
theorem cn_s_two {x : cn_Pc} {c d : Nat} (hI : cn_I x) (hdn : cn_dn x < 120) (hc : c < cn_md x) (gc : cn_G x c = 0) (hO : cn_O x (3 * c) = 3 * d) (hh : 3 * d < 1470) (kc : cn_K x c = 2) (kd : cn_K x d = 2) : cn_I (cn_kill (cn_pp x) c d) := by
  obtain ⟨hd, gd, n, hT⟩ := cn_sf hI hc gc hO hh
  obtain ⟨hT0, h2, h3, h4, h5⟩ := hI
  have t4 := hT0.2.2.2.1
  have e1 := cn_T_drop hT (p := 3 * c + 1) (cn_E_s hc gc kc (by omega) (by omega))
  have e2 := cn_T_drop e1 (p := 3 * c + 2) ⟨cn_E_s hc gc kc (by omega) (by omega), by omega⟩
  have e3 := cn_T_drop e2 (p := 3 * d + 1) ⟨⟨cn_E_s' hd gd kd (by omega) (by omega), by omega⟩, by omega⟩
  have e4 := cn_T_drop e3 (p := 3 * d + 2) ⟨⟨⟨cn_E_s' hd gd kd (by omega) (by omega), by omega⟩, by omega⟩, by omega⟩
  refine cn_fin (x := x) (j := 0) e4 (by omega) rfl hdn rfl (by omega) h3 h5 (fun a ha => ⟨(h4 a ha).1, cn_G2le (h4 a ha).2⟩) (fun r => ?_) (fun r hr => ?_)
  · show ((r < 3 * cn_md x ∧ cn_up (cn_up (cn_G x) c 1) d 1 (r / 3) = 0) ∨ _) ↔ _
    rw [cn_G2]
    unfold cn_L
    omega
  · obtain ⟨r1, r2, r3, r4⟩ := hr
    replace r1 : r < 3 * cn_md x := r1
    replace r2 : cn_up (cn_up (cn_G x) c 1) d 1 (r / 3) = 0 := r2
    rw [cn_G2] at r2
    have : cn_E x r := ⟨r1, r2.1, r3, r4⟩
    exact ⟨⟨⟨⟨⟨this, by omega, by omega⟩, by omega⟩, by omega⟩, by omega⟩, by omega⟩
theorem cn_s_ann {x : cn_Pc} {c d : Nat} (hI : cn_I x) (hdn : cn_dn x < 120) (hc : c < cn_md x) (gc : cn_G x c = 0) (hO : cn_O x (3 * c) = 3 * d) (hh : 3 * d < 1470) : cn_I (cn_ann (cn_kill (cn_pp x) c d) c d) := by
  obtain ⟨hd, gd, n, hT⟩ := cn_sf hI hc gc hO hh
  obtain ⟨hT0, h2, h3, h4, h5⟩ := hI
  have t4 := hT0.2.2.2.1
  have e4 := cn_ann_T hT n (cn_L_s hc gc (by omega) (by omega)) (cn_L_s hc gc (by omega) (by omega)) (cn_L_s' hd gd (by omega) (by omega)) (cn_L_s' hd gd (by omega) (by omega))
  refine cn_fin (x := x) (j := 0) e4 (by omega) (by rw [cn_dn_ann]; rfl) hdn (by rw [cn_md_ann]; rfl) (by omega) h3 (by rw [cn_td_ann]; exact h5) (fun a ha => ?_) (fun r => ?_) (fun r hr => ?_)
  · rw [cn_md_ann] at ha
    rw [cn_K_ann, cn_G_ann]
    exact ⟨(h4 a ha).1, cn_G2le (h4 a ha).2⟩
  · unfold cn_L
    rw [cn_md_ann, cn_G_ann]
    show ((r < 3 * cn_md x ∧ cn_up (cn_up (cn_G x) c 1) d 1 (r / 3) = 0) ∨ _) ↔ _
    rw [cn_G2]
    omega
  · unfold cn_E at hr
    rw [cn_md_ann, cn_G_ann, cn_K_ann] at hr
    obtain ⟨r1, r2, r3, r4⟩ := hr
    replace r1 : r < 3 * cn_md x := r1
    replace r2 : cn_up (cn_up (cn_G x) c 1) d 1 (r / 3) = 0 := r2
    rw [cn_G2] at r2
    have : cn_E x r := ⟨r1, r2.1, r3, r4⟩
    exact ⟨⟨⟨this, by omega, by omega⟩, by omega, by omega⟩, by omega, by omega⟩
theorem cn_up2 {f : Nat → Nat} {m k l j : Nat} : cn_up (cn_up f m k) (m + 1) l j = if j = m + 1 then l else if j = m then k else f j := rfl
theorem cn_md_era (x : cn_Pc) (c : Nat) : cn_md (cn_era x c) = cn_md x + 2 := by
  unfold cn_era
  rw [cn_md_take, cn_md_new, cn_md_take, cn_md_new]
theorem cn_dn_era (x : cn_Pc) (c : Nat) : cn_dn (cn_era x c) = cn_dn x := by
  unfold cn_era
  rw [cn_dn_take, cn_dn_new, cn_dn_take, cn_dn_new]
theorem cn_td_era (x : cn_Pc) (c : Nat) : cn_td (cn_era x c) = cn_td x := by
  unfold cn_era
  rw [cn_td_take, cn_td_new, cn_td_take, cn_td_new]
theorem cn_K_era (x : cn_Pc) (c : Nat) : cn_K (cn_era x c) = cn_up (cn_up (cn_K x) (cn_md x) 2) (cn_md x + 1) 2 := by
  unfold cn_era
  rw [cn_K_take, cn_K_new, cn_K_take, cn_K_new, cn_md_take, cn_md_new]
theorem cn_G_era (x : cn_Pc) (c : Nat) : cn_G (cn_era x c) = cn_up (cn_up (cn_G x) (cn_md x) 0) (cn_md x + 1) 0 := by
  unfold cn_era
  rw [cn_G_take, cn_G_new, cn_G_take, cn_G_new, cn_md_take, cn_md_new]
/-- erase: the eraser is a, the other one is e -/
theorem cn_s_era {x : cn_Pc} {c d a e : Nat} (hI : cn_I x) (hdn : cn_dn x < 120) (hc : c < cn_md x) (gc : cn_G x c = 0) (hO : cn_O x (3 * c) = 3 * d) (hh : 3 * d < 1470) (ha : (a = c ∧ e = d) ∨ (a = d ∧ e = c)) (ka : cn_K x a = 2) : cn_I (cn_era (cn_kill (cn_pp x) c d) e) := by
  obtain ⟨hd, gd, n, hT⟩ := cn_sf hI hc gc hO hh
  obtain ⟨hT0, h2, h3, h4, h5⟩ := hI
  have t4 := hT0.2.2.2.1
  have a1 : a < cn_md x ∧ cn_G x a = 0 := by rcases ha with z | z <;> (rw [z.1]; exact ⟨by assumption, by assumption⟩)
  have a2 : e < cn_md x ∧ cn_G x e = 0 := by rcases ha with z | z <;> (rw [z.2]; exact ⟨by assumption, by assumption⟩)
  have eA : ∀ s, 0 < s → s < 3 → cn_E x (3 * a + s) ∧ 3 * a + s ≠ 3 * c ∧ 3 * a + s ≠ 3 * d := fun s s1 s3 => ⟨(cn_E_s (d := d) a1.1 a1.2 ka s1 s3).1, by omega, by omega⟩
  have eL : ∀ s, 0 < s → s < 3 → cn_L x (3 * e + s) ∧ 3 * e + s ≠ 3 * c ∧ 3 * e + s ≠ 3 * d := fun s s1 s3 => ⟨(cn_L_s (d := d) a2.1 a2.2 s1 s3).1, by omega, by omega⟩
  have e1 := cn_T_drop hT (p := 3 * a + 1) (eA 1 (by omega) (by omega))
  have e2 := cn_T_drop e1 (p := 3 * a + 2) ⟨eA 2 (by omega) (by omega), by omega⟩
  have ne : a ≠ e := by omega
  have e4 := (cn_era_T (c := e) (m := cn_md x) e2 rfl (by omega) a2.1 ⟨⟨eL 1 (by omega) (by omega), by omega⟩, by omega⟩ ⟨⟨eL 2 (by omega) (by omega), by omega⟩, by omega⟩).2.2.2
  have kk : cn_md (cn_kill (cn_pp x) c d) = cn_md x := rfl
  have kG : cn_G (cn_kill (cn_pp x) c d) = cn_up (cn_up (cn_G x) c 1) d 1 := rfl
  have kK : cn_K (cn_kill (cn_pp x) c d) = cn_K x := rfl
  refine cn_fin (x := x) (j := 2) e4 (by omega) (by rw [cn_dn_era]; rfl) hdn (by rw [cn_md_era]; rfl) (by omega) h3 (by rw [cn_td_era]; exact h5) (fun i hi => ?_) (fun r => ?_) (fun r hr => ?_)
  · rw [cn_md_era, kk] at hi
    rw [cn_K_era, cn_G_era, kk, kG, kK, cn_up2, cn_up2]
    by_cases i1 : i = cn_md x + 1
    · rw [if_pos i1, if_pos i1]; omega
    · by_cases i2 : i = cn_md x
      · rw [if_neg i1, if_pos i2, if_neg i1, if_pos i2]; omega
      · rw [if_neg i1, if_neg i2, if_neg i1, if_neg i2]
        exact ⟨(h4 i (by omega)).1, cn_G2le (h4 i (by omega)).2⟩
  · unfold cn_L
    rw [cn_md_era, cn_G_era, kk, kG, cn_up2]
    by_cases i1 : r / 3 = cn_md x + 1
    · rw [if_pos i1]; omega
    · by_cases i2 : r / 3 = cn_md x
      · rw [if_neg i1, if_pos i2]; omega
      · rw [if_neg i1, if_neg i2, cn_G2]; omega
  · unfold cn_E at hr
    rw [cn_md_era, cn_G_era, cn_K_era, kk, kG, kK, cn_up2, cn_up2] at hr
    obtain ⟨r1, r2, r3, r4⟩ := hr
    by_cases i1 : r / 3 = cn_md x + 1
    · exact ⟨Or.inr (by omega), by omega, by omega⟩
    · by_cases i2 : r / 3 = cn_md x
      · exact ⟨Or.inl ⟨Or.inr (by omega), by omega, by omega⟩, by omega, by omega⟩
      · rw [if_neg i1, if_neg i2, cn_G2] at r2
        rw [if_neg i1, if_neg i2] at r3
        have : cn_E x r := ⟨by omega, r2.1, r3, r4⟩
        exact ⟨Or.inl ⟨Or.inl ⟨⟨⟨this, by omega, by omega⟩, by omega⟩, by omega⟩, by omega, by omega⟩, by omega, by omega⟩
theorem cn_md_n4 (x : cn_Pc) : cn_md (cn_n4 x) = cn_md x + 4 := rfl
theorem cn_K_n4 (x : cn_Pc) : cn_K (cn_n4 x) = cn_up (cn_up (cn_up (cn_up (cn_K x) (cn_md x) 1) (cn_md x + 1) 1) (cn_md x + 2) 0) (cn_md x + 3) 0 := rfl
theorem cn_G_n4 (x : cn_Pc) : cn_G (cn_n4 x) = cn_up (cn_up (cn_up (cn_up (cn_G x) (cn_md x) 0) (cn_md x + 1) 0) (cn_md x + 2) 0) (cn_md x + 3) 0 := rfl
theorem cn_md_com (x : cn_Pc) (c d : Nat) : cn_md (cn_com x c d) = cn_md x + 4 := by
  rw [cn_com_eq rfl]
  unfold cn_w4 cn_t4
  rw [cn_md_wire, cn_md_wire, cn_md_wire, cn_md_wire, cn_md_take, cn_md_take, cn_md_take, cn_md_take, cn_md_n4]
theorem cn_dn_com (x : cn_Pc) (c d : Nat) : cn_dn (cn_com x c d) = cn_dn x := by
  rw [cn_com_eq rfl]
  unfold cn_w4 cn_t4
  rw [cn_dn_wire, cn_dn_wire, cn_dn_wire, cn_dn_wire, cn_dn_take, cn_dn_take, cn_dn_take, cn_dn_take]
  rfl
theorem cn_td_com (x : cn_Pc) (c d : Nat) : cn_td (cn_com x c d) = cn_td x := by
  rw [cn_com_eq rfl]
  unfold cn_w4 cn_t4
  rw [cn_td_wire, cn_td_wire, cn_td_wire, cn_td_wire, cn_td_take, cn_td_take, cn_td_take, cn_td_take]
  rfl
theorem cn_K_com (x : cn_Pc) (c d : Nat) : cn_K (cn_com x c d) = cn_K (cn_n4 x) := by
  rw [cn_com_eq rfl]
  unfold cn_w4 cn_t4
  rw [cn_K_wire, cn_K_wire, cn_K_wire, cn_K_wire, cn_K_take, cn_K_take, cn_K_take, cn_K_take]
theorem cn_G_com (x : cn_Pc) (c d : Nat) : cn_G (cn_com x c d) = cn_G (cn_n4 x) := by
  rw [cn_com_eq rfl]
  unfold cn_w4 cn_t4
  rw [cn_G_wire, cn_G_wire, cn_G_wire, cn_G_wire, cn_G_take, cn_G_take, cn_G_take, cn_G_take]
theorem cn_up4_n {f : Nat → Nat} {m a b c d j : Nat} (h : j < m) : cn_up (cn_up (cn_up (cn_up f m a) (m + 1) b) (m + 2) c) (m + 3) d j = f j := by
  rw [cn_un (by omega), cn_un (by omega), cn_un (by omega), cn_un (by omega)]
theorem cn_up4_0 {f : Nat → Nat} {m j : Nat} (h : m ≤ j) (h4 : j < m + 4) : cn_up (cn_up (cn_up (cn_up f m 0) (m + 1) 0) (m + 2) 0) (m + 3) 0 j = 0 := by
  unfold cn_up
  split
  · rfl
  · split
    · rfl
    · split
      · rfl
      · split
        · rfl
        · omega
theorem cn_up4_K {f : Nat → Nat} {m j : Nat} (h : m ≤ j) (h4 : j < m + 4) : cn_up (cn_up (cn_up (cn_up f m 1) (m + 1) 1) (m + 2) 0) (m + 3) 0 j ≤ 1 := by
  unfold cn_up
  split
  · omega
  · split
    · omega
    · split
      · omega
      · split
        · omega
        · omega
theorem cn_s_com {x : cn_Pc} {c d a e : Nat} (hI : cn_I x) (hdn : cn_dn x < 120) (hc : c < cn_md x) (gc : cn_G x c = 0) (hO : cn_O x (3 * c) = 3 * d) (hh : 3 * d < 1470) (ha : (a = c ∧ e = d) ∨ (a = d ∧ e = c)) : cn_I (cn_com (cn_kill (cn_pp x) c d) a e) := by
  obtain ⟨hd, gd, n, hT⟩ := cn_sf hI hc gc hO hh
  obtain ⟨hT0, h2, h3, h4, h5⟩ := hI
  have t4 := hT0.2.2.2.1
  have a1 : a < cn_md x ∧ cn_G x a = 0 := by rcases ha with z | z <;> (rw [z.1]; exact ⟨by assumption, by assumption⟩)
  have a2 : e < cn_md x ∧ cn_G x e = 0 := by rcases ha with z | z <;> (rw [z.2]; exact ⟨by assumption, by assumption⟩)
  have aL : ∀ s, 0 < s → s < 3 → cn_L x (3 * a + s) ∧ 3 * a + s ≠ 3 * c ∧ 3 * a + s ≠ 3 * d := fun s s1 s3 => ⟨(cn_L_s (d := d) a1.1 a1.2 s1 s3).1, by omega, by omega⟩
  have eL : ∀ s, 0 < s → s < 3 → cn_L x (3 * e + s) ∧ 3 * e + s ≠ 3 * c ∧ 3 * e + s ≠ 3 * d := fun s s1 s3 => ⟨(cn_L_s (d := d) a2.1 a2.2 s1 s3).1, by omega, by omega⟩
  have ne : a ≠ e := by omega
  have e4 := cn_com_T (c := a) (d := e) (m := cn_md x) hT rfl (by omega) a1.1 a2.1 ne (aL 1 (by omega) (by omega)) (aL 2 (by omega) (by omega)) (eL 1 (by omega) (by omega)) (eL 2 (by omega) (by omega))
  have kk : cn_md (cn_kill (cn_pp x) c d) = cn_md x := rfl
  have kG : cn_G (cn_kill (cn_pp x) c d) = cn_up (cn_up (cn_G x) c 1) d 1 := rfl
  have kK : cn_K (cn_kill (cn_pp x) c d) = cn_K x := rfl
  refine cn_fin (x := x) (j := 4) e4 (by omega) (by rw [cn_dn_com]; rfl) hdn (by rw [cn_md_com]; rfl) (by omega) h3 (by rw [cn_td_com]; exact h5) (fun i hi => ?_) (fun r => ?_) (fun r hr => ?_)
  · rw [cn_md_com, kk] at hi
    rw [cn_K_com, cn_G_com, cn_K_n4, cn_G_n4, kk, kG, kK]
    by_cases i1 : i < cn_md x
    · rw [cn_up4_n i1, cn_up4_n i1]
      exact ⟨(h4 i i1).1, cn_G2le (h4 i i1).2⟩
    · rw [cn_up4_0 (by omega) (by omega)]
      have := cn_up4_K (f := cn_K x) (m := cn_md x) (j := i) (by omega) (by omega)
      omega
  · unfold cn_L
    rw [cn_md_com, cn_G_com, cn_G_n4, kk, kG]
    by_cases i1 : r / 3 < cn_md x
    · rw [cn_up4_n i1, cn_G2]
      omega
    · by_cases i2 : r / 3 < cn_md x + 4
      · rw [cn_up4_0 (by omega) (by omega)]
        omega
      · have e1 : ¬ r < 3 * (cn_md x + 4) := by omega
        have e2 : ¬ r < 3 * cn_md x := by omega
        constructor
        · intro t
          rcases t with t | t
          · exact absurd t.1 e1
          · exact Or.inl ⟨⟨⟨Or.inr t, by omega, by omega⟩, by omega, by omega⟩, by omega, by omega⟩
        · intro t
          rcases t with t | t
          · rcases t.1.1.1 with z | z
            · exact absurd z.1 e2
            · exact Or.inr z
          · omega
  · unfold cn_E at hr
    rw [cn_md_com, cn_G_com, cn_K_com, cn_G_n4, cn_K_n4, kk, kG, kK] at hr
    obtain ⟨r1, r2, r3, r4⟩ := hr
    by_cases i1 : r / 3 < cn_md x
    · rw [cn_up4_n i1, cn_G2] at r2
      rw [cn_up4_n i1] at r3
      have : cn_E x r := ⟨by omega, r2.1, r3, r4⟩
      exact ⟨⟨this, by omega, by omega⟩, by omega, by omega, by omega, by omega, by omega⟩
    · have := cn_up4_K (f := cn_K x) (m := cn_md x) (j := r / 3) (by omega) (by omega)
      omega
end
section
theorem cn_step_I {x : cn_Pc} {c d : Nat} (hI : cn_I x) (hdn : cn_dn x < 120) (hc : c < cn_md x) (gc : cn_G x c = 0) (hO : cn_O x (3 * c) = 3 * d) (hh : 3 * d < 1470) : cn_I (cn_step (cn_pp x) c d) := by
  unfold cn_step
  split
  · next z => exact cn_s_two hI hdn hc gc hO hh z.1 z.2
  · split
    · exact cn_s_ann hI hdn hc gc hO hh
    · split
      · next z => exact cn_s_era hI hdn hc gc hO hh (Or.inl ⟨rfl, rfl⟩) z
      · split
        · next z => exact cn_s_era hI hdn hc gc hO hh (Or.inr ⟨rfl, rfl⟩) z
        · split
          · exact cn_s_com hI hdn hc gc hO hh (Or.inl ⟨rfl, rfl⟩)
          · exact cn_s_com hI hdn hc gc hO hh (Or.inr ⟨rfl, rfl⟩)
theorem cn_step_wp {post : St1 → Prop} {N : cn_Nt} {x : cn_Pc} {u : St1} {P Q : Int32} (c d : Nat) (hP : P = nI c) (hQ : Q = nI d) (hM : cn_M N (cn_pp x) u) (hI : cn_I x) (hdn : cn_dn x < 120) (hc : c < cn_md x) (gc : cn_G x c = 0) (hO : cn_O x (3 * c) = 3 * d) (hh : 3 * d < 1470) (H : ∀ u', cn_M N (cn_step (cn_pp x) c d) u' → post u') : wpX_step post u P Q := by
  obtain ⟨hd, gd, n, hT⟩ := cn_sf hI hc gc hO hh
  obtain ⟨f0, f1, f2, f3, f4, f5, f6, a1, a2, a3, a4, a5, a6, a7, a8⟩ := u
  obtain ⟨⟨n1, n2, n3⟩, m1, m2, m3, m4, m5, m6, m7, m8, m9⟩ := hM
  obtain ⟨hT0, h2, h3, h4, h5⟩ := hI
  have t4 := hT0.2.2.2.1
  subst hP hQ
  have kc : a3 c = nI (cn_K x c) := m6 c hc
  have kd : a3 d = nI (cn_K x d) := m6 d hd
  have Kc := (h4 c hc).1
  have Kd := (h4 d hd).1
  have hMk : cn_M N (cn_kill (cn_pp x) c d) (f0, f1, f2, f3, f4, f5, f6, a1, a2, a3, upd (upd a4 c 1) d 1, a5, a6, a7, a8) := ⟨⟨n1, n2, n3⟩, m1, m2, m3, m4, m5, m6, cn_updN (cn_updN m7 rfl) rfl, m8, m9⟩
  unfold cn_step at H
  have H35 : ¬ (cn_K x c = 2 ∧ cn_K x d = 2) → wX_step_35 post (nI c) (nI d) f0 f1 f2 f3 f4 f5 f6 a1 a2 a3 (upd (upd a4 c 1) d 1) a5 a6 a7 a8 := by
    intro z
    rw [if_neg (show ¬ (cn_K (cn_pp x) c = 2 ∧ cn_K (cn_pp x) d = 2) from z)] at H
    unfold wX_step_35
    rw [nI_clamp (show c < 2 ^ 31 by omega), nI_clamp (show d < 2 ^ 31 by omega)]
    refine ⟨pk_in c 490 (by omega), pk_in d 490 (by omega), pk_eq (cn_K x c) (cn_K x d) (fun z1 => ?_) (fun z1 => ⟨pk_in c 490 (by omega), pk_eq (cn_K x c) 2 (fun z2 => ?_) (fun z2 => ⟨pk_in d 490 (by omega), pk_eq (cn_K x d) 2 (fun z3 => ?_) (fun z3 => ⟨pk_in c 490 (by omega), pk_eq (cn_K x c) 0 (fun z4 => ?_) (fun z4 => ?_) (hx := kc)⟩) (hx := kd)⟩) (hx := kc)⟩) (hx := kc) (hy := kd)⟩
    · rw [if_pos (show cn_K (cn_pp x) c = cn_K (cn_pp x) d from z1)] at H
      refine cn_ann_wp c d rfl rfl hMk hT n (cn_L_s hc gc (by omega) (by omega)) (cn_L_s hc gc (by omega) (by omega)) (cn_L_s' hd gd (by omega) (by omega)) (cn_L_s' hd gd (by omega) (by omega)) (by omega) (fun u' hu => ?_)
      obtain ⟨g0, g1, g2, g3, g4, g5, g6, b1, b2, b3, b4, b5, b6, b7, b8⟩ := u'
      exact H _ hu
    · rw [if_neg (show ¬ cn_K (cn_pp x) c = cn_K (cn_pp x) d from z1), if_pos (show cn_K (cn_pp x) c = 2 from z2)] at H
      refine cn_era_wp d (cn_md x) rfl hMk hT rfl (by omega) hd (cn_L_s' hd gd (by omega) (by omega)) (cn_L_s' hd gd (by omega) (by omega)) (by omega) (fun u' hu => ?_)
      obtain ⟨g0, g1, g2, g3, g4, g5, g6, b1, b2, b3, b4, b5, b6, b7, b8⟩ := u'
      exact H _ hu
    · rw [if_neg (show ¬ cn_K (cn_pp x) c = cn_K (cn_pp x) d from z1), if_neg (show ¬ cn_K (cn_pp x) c = 2 from z2), if_pos (show cn_K (cn_pp x) d = 2 from z3)] at H
      refine cn_era_wp c (cn_md x) rfl hMk hT rfl (by omega) hc (cn_L_s hc gc (by omega) (by omega)) (cn_L_s hc gc (by omega) (by omega)) (by omega) (fun u' hu => ?_)
      obtain ⟨g0, g1, g2, g3, g4, g5, g6, b1, b2, b3, b4, b5, b6, b7, b8⟩ := u'
      exact H _ hu
    · rw [if_neg (show ¬ cn_K (cn_pp x) c = cn_K (cn_pp x) d from z1), if_neg (show ¬ cn_K (cn_pp x) c = 2 from z2), if_neg (show ¬ cn_K (cn_pp x) d = 2 from z3), if_pos (show cn_K (cn_pp x) c = 0 from z4)] at H
      refine cn_com_wp c d (cn_md x) rfl rfl hMk hT rfl (by omega) hc hd n (cn_L_s hc gc (by omega) (by omega)) (cn_L_s hc gc (by omega) (by omega)) (cn_L_s' hd gd (by omega) (by omega)) (cn_L_s' hd gd (by omega) (by omega)) (by omega) (fun u' hu => ?_)
      obtain ⟨g0, g1, g2, g3, g4, g5, g6, b1, b2, b3, b4, b5, b6, b7, b8⟩ := u'
      exact H _ hu
    · rw [if_neg (show ¬ cn_K (cn_pp x) c = cn_K (cn_pp x) d from z1), if_neg (show ¬ cn_K (cn_pp x) c = 2 from z2), if_neg (show ¬ cn_K (cn_pp x) d = 2 from z3), if_neg (show ¬ cn_K (cn_pp x) c = 0 from z4)] at H
      refine cn_com_wp d c (cn_md x) rfl rfl hMk hT rfl (by omega) hd hc (fun e => n e.symm) (cn_L_s' hd gd (by omega) (by omega)) (cn_L_s' hd gd (by omega) (by omega)) (cn_L_s hc gc (by omega) (by omega)) (cn_L_s hc gc (by omega) (by omega)) (by omega) (fun u' hu => ?_)
      obtain ⟨g0, g1, g2, g3, g4, g5, g6, b1, b2, b3, b4, b5, b6, b7, b8⟩ := u'
      exact H _ hu
  unfold wpX_step
  dsimp only
  rw [nI_clamp (show c < 2 ^ 31 by omega), nI_clamp (show d < 2 ^ 31 by omega)]
  refine ⟨pk_in c 490 (by omega), nm_e ⟨pk_in d 490 (by omega), nm_e ⟨pk_in c 490 (by omega), pk_eq (cn_K x c) 2 (fun z1 => ⟨pk_in d 490 (by omega), pk_eq (cn_K x d) 2 (fun z2 => ?_) (fun z2 => H35 (fun t => z2 t.2)) (hx := kd)⟩) (fun z1 => H35 (fun t => z1 t.1)) (hx := kc)⟩⟩⟩
  rw [if_pos (show cn_K (cn_pp x) c = 2 ∧ cn_K (cn_pp x) d = 2 from ⟨z1, z2⟩)] at H
  exact H _ hMk
/-! a round -/
def cn_pop (x : cn_Pc) : cn_Pc := cn_mk (cn_md x) (cn_K x) (cn_G x) (cn_O x) (cn_dn x) (cn_lp x) (cn_td x) (cn_wt x - 1) (cn_W x)
def cn_tir (x : cn_Pc) : cn_Pc := cn_mk (cn_md x) (cn_K x) (cn_G x) (cn_O x) (cn_dn x) (cn_lp x) 1 0 (cn_W x)
/-- the cell on top -/
def cn_top (x : cn_Pc) : Nat := cn_W x (cn_wt x - 1)
def cn_rnd (x : cn_Pc) : cn_Pc := if cn_G x (cn_top x) = 0 ∧ cn_hd (cn_O x (3 * cn_top x)) = true then (if cn_dn x = 120 then cn_tir x else cn_step (cn_pp x) (cn_top x) (cn_O x (3 * cn_top x) / 3)) else cn_pop x
def cn_run : Nat → cn_Pc → cn_Pc
  | 0, x => x
  | n + 1, x => if cn_wt x = 0 then x else cn_run n (cn_rnd x)
theorem cn_run_0 {n : Nat} {x : cn_Pc} (h : cn_wt x = 0) : cn_run n x = x := by
  cases n with
  | zero => rfl
  | succ n => exact if_pos h
theorem cn_run_s {n : Nat} {x : cn_Pc} (h : cn_wt x ≠ 0) : cn_run (n + 1) x = cn_run n (cn_rnd x) := if_neg h
theorem cn_I_pop {x : cn_Pc} (hI : cn_I x) : cn_I (cn_pop x) := by
  obtain ⟨⟨t1, t2, t3, t4, t5, t6⟩, h2, h3, h4, h5⟩ := hI
  refine ⟨⟨t1, t2, t3, t4, ?_, fun i hi => t6 i ?_⟩, h2, h3, h4, h5⟩
  · show cn_wt x - 1 ≤ 10 + 8 * cn_dn x
    omega
  · have : i < cn_wt x - 1 := hi
    omega
theorem cn_I_tir {x : cn_Pc} (hI : cn_I x) : cn_I (cn_tir x) := by
  obtain ⟨⟨t1, t2, t3, t4, t5, t6⟩, h2, h3, h4, h5⟩ := hI
  exact ⟨⟨t1, t2, t3, t4, Nat.zero_le _, fun i hi => absurd hi (Nat.not_lt_zero i)⟩, h2, h3, h4, Nat.le_refl 1⟩
theorem cn_rnd_I {x : cn_Pc} (hI : cn_I x) (hw : cn_wt x ≠ 0) : cn_I (cn_rnd x) := by
  have hc : cn_top x < cn_md x := hI.1.2.2.2.2.2 _ (by omega)
  have hdn := hI.2.1
  unfold cn_rnd
  split
  · next z =>
    have zh := cn_hd_e z.2
    split
    · exact cn_I_tir hI
    · exact cn_step_I hI (by omega) hc z.1 (by omega) (by omega)
  · exact cn_I_pop hI
theorem cn_run_I : ∀ (n : Nat) (x : cn_Pc), cn_I x → cn_I (cn_run n x) := by
  intro n
  induction n with
  | zero => exact fun x h => h
  | succ n ih =>
    intro x h
    by_cases z : cn_wt x = 0
    · rw [cn_run_0 z]
      exact h
    · rw [cn_run_s z]
      exact ih _ (cn_rnd_I h z)
def cn_kn (u : St1) : Int32 := u.2.1
theorem cn_run14 {post : St1 → Prop} {N : cn_Nt} : ∀ (n i : Nat) (x : cn_Pc) (f0 f1 f2 f3 f4 f5 f6 : Int32) (a1 a2 a3 a4 a5 a6 a7 a8 : Nat → Int32), i + n = 1000 → cn_I x → cn_M N x (f0, f1, f2, f3, f4, f5, f6, a1, a2, a3, a4, a5, a6, a7, a8) → (∀ u', cn_kn u' = 1 → cn_M N (cn_run n x) u' → post u') → wX_run_14 post (n + 1) (nI i) f0 f1 f2 f3 f4 f5 f6 a1 a2 a3 a4 a5 a6 a7 a8 := by
  intro n
  induction n with
  | zero =>
    intro i x f0 f1 f2 f3 f4 f5 f6 a1 a2 a3 a4 a5 a6 a7 a8 hi hI hM H
    exact pk_le 1000 i (fun _ => H _ rfl hM) (fun z => absurd z (by omega))
  | succ n ih =>
    intro i x f0 f1 f2 f3 f4 f5 f6 a1 a2 a3 a4 a5 a6 a7 a8 hi hI hM H
    have hM' := hM
    obtain ⟨⟨n1, n2, n3⟩, m1, m2, m3, m4, m5, m6, m7, m8, m9⟩ := hM
    have hI' := hI
    obtain ⟨⟨t1, t2, t3, t4, t5, t6⟩, h2, h3, h4, h5⟩ := hI
    refine pk_le 1000 i (fun z => absurd z (by omega)) (fun _ => pk_le (cn_wt x) 0 (fun z => ?_) (fun z => ?_) (hx := m5))
    · rw [cn_run_0 (by omega)] at H
      exact H _ rfl hM'
    · rw [cn_run_s (by omega)] at H
      have hc : cn_top x < cn_md x := t6 _ (by omega)
      refine nm_r (e' := nI (cn_wt x - 1)) (by rw [m5]; exact pk_sub (b := 1) (by omega)) ⟨pk_in (cn_wt x - 1) 1000 (by omega), nm_r (e' := nI (cn_top x)) (by rw [nI_clamp (by omega)]; exact m9 _ (by omega)) ?_⟩
      refine cn_faces (cn_top x) (cn_G x (cn_top x)) (cn_O x (3 * cn_top x)) rfl (by omega) (m7 _ hc) (h4 _ hc).2 (m8 _ (Or.inl (by omega))) (fun g => ?_) (fun g hh => br_f (by decide) ?_) (fun g => br_t rfl ?_)
      · have l1 : cn_L x (3 * cn_top x) := Or.inl ⟨by omega, by rw [show 3 * cn_top x / 3 = cn_top x by omega]; exact g⟩
        rcases (t1 _ l1).2 with y | y
        · exact Or.inr y
        · have := t2 _ y.1
          unfold cn_R at this
          omega
      · have eh := cn_hd_e hh
        refine pk_eq (cn_dn x) 120 (fun y => ?_) (fun y => ?_) (hx := m2)
        · have e : cn_rnd x = cn_tir x := by
            unfold cn_rnd
            rw [if_pos ⟨g, hh⟩, if_pos y]
          rw [e] at H
          exact nm_r (nI_1 i) (ih (i + 1) (cn_tir x) _ _ _ _ _ _ _ _ _ _ _ _ _ _ _ (by omega) (cn_I_tir hI') ⟨⟨n1, n2, n3⟩, m1, m2, m3, rfl, rfl, m6, m7, m8, fun j hj => absurd hj (Nat.not_lt_zero j)⟩ H)
        · have e : cn_rnd x = cn_step (cn_pp x) (cn_top x) (cn_O x (3 * cn_top x) / 3) := by
            unfold cn_rnd
            rw [if_pos ⟨g, hh⟩, if_neg y]
          rw [e] at H
          refine nm_r (e' := nI (cn_dn x + 1)) (by rw [m2, nI_1]) ⟨pk_in (3 * cn_top x) 1474 (by omega) (cn_3 _), by decide, ?_⟩
          refine cn_step_wp (x := x) (N := N) (cn_top x) (cn_O x (3 * cn_top x) / 3) rfl ?_ ⟨⟨n1, n2, n3⟩, m1, rfl, m3, m4, rfl, m6, m7, m8, fun j hj => m9 j ?_⟩ hI' (by omega) hc g (by omega) (by omega) (fun u' hu => ?_)
          · rw [cn_3, nI_clamp (by omega), m8 _ (Or.inl (by omega)), cn_en_n (by omega)]
            exact pk_div (d := 3) (by omega) (by decide) (by decide)
          · have : j < cn_wt x - 1 := hj
            omega
          · obtain ⟨g0, g1, g2, g3, g4, g5, g6, b1, b2, b3, b4, b5, b6, b7, b8⟩ := u'
            exact nm_r (nI_1 i) (ih (i + 1) _ _ _ _ _ _ _ _ _ _ _ _ _ _ _ _ (by omega) (cn_step_I hI' (by omega) hc g (by omega) (by omega)) hu H)
      · have e : cn_rnd x = cn_pop x := by
          unfold cn_rnd
          rw [if_neg g]
        rw [e] at H
        refine nm_r (nI_1 i) (ih (i + 1) (cn_pop x) _ _ _ _ _ _ _ _ _ _ _ _ _ _ _ (by omega) (cn_I_pop hI') ⟨⟨n1, n2, n3⟩, m1, m2, m3, m4, rfl, m6, m7, m8, fun j hj => m9 j ?_⟩ H)
        have : j < cn_wt x - 1 := hj
        omega
end
section
/-! the net and its copy -/
def cn_cpP (p : Nat) : Nat := if p = 5000 then 5000 else if p < 30 then p else p + 1440
theorem cn_cp5 : cn_cpP 5000 = 5000 := rfl
theorem cn_cpl {p : Nat} (h : p < 30) : cn_cpP p = p := by
  unfold cn_cpP
  rw [if_neg (by omega), if_pos h]
theorem cn_cpg {p : Nat} (h : 30 ≤ p) (h2 : p < 34) : cn_cpP p = p + 1440 := by
  unfold cn_cpP
  rw [if_neg (by omega), if_neg (by omega)]
def cn_O0 (w : Nat → Nat) (p : Nat) : Nat := if p < 30 then cn_cpP (w p) else cn_cpP (w (p - 1440))
theorem cn_O0l {w : Nat → Nat} {p : Nat} (h : p < 30) : cn_O0 w p = cn_cpP (w p) := if_pos h
theorem cn_O0g {w : Nat → Nat} {p : Nat} (h : 1470 ≤ p) : cn_O0 w p = cn_cpP (w (p - 1440)) := if_neg (by omega)
/-- the cells that face one, in order -/
def cn_q (f : Nat → Bool) : Nat → Nat × (Nat → Nat)
  | 0 => (0, fun _ => 0)
  | c + 1 => if f c = true then ((cn_q f c).1 + 1, cn_up (cn_q f c).2 (cn_q f c).1 c) else cn_q f c
theorem cn_q_t {f : Nat → Bool} {c : Nat} (h : f c = true) : cn_q f (c + 1) = ((cn_q f c).1 + 1, cn_up (cn_q f c).2 (cn_q f c).1 c) := if_pos h
theorem cn_q_f {f : Nat → Bool} {c : Nat} (h : ¬ f c = true) : cn_q f (c + 1) = cn_q f c := if_neg h
theorem cn_q_ok (f : Nat → Bool) : ∀ n, (cn_q f n).1 ≤ n ∧ (∀ i, i < (cn_q f n).1 → (cn_q f n).2 i < n ∧ f ((cn_q f n).2 i) = true) ∧ (∀ c, c < n → f c = true → ∃ i, i < (cn_q f n).1 ∧ (cn_q f n).2 i = c) := by
  intro n
  induction n with
  | zero => exact ⟨Nat.le_refl _, fun i hi => absurd hi (Nat.not_lt_zero i), fun c hc => absurd hc (Nat.not_lt_zero c)⟩
  | succ n ih =>
    obtain ⟨h1, h2, h3⟩ := ih
    by_cases z : f n = true
    · rw [cn_q_t z]
      refine ⟨Nat.succ_le_succ h1, fun i hi => ?_, fun c hc hf => ?_⟩
      · show cn_up (cn_q f n).2 (cn_q f n).1 n i < n + 1 ∧ f (cn_up (cn_q f n).2 (cn_q f n).1 n i) = true
        have hi' : i < (cn_q f n).1 + 1 := hi
        by_cases e : i = (cn_q f n).1
        · rw [e, cn_us]
          exact ⟨by omega, z⟩
        · rw [cn_un e]
          have := h2 i (by omega)
          exact ⟨by omega, this.2⟩
      · show ∃ i, i < (cn_q f n).1 + 1 ∧ cn_up (cn_q f n).2 (cn_q f n).1 n i = c
        by_cases e : c = n
        · exact ⟨(cn_q f n).1, by omega, by rw [cn_us, e]⟩
        · obtain ⟨i, i1, i2⟩ := h3 c (by omega) hf
          exact ⟨i, by omega, by rw [cn_un (by omega)]; exact i2⟩
    · rw [cn_q_f z]
      refine ⟨by omega, fun i hi => ?_, fun c hc hf => ?_⟩
      · have := h2 i hi
        exact ⟨by omega, this.2⟩
      · by_cases e : c = n
        · rw [e] at hf
          exact absurd hf z
        · exact h3 c (by omega) hf
def cn_fc (N : cn_Nt) (c : Nat) : Bool := cn_hd (cn_O0 N.2.2 (3 * c))
def cn_cp (N : cn_Nt) : cn_Pc := cn_mk N.1 N.2.1 (fun _ => 0) (cn_O0 N.2.2) 0 0 0 (cn_q (cn_fc N) N.1).1 (cn_q (cn_fc N) N.1).2
/-- a port that a wire may have -/
def cn_gd (N : cn_Nt) (p : Nat) : Prop := 30 ≤ p ∨ (p / 3 < N.1 ∧ (N.2.1 (p / 3) = 2 → p % 3 = 0))
def cn_IN (N : cn_Nt) : Prop := N.1 ≤ 10 ∧ (∀ c, c < N.1 → N.2.1 c ≤ 2) ∧ (∀ p, p < 34 → N.2.2 p = 5000 ∨ (cn_gd N p ∧ N.2.2 p < 34 ∧ cn_gd N (N.2.2 p) ∧ N.2.2 (N.2.2 p) = p ∧ N.2.2 p ≠ p))
theorem cn_cp_I {N : cn_Nt} (hN : cn_IN N) : cn_I (cn_cp N) := by
  obtain ⟨h1, h2, h3⟩ := hN
  obtain ⟨q1, q2, q3⟩ := cn_q_ok (cn_fc N) N.1
  refine ⟨⟨?_, ?_, ?_, ?_, ?_, fun i hi => (q2 i hi).1⟩, Nat.zero_le _, by show N.1 ≤ 10 + 4 * 0; omega, fun c hc => ⟨h2 c hc, Nat.zero_le _⟩, Nat.zero_le _⟩
  · intro p hp
    show p < 5000 ∧ (cn_O0 N.2.2 p = 5000 ∨ (cn_L (cn_cp N) (cn_O0 N.2.2 p) ∧ cn_O0 N.2.2 (cn_O0 N.2.2 p) = p ∧ cn_O0 N.2.2 p ≠ p))
    rcases hp with hp | hp
    · have p3 : p < 3 * N.1 := hp.1
      refine ⟨by omega, ?_⟩
      rw [cn_O0l (by omega)]
      rcases h3 p (by omega) with z | z
      · left
        rw [z, cn_cp5]
      · right
        obtain ⟨z1, z2, z3, z4, z5⟩ := z
        by_cases e : N.2.2 p < 30
        · rw [cn_cpl e, cn_O0l e, z4, cn_cpl (by omega)]
          refine ⟨Or.inl ⟨?_, rfl⟩, rfl, z5⟩
          show N.2.2 p < 3 * N.1
          rcases z3 with z3 | z3
          · omega
          · omega
        · rw [cn_cpg (by omega) z2, cn_O0g (by omega), show N.2.2 p + 1440 - 1440 = N.2.2 p by omega, z4, cn_cpl (by omega)]
          exact ⟨Or.inr (by omega), rfl, by omega⟩
    · refine ⟨by omega, ?_⟩
      rw [cn_O0g (by omega)]
      rcases h3 (p - 1440) (by omega) with z | z
      · left
        rw [z, cn_cp5]
      · right
        obtain ⟨z1, z2, z3, z4, z5⟩ := z
        by_cases e : N.2.2 (p - 1440) < 30
        · rw [cn_cpl e, cn_O0l e, z4, cn_cpg (by omega) (by omega)]
          refine ⟨Or.inl ⟨?_, rfl⟩, by omega, by omega⟩
          show N.2.2 (p - 1440) < 3 * N.1
          rcases z3 with z3 | z3
          · omega
          · omega
        · rw [cn_cpg (by omega) z2, cn_O0g (by omega), show N.2.2 (p - 1440) + 1440 - 1440 = N.2.2 (p - 1440) by omega, z4, cn_cpg (by omega) (by omega)]
          exact ⟨Or.inr (by omega), by omega, by omega⟩
  · intro r hr
    rcases hr with z | z
    · exact Or.inl z.1
    · exact Or.inr z
  · intro r hr
    obtain ⟨r1, r2, r3, r4⟩ := hr
    replace r1 : r < 3 * N.1 := r1
    replace r3 : N.2.1 (r / 3) = 2 := r3
    refine ⟨Or.inl ⟨r1, r2⟩, ?_⟩
    show cn_O0 N.2.2 r = 5000
    rw [cn_O0l (by omega)]
    rcases h3 r (by omega) with z | z
    · rw [z, cn_cp5]
    · rcases z.1 with y | y
      · omega
      · exact absurd (y.2 r3) r4
  · show N.1 ≤ 490
    omega
  · show (cn_q (cn_fc N) N.1).1 ≤ 10 + 8 * 0
    omega
theorem cn_copyPort {post : Int32 → Prop} {u : St1} {P : Int32} (p : Nat) (hP : P = cn_en p) (hp : p < 34 ∨ p = 5000) (H : post (cn_en (cn_cpP p))) : wpX_copyPort post u P := by
  obtain ⟨f0, f1, f2, f3, f4, f5, f6, a1, a2, a3, a4, a5, a6, a7, a8⟩ := u
  unfold wpX_copyPort
  dsimp only
  refine cn_brO p hP (by omega) (fun z => ?_) (fun z e => ?_)
  · rw [z, cn_cp5, cn_en_o] at H
    exact H
  · refine pk_le 30 p (fun y => ?_) (fun y => ?_) (hy := e)
    · rw [cn_cpg y (by omega), cn_en_n (by omega)] at H
      rw [e, show nI p - 30 = nI (p - 30) from pk_sub (b := 30) y, show nI (p - 30) + 1470 = nI (p - 30 + 1470) from nI_add _ 1470, show p - 30 + 1470 = p + 1440 by omega]
      exact H
    · rw [cn_cpl y] at H
      rw [hP]
      exact H
theorem cn_fill {f s : Nat → Int32} {i k : Nat} {x : Int32} (hk : k = i) (h : ∀ j, j < i → s j = f j) (hx : x = f i) : ∀ j, j < i + 1 → upd s k x j = f j := by
  intro j hj
  rw [hk]
  by_cases e : j = i
  · rw [e, pk_us, hx]
  · rw [pk_un e]
    exact h j (by omega)
theorem cn_c101 {post : St1 → Prop} {N : cn_Nt} {f0 f1 : Int32} {a1 a2 a3 a4 a5 a6 a7 a8 : Nat → Int32} (hN : cn_IN N) (n1 : f0 = nI N.1) (n2 : ∀ c, c < N.1 → a1 c = nI (N.2.1 c)) (n3 : ∀ p, p < 34 → a2 p = cn_en (N.2.2 p)) (k3 : ∀ c, c < N.1 → a3 c = nI (N.2.1 c)) (k4 : ∀ c, c < N.1 → a4 c = nI 0) (k5 : ∀ p, cn_R N.1 p → a5 p = cn_en (cn_O0 N.2.2 p)) (H : ∀ u', cn_M N (cn_cp N) u' → post u') : ∃ n, wX_copyNet_101 post f0 f1 f0 0 0 0 n 0 0 a1 a2 a3 a4 a5 a6 a7 a8 := by
  have hI := cn_cp_I hN
  obtain ⟨h1, h2, h3⟩ := hN
  refine pk_loop (fun n i s => wX_copyNet_101 post f0 f1 f0 0 0 0 n (nI i) (nI (cn_q (cn_fc N) i).1) a1 a2 a3 a4 a5 s a7 a8) (fun i s => ∀ j, j < (cn_q (cn_fc N) i).1 → s j = nI ((cn_q (cn_fc N) i).2 j)) N.1 0 a6 (by omega) (fun j hj => absurd hj (Nat.not_lt_zero j)) ?_ ?_
  · intro n s hs
    refine pk_le N.1 N.1 (fun _ => H _ ?_) (fun z => absurd z (by omega)) (hx := n1)
    exact ⟨⟨n1, n2, n3⟩, n1, rfl, rfl, rfl, rfl, k3, k4, k5, hs⟩
  · intro n i s hi hs hw
    have t : ∀ s' : Nat → Int32, (∀ j, j < (cn_q (cn_fc N) (i + 1)).1 → s' j = nI ((cn_q (cn_fc N) (i + 1)).2 j)) → wX_copyNet_101 post f0 f1 f0 0 0 0 n (nI (i + 1)) (nI (cn_q (cn_fc N) (i + 1)).1) a1 a2 a3 a4 a5 s' a7 a8 := hw
    have q1 := (cn_q_ok (cn_fc N) i).1
    refine pk_le N.1 i (fun z => absurd z (by omega)) (fun _ => ?_) (hx := n1)
    have l1 : cn_L (cn_cp N) (3 * i) := Or.inl ⟨by show 3 * i < 3 * N.1; omega, rfl⟩
    refine cn_faces i 0 (cn_O0 N.2.2 (3 * i)) rfl (by omega) (k4 i hi) (by omega) (k5 _ (Or.inl (by omega))) (fun _ => ?_) (fun _ hh => br_f (by decide) ?_) (fun z => br_t rfl ?_)
    · rcases (hI.1.1 _ l1).2 with y | y
      · exact Or.inr y
      · exact Or.inl (cn_T_lt hI.1 y.1)
    · rw [cn_q_t (f := cn_fc N) (c := i) hh] at t
      refine ⟨pk_in (cn_q (cn_fc N) i).1 1000 (by omega), nm_r (by rw [nI_clamp (by omega)]) (nm_r (nI_1 _) (nm_r (nI_1 i) (t _ ?_)))⟩
      exact cn_updS hs rfl
    · rw [cn_q_f (f := cn_fc N) (c := i) (fun y => z ⟨rfl, y⟩)] at t
      exact nm_r (nI_1 i) (t _ hs)
theorem cn_c37 {post : St1 → Prop} {N : cn_Nt} {f0 f1 f2 f3 f4 f5 f6 : Int32} {a1 a2 a3 a4 a5 a6 a7 a8 : Nat → Int32} (hN : cn_IN N) (n1 : f0 = nI N.1) (n2 : ∀ c, c < N.1 → a1 c = nI (N.2.1 c)) (n3 : ∀ p, p < 34 → a2 p = cn_en (N.2.2 p)) (k3 : ∀ c, c < N.1 → a3 c = nI (N.2.1 c)) (k4 : ∀ c, c < N.1 → a4 c = nI 0) (H : ∀ u', cn_M N (cn_cp N) u' → post u') : ∃ n, wX_copyNet_37 post f0 f1 f2 f3 f4 f5 f6 n 0 a1 a2 a3 a4 a5 a6 a7 a8 := by
  have h1 := hN.1
  have h3 := hN.2.2
  refine pk_loop (fun n i s => wX_copyNet_37 post f0 f1 f2 f3 f4 f5 f6 n (nI i) a1 a2 a3 a4 s a6 a7 a8) (fun i s => ∀ p, p < i → s (cn_cpP p) = cn_en (cn_cpP (N.2.2 p))) 34 0 a5 (by omega) (fun j hj => absurd hj (Nat.not_lt_zero j)) ?_ ?_
  · intro n s hs
    refine pk_le 34 34 (fun _ => cn_c101 hN n1 n2 n3 k3 k4 (fun p hp => ?_) H) (fun z => absurd z (by omega))
    rcases hp with hp | hp
    · have := hs p (by omega)
      rw [cn_cpl (by omega)] at this
      rw [this, cn_O0l (by omega)]
    · have := hs (p - 1440) (by omega)
      rw [cn_cpg (by omega) (by omega), show p - 1440 + 1440 = p by omega] at this
      rw [this, cn_O0g (by omega)]
  · intro n i s hi hs hw
    refine pk_le 34 i (fun z => absurd z (by omega)) (fun _ => ?_)
    have w1 : N.2.2 i < 34 ∨ N.2.2 i = 5000 := by
      rcases h3 i hi with z | z
      · exact Or.inr z
      · exact Or.inl z.2.1
    have e1 : cn_cpP i < 1474 ∧ cn_cpP i ≠ 5000 := by
      by_cases e : i < 30
      · rw [cn_cpl e]; omega
      · rw [cn_cpg (by omega) hi]; omega
    refine cn_copyPort i (cn_en_n (by omega)).symm (Or.inl hi) ⟨pk_in i 34 hi, ?_⟩
    refine cn_copyPort (N.2.2 i) (by rw [nI_clamp (by omega)]; exact n3 i hi) w1 ?_
    rw [cn_en_n e1.2, nI_clamp (by omega)]
    refine ⟨pk_in (cn_cpP i) 1474 e1.1, nm_e (nm_r (nI_1 i) (hw _ (fun p hp => ?_)))⟩
    by_cases e : p = i
    · rw [e, pk_us]
    · have ne : cn_cpP p ≠ cn_cpP i := by
        by_cases y1 : p < 30
        · rw [cn_cpl y1]
          by_cases y2 : i < 30
          · rw [cn_cpl y2]; omega
          · rw [cn_cpg (by omega) hi]; omega
        · rw [cn_cpg (by omega) (by omega), cn_cpg (by omega) hi]; omega
      rw [pk_un ne]
      exact hs p (by omega)
theorem cn_copyNet {post : St1 → Prop} {N : cn_Nt} {u : St1} (hN : cn_IN N) (hM : cn_MN N u) (H : ∀ u', cn_M N (cn_cp N) u' → post u') : wpX_copyNet post u := by
  obtain ⟨f0, f1, f2, f3, f4, f5, f6, a1, a2, a3, a4, a5, a6, a7, a8⟩ := u
  obtain ⟨n1, n2, n3⟩ := hM
  have h1 := hN.1
  unfold wpX_copyNet
  dsimp only
  refine pk_loop (σ := (Nat → Int32) × (Nat → Int32)) (fun n i s => wX_copyNet_2 post f0 f1 f2 f3 f4 f5 f6 n (nI i) a1 a2 s.1 s.2 a5 a6 a7 a8) (fun i s => (∀ c, c < i → s.1 c = nI (N.2.1 c)) ∧ (∀ c, c < i → s.2 c = nI 0)) N.1 0 (a3, a4) (by omega) ⟨lt_0, lt_0⟩ ?_ ?_
  · intro n s hs
    exact pk_le N.1 N.1 (fun _ => cn_c37 hN n1 n2 n3 hs.1 hs.2 H) (fun z => absurd z (by omega)) (hx := n1)
  · intro n i s hi hs hw
    refine pk_le N.1 i (fun z => absurd z (by omega)) (fun _ => ⟨pk_in i 10 (by omega), pk_in i 490 (by omega), nm_e ⟨pk_in i 490 (by omega), nm_e (nm_r (nI_1 i) (hw (_, _) ⟨?_, ?_⟩))⟩⟩) (hx := n1)
    · exact cn_fill (f := fun c => nI (N.2.1 c)) (nI_clamp (by omega)) hs.1 (by rw [nI_clamp (by omega)]; exact n2 i hi)
    · exact cn_fill (f := fun c => nI 0) (nI_clamp (by omega)) hs.2 rfl
/-! run, from outside -/
def cn_pic (N : cn_Nt) : cn_Pc := cn_run 1000 (cn_cp N)
theorem cn_pic_I {N : cn_Nt} (hN : cn_IN N) : cn_I (cn_pic N) := cn_run_I _ _ (cn_cp_I hN)
def cn_Ob (N : cn_Nt) (u : St1) : Prop := cn_MN N u ∧ (cn_kn u = 0 ∨ (cn_kn u = 1 ∧ cn_MX (cn_pic N) u))
def cn_B (N : cn_Nt) (u : St1) : Prop := cn_MN N u ∧ cn_kn u = 1 ∧ cn_MX (cn_pic N) u
theorem cn_BO {N : cn_Nt} {u : St1} (h : cn_B N u) : cn_Ob N u := ⟨h.1, Or.inr h.2⟩
theorem cn_run_q {post : St1 → Prop} {N : cn_Nt} {u : St1} (hN : cn_IN N) (h : cn_Ob N u) (H : ∀ u', cn_B N u' → post u') : wpX_run post u := by
  obtain ⟨f0, f1, f2, f3, f4, f5, f6, a1, a2, a3, a4, a5, a6, a7, a8⟩ := u
  obtain ⟨hM, hk⟩ := h
  unfold wpX_run
  dsimp only
  rcases hk with hk | hk
  · refine br_t hk (cn_copyNet hN hM (fun u' hu => ?_))
    obtain ⟨g0, g1, g2, g3, g4, g5, g6, b1, b2, b3, b4, b5, b6, b7, b8⟩ := u'
    exact ⟨1001, cn_run14 1000 0 (cn_cp N) _ _ _ _ _ _ _ _ _ _ _ _ _ _ _ (by omega) (cn_cp_I hN) hu (fun u' k hm => H _ ⟨hm.1, k, hm.2⟩)⟩
  · have e : f1 = 1 := hk.1
    refine br_f (by rw [e]; decide) (H _ ⟨hM, hk.1, hk.2⟩)
end
section
def cn_sum (f : Nat → Nat) : Nat → Nat
  | 0 => 0
  | n + 1 => cn_sum f n + f n
theorem cn_sum_s (f : Nat → Nat) (n : Nat) : cn_sum f (n + 1) = cn_sum f n + f n := rfl
/-- an answer, or TIRED -/
def cn_an (N : cn_Nt) (v : Int32) : Int32 := if cn_td (cn_pic N) = 0 then v else -5
theorem cn_an_t {N : cn_Nt} {v : Int32} (h : cn_td (cn_pic N) = 0) : cn_an N v = v := if_pos h
theorem cn_an_f {N : cn_Nt} {v : Int32} (h : cn_td (cn_pic N) ≠ 0) : cn_an N v = -5 := if_neg h
theorem cn_steps {post : Int32 → St1 → Prop} {N : cn_Nt} {u : St1} (hN : cn_IN N) (h : cn_Ob N u) (H : ∀ u', cn_B N u' → post (cn_an N (nI (cn_dn (cn_pic N)))) u') : wpX_steps post u := by
  obtain ⟨f0, f1, f2, f3, f4, f5, f6, a1, a2, a3, a4, a5, a6, a7, a8⟩ := u
  unfold wpX_steps
  dsimp only
  refine cn_run_q hN h (fun u' hu => ?_)
  obtain ⟨f0, f1, f2, f3, f4, f5, f6, a1, a2, a3, a4, a5, a6, a7, a8⟩ := u'
  have hT := (cn_pic_I hN).2.2.2.2
  have H' := H _ hu
  obtain ⟨hMN, hk, m1, m2, m3, m4, m5, m6, m7, m8, m9⟩ := hu
  refine pk_eq (cn_td (cn_pic N)) 0 (fun z => ?_) (fun z => ?_) (hx := m4)
  · rw [cn_an_t z] at H'
    rw [m2] at H' ⊢
    exact H'
  · rw [cn_an_f z] at H'
    exact H'
theorem cn_loops {post : Int32 → St1 → Prop} {N : cn_Nt} {u : St1} (hN : cn_IN N) (h : cn_Ob N u) (H : ∀ u', cn_B N u' → post (cn_an N (nI (cn_lp (cn_pic N)))) u') : wpX_loops post u := by
  obtain ⟨f0, f1, f2, f3, f4, f5, f6, a1, a2, a3, a4, a5, a6, a7, a8⟩ := u
  unfold wpX_loops
  dsimp only
  refine cn_run_q hN h (fun u' hu => ?_)
  obtain ⟨f0, f1, f2, f3, f4, f5, f6, a1, a2, a3, a4, a5, a6, a7, a8⟩ := u'
  have hT := (cn_pic_I hN).2.2.2.2
  have H' := H _ hu
  obtain ⟨hMN, hk, m1, m2, m3, m4, m5, m6, m7, m8, m9⟩ := hu
  refine pk_eq (cn_td (cn_pic N)) 0 (fun z => ?_) (fun z => ?_) (hx := m4)
  · rw [cn_an_t z] at H'
    rw [m3] at H' ⊢
    exact H'
  · rw [cn_an_f z] at H'
    exact H'
theorem cn_cells {post : Int32 → Prop} {N : cn_Nt} {u : St1} (h : cn_MN N u) (H : post (nI N.1)) : wpX_cells post u := by
  obtain ⟨f0, f1, f2, f3, f4, f5, f6, a1, a2, a3, a4, a5, a6, a7, a8⟩ := u
  unfold wpX_cells
  dsimp only
  rw [h.1]
  exact H
/-! facing -/
def cn_fcg (N : cn_Nt) (c : Nat) : Nat := if N.2.2 (3 * c) < 30 ∧ N.2.2 (3 * c) % 3 = 0 ∧ 3 * c < N.2.2 (3 * c) then 1 else 0
def cn_fa (N : cn_Nt) : Nat := cn_sum (cn_fcg N) N.1
theorem cn_facing {post : Int32 → Prop} {N : cn_Nt} {u : St1} (hN : cn_IN N) (h : cn_MN N u) (H : post (nI (cn_fa N))) : wpX_facing post u := by
  obtain ⟨f0, f1, f2, f3, f4, f5, f6, a1, a2, a3, a4, a5, a6, a7, a8⟩ := u
  obtain ⟨n1, n2, n3⟩ := h
  obtain ⟨h1, h2, h3⟩ := hN
  unfold wpX_facing
  dsimp only
  refine pk_loop (σ := Unit) (fun n i _ => wX_facing_4 post f0 f1 f2 f3 f4 f5 f6 a1 a2 a3 a4 a5 a6 a7 a8 n (nI (cn_sum (cn_fcg N) i)) (nI i)) (fun _ _ => True) N.1 0 () (by omega) trivial ?_ ?_
  · intro n s hs
    exact pk_le N.1 N.1 (fun _ => H) (fun z => absurd z (by omega)) (hx := n1)
  · intro n i s hi hs hw
    have t : wX_facing_4 post f0 f1 f2 f3 f4 f5 f6 a1 a2 a3 a4 a5 a6 a7 a8 n (nI (cn_sum (cn_fcg N) (i + 1))) (nI (i + 1)) := hw () trivial
    have w1 : N.2.2 (3 * i) < 1474 ∨ N.2.2 (3 * i) = 5000 := by
      rcases h3 (3 * i) (by omega) with z | z
      · exact Or.inr z
      · omega
    have t0 : ¬ (N.2.2 (3 * i) < 30 ∧ N.2.2 (3 * i) % 3 = 0 ∧ 3 * i < N.2.2 (3 * i)) → wX_facing_4 post f0 f1 f2 f3 f4 f5 f6 a1 a2 a3 a4 a5 a6 a7 a8 n (nI (cn_sum (cn_fcg N) i)) (nI (i + 1)) := by
      intro z
      rw [cn_sum_s, show cn_fcg N i = 0 from if_neg z, Nat.add_zero] at t
      exact t
    refine pk_le N.1 i (fun z => absurd z (by omega)) (fun _ => ⟨pk_in (3 * i) 34 (by omega) (cn_3 i), nm_r (e' := cn_en (N.2.2 (3 * i))) (by rw [cn_3, nI_clamp (by omega)]; exact n3 _ (by omega)) ?_⟩) (hx := n1)
    refine cn_brO (N.2.2 (3 * i)) rfl w1 (fun z => nm_r (nI_1 i) (t0 (by omega))) (fun z e => ?_)
    refine pk_le 30 (N.2.2 (3 * i)) (fun y => nm_r (nI_1 i) (t0 (by omega))) (fun y => ⟨by decide, ?_⟩) (hy := e)
    refine pk_eq (N.2.2 (3 * i) % 3) 0 (fun v => ?_) (fun v => nm_r (nI_1 i) (t0 (by omega))) (hx := ?_)
    · refine pk_le (N.2.2 (3 * i)) (3 * i) (fun x => nm_r (nI_1 i) (t0 (by omega))) (fun x => ?_) (hx := e) (hy := cn_3 i)
      rw [cn_sum_s, show cn_fcg N i = 1 from if_pos ⟨y, v, x⟩] at t
      exact nm_r (nI_1 _) (nm_r (nI_1 i) t)
    · rw [e]
      exact pk_rem (d := 3) (by omega) (by decide) (by decide)
/-! left -/
def cn_lg (x : cn_Pc) (k c : Nat) : Nat := if cn_G x c = 0 ∧ cn_K x c = k then 1 else 0
def cn_lf (x : cn_Pc) (k : Nat) : Nat := cn_sum (cn_lg x k) (cn_md x)
theorem cn_left {post : Int32 → St1 → Prop} {N : cn_Nt} {u : St1} (k : Nat) (hk : k ≤ 2) (hN : cn_IN N) (h : cn_Ob N u) (H : ∀ u', cn_B N u' → post (cn_an N (nI (cn_lf (cn_pic N) k))) u') : wpX_left post u (nI k) := by
  obtain ⟨f0, f1, f2, f3, f4, f5, f6, a1, a2, a3, a4, a5, a6, a7, a8⟩ := u
  unfold wpX_left
  dsimp only
  refine pk_lt k 0 (fun z => absurd z (by omega)) (fun _ => pk_le k 2 (fun _ => ?_) (fun z => absurd z (by omega)))
  refine cn_run_q hN h (fun u' hu => ?_)
  obtain ⟨f0, f1, f2, f3, f4, f5, f6, a1, a2, a3, a4, a5, a6, a7, a8⟩ := u'
  have hI := cn_pic_I hN
  obtain ⟨hT, i2, i3, i4, i5⟩ := hI
  have t4 := hT.2.2.2.1
  have H' := H _ hu
  obtain ⟨hMN, hkn, m1, m2, m3, m4, m5, m6, m7, m8, m9⟩ := hu
  refine pk_eq (cn_td (cn_pic N)) 0 (fun z => ?_) (fun z => ?_) (hx := m4)
  · rw [cn_an_t z] at H'
    refine pk_loop (σ := Unit) (fun n i _ => wX_left_29 post (nI k) f0 f1 f2 f3 f4 f5 f6 a1 a2 a3 a4 a5 a6 a7 a8 n (nI (cn_sum (cn_lg (cn_pic N) k) i)) (nI i)) (fun _ _ => True) (cn_md (cn_pic N)) 0 () (by omega) trivial ?_ ?_
    · intro n s hs
      exact pk_le (cn_md (cn_pic N)) (cn_md (cn_pic N)) (fun _ => H') (fun z => absurd z (by omega)) (hx := m1)
    · intro n i s hi hs hw
      have t : wX_left_29 post (nI k) f0 f1 f2 f3 f4 f5 f6 a1 a2 a3 a4 a5 a6 a7 a8 n (nI (cn_sum (cn_lg (cn_pic N) k) (i + 1))) (nI (i + 1)) := hw () trivial
      have t0 : ¬ (cn_G (cn_pic N) i = 0 ∧ cn_K (cn_pic N) i = k) → wX_left_29 post (nI k) f0 f1 f2 f3 f4 f5 f6 a1 a2 a3 a4 a5 a6 a7 a8 n (nI (cn_sum (cn_lg (cn_pic N) k) i)) (nI (i + 1)) := by
        intro z
        rw [cn_sum_s, show cn_lg (cn_pic N) k i = 0 from if_neg z, Nat.add_zero] at t
        exact t
      have g1 := (i4 i hi).1
      have g2 := (i4 i hi).2
      have c1 : (nI i).toNatClampNeg = i := nI_clamp (by omega)
      refine pk_le (cn_md (cn_pic N)) i (fun z => absurd z (by omega)) (fun _ => ⟨pk_in i 490 (by omega), pk_eq (cn_G (cn_pic N) i) 0 (fun zg => ⟨pk_in i 490 (by omega), pk_eq (cn_K (cn_pic N) i) k (fun zk => ?_) (fun zk => nm_r (nI_1 i) (t0 (fun y => zk y.2))) (hx := by rw [c1]; exact m6 i hi)⟩) (fun zg => nm_r (nI_1 i) (t0 (fun y => zg y.1))) (hx := by rw [c1]; exact m7 i hi)⟩) (hx := m1)
      rw [cn_sum_s, show cn_lg (cn_pic N) k i = 1 from if_pos ⟨zg, zk⟩] at t
      exact nm_r (nI_1 _) (nm_r (nI_1 i) t)
  · rw [cn_an_f z] at H'
    exact H'
/-! how many ports are loose -/
def cn_og (x : cn_Pc) (c s : Nat) : Nat := if cn_G x c = 0 ∧ cn_O x (3 * c + s) = 5000 then 1 else 0
def cn_oc (x : cn_Pc) (c : Nat) : Nat := cn_sum (cn_og x c) (if cn_K x c = 2 then 1 else 3)
def cn_opn (x : cn_Pc) : Nat := cn_sum (cn_oc x) (cn_md x)
theorem cn_open45 {post : Int32 → St1 → Prop} {J : Int32 → Int32 → Prop} {x : cn_Pc} {f0 f1 f2 f3 f4 f5 f6 : Int32} {a1 a2 a3 a4 a5 a6 a7 a8 : Nat → Int32} (A c e : Nat) (hI : cn_I x) (hM : cn_MX x (f0, f1, f2, f3, f4, f5, f6, a1, a2, a3, a4, a5, a6, a7, a8)) (hc : c < cn_md x) (he : e ≤ 3) (H : J (nI (A + cn_sum (cn_og x c) e)) (nI (c + 1))) : ∃ n, wX_open_45 post J (nI c) (nI e) f0 f1 f2 f3 f4 f5 f6 a1 a2 a3 a4 a5 a6 a7 a8 n (nI A) 0 := by
  obtain ⟨m1, m2, m3, m4, m5, m6, m7, m8, m9⟩ := hM
  obtain ⟨hT, i2, i3, i4, i5⟩ := hI
  have t4 := hT.2.2.2.1
  refine pk_loop (σ := Unit) (fun n i _ => wX_open_45 post J (nI c) (nI e) f0 f1 f2 f3 f4 f5 f6 a1 a2 a3 a4 a5 a6 a7 a8 n (nI (A + cn_sum (cn_og x c) i)) (nI i)) (fun _ _ => True) e 0 () (by omega) trivial ?_ ?_
  · intro n s hs
    exact pk_le e e (fun _ => nm_r (nI_1 c) H) (fun z => absurd z (by omega))
  · intro n i s hi hs hw
    have t : wX_open_45 post J (nI c) (nI e) f0 f1 f2 f3 f4 f5 f6 a1 a2 a3 a4 a5 a6 a7 a8 n (nI (A + cn_sum (cn_og x c) (i + 1))) (nI (i + 1)) := hw () trivial
    have t0 : ¬ (cn_G x c = 0 ∧ cn_O x (3 * c + i) = 5000) → wX_open_45 post J (nI c) (nI e) f0 f1 f2 f3 f4 f5 f6 a1 a2 a3 a4 a5 a6 a7 a8 n (nI (A + cn_sum (cn_og x c) i)) (nI (i + 1)) := by
      intro z
      rw [cn_sum_s, show cn_og x c i = 0 from if_neg z, Nat.add_zero] at t
      exact t
    have g2 := (i4 c hc).2
    have c1 : (nI c).toNatClampNeg = c := nI_clamp (by omega)
    refine pk_le e i (fun z => absurd z (by omega)) (fun _ => ⟨pk_in c 490 (by omega), pk_eq (cn_G x c) 0 (fun zg => ⟨pk_in (3 * c + i) 1474 (by omega) (cn_3s c i), ?_⟩) (fun zg => nm_r (nI_1 i) (t0 (fun y => zg y.1))) (hx := by rw [c1]; exact m7 c hc)⟩)
    have l1 : cn_L x (3 * c + i) := Or.inl ⟨by omega, by rw [show (3 * c + i) / 3 = c by omega]; exact zg⟩
    refine cn_brO (cn_O x (3 * c + i)) (by rw [cn_3s, nI_clamp (by omega)]; exact m8 _ (Or.inl (by omega))) ?_ (fun zo => ?_) (fun zo _ => nm_r (nI_1 i) (t0 (fun y => by omega)))
    · rcases (hT.1 _ l1).2 with y | y
      · exact Or.inr y
      · exact Or.inl (cn_T_lt hT y.1)
    · rw [cn_sum_s, show cn_og x c i = 1 from if_pos ⟨zg, zo⟩] at t
      exact nm_r (nI_1 _) (nm_r (nI_1 i) t)
theorem cn_open {post : Int32 → St1 → Prop} {N : cn_Nt} {u : St1} (hN : cn_IN N) (h : cn_Ob N u) (H : ∀ u', cn_B N u' → post (cn_an N (nI (cn_opn (cn_pic N)))) u') : wpX_open post u := by
  obtain ⟨f0, f1, f2, f3, f4, f5, f6, a1, a2, a3, a4, a5, a6, a7, a8⟩ := u
  unfold wpX_open
  dsimp only
  refine cn_run_q hN h (fun u' hu => ?_)
  obtain ⟨f0, f1, f2, f3, f4, f5, f6, a1, a2, a3, a4, a5, a6, a7, a8⟩ := u'
  have hI := cn_pic_I hN
  have hI' := hI
  obtain ⟨hT, i2, i3, i4, i5⟩ := hI
  have t4 := hT.2.2.2.1
  have H' := H _ hu
  obtain ⟨hMN, hkn, hX⟩ := hu
  have hX' := hX
  obtain ⟨m1, m2, m3, m4, m5, m6, m7, m8, m9⟩ := hX
  refine pk_eq (cn_td (cn_pic N)) 0 (fun z => ?_) (fun z => ?_) (hx := m4)
  · rw [cn_an_t z] at H'
    refine pk_loop (σ := Unit) (fun n i _ => wX_open_18 post f0 f1 f2 f3 f4 f5 f6 a1 a2 a3 a4 a5 a6 a7 a8 n (nI (cn_sum (cn_oc (cn_pic N)) i)) (nI i)) (fun _ _ => True) (cn_md (cn_pic N)) 0 () (by omega) trivial ?_ ?_
    · intro n s hs
      exact pk_le (cn_md (cn_pic N)) (cn_md (cn_pic N)) (fun _ => H') (fun z => absurd z (by omega)) (hx := m1)
    · intro n i s hi hs hw
      have t : wX_open_18 post f0 f1 f2 f3 f4 f5 f6 a1 a2 a3 a4 a5 a6 a7 a8 n (nI (cn_sum (cn_oc (cn_pic N)) i + cn_oc (cn_pic N) i)) (nI (i + 1)) := hw () trivial
      have g1 := (i4 i hi).1
      have c1 : (nI i).toNatClampNeg = i := nI_clamp (by omega)
      refine pk_le (cn_md (cn_pic N)) i (fun z => absurd z (by omega)) (fun _ => ⟨pk_in i 490 (by omega), pk_eq (cn_K (cn_pic N) i) 2 (fun zk => ?_) (fun zk => ?_) (hx := by rw [c1]; exact m6 i hi)⟩) (hx := m1)
      · rw [show cn_oc (cn_pic N) i = cn_sum (cn_og (cn_pic N) i) 1 from by unfold cn_oc; rw [if_pos zk]] at t
        exact cn_open45 _ i 1 hI' hX' hi (by omega) t
      · rw [show cn_oc (cn_pic N) i = cn_sum (cn_og (cn_pic N) i) 3 from by unfold cn_oc; rw [if_neg zk]] at t
        exact cn_open45 _ i 3 hI' hX' hi (by omega) t
  · rw [cn_an_f z] at H'
    exact H'
/-! walk -/
def cn_nm (x : cn_Pc) (p : Nat) : Nat := if p = 5000 then 9 else if 1470 ≤ p then p - 1460 else 3 * cn_K x (p / 3) + p % 3
theorem cn_Llt {x : cn_Pc} {p : Nat} (hI : cn_I x) (h : cn_L x p) : p < 1474 := cn_T_lt hI.1 h
theorem cn_Lnx {x : cn_Pc} {p : Nat} (hI : cn_I x) (h : cn_L x p) : cn_O x p = 5000 ∨ cn_L x (cn_O x p) := by
  rcases (hI.1.1 _ h).2 with y | y
  · exact Or.inl y
  · exact Or.inr y.1
theorem cn_named {post : Int32 → Prop} {x : cn_Pc} {u : St1} {P : Int32} (p : Nat) (hI : cn_I x) (hp : p = 5000 ∨ cn_L x p) (hP : P = cn_en p) (hX : cn_MX x u) (H : post (nI (cn_nm x p))) : wpX_named post u P := by
  obtain ⟨f0, f1, f2, f3, f4, f5, f6, a1, a2, a3, a4, a5, a6, a7, a8⟩ := u
  obtain ⟨m1, m2, m3, m4, m5, m6, m7, m8, m9⟩ := hX
  have t4 := hI.1.2.2.2.1
  unfold wpX_named
  dsimp only
  unfold cn_nm at H
  refine cn_brO p hP (hp.elim Or.inr (fun t => Or.inl (cn_Llt hI t))) (fun z => ?_) (fun z e => ?_)
  · rw [if_pos z] at H
    exact H
  · rw [if_neg (by omega)] at H
    refine pk_lt p 1470 (fun y => ⟨by decide, ?_⟩) (fun y => ?_) (hx := e)
    · rw [if_neg (by omega)] at H
      have l1 : p / 3 < cn_md x := by
        rcases hp with w | w
        · omega
        · rcases w with w | w
          · omega
          · omega
      have d1 : P / 3 = nI (p / 3) := by rw [e]; exact pk_div (d := 3) (by omega) (by decide) (by decide)
      have d2 : P - P / 3 * 3 = nI (p % 3) := by rw [e]; exact pk_rem (d := 3) (by omega) (by decide) (by decide)
      refine ⟨pk_in (p / 3) 490 (by omega) d1, by decide, ?_⟩
      rw [d2, d1, nI_clamp (by omega), m6 _ l1, cn_3, nI_add]
      exact H
    · rw [if_pos y] at H
      rw [e, show (10 : Int32) + nI p = nI (10 + p) from nI_add 10 p, show nI (10 + p) - 1470 = nI (10 + p - 1470) from pk_sub (b := 1470) (by omega), show 10 + p - 1470 = p - 1460 by omega]
      exact H
theorem cn_exit {post : Int32 → Prop} {u : St1} {P F : Int32} (c s : Nat) (hP : P = nI (3 * c + s)) (hs : s < 3) (hc : c < 490) (H0 : F = 0 → post (nI (3 * c + (s + 2) % 3))) (H1 : ¬ F = 0 → post (nI (3 * c + (s + 1) % 3))) : wpX_exit post u P F := by
  obtain ⟨f0, f1, f2, f3, f4, f5, f6, a1, a2, a3, a4, a5, a6, a7, a8⟩ := u
  have d1 : P / 3 = nI c := by rw [hP, show nI (3 * c + s) / 3 = nI ((3 * c + s) / 3) from pk_div (d := 3) (by omega) (by decide) (by decide), show (3 * c + s) / 3 = c by omega]
  have d2 : P - P / 3 * 3 = nI s := by rw [hP, show nI (3 * c + s) - nI (3 * c + s) / 3 * 3 = nI ((3 * c + s) % 3) from pk_rem (d := 3) (by omega) (by decide) (by decide), show (3 * c + s) % 3 = s by omega]
  unfold wpX_exit wX_exit_16
  dsimp only
  refine ⟨by decide, nm_r d1 ⟨by decide, br_c (fun z => nm_r (e' := nI (s + 2)) (by rw [d2]; exact nI_add s 2) ?_) (fun z => nm_r (e' := nI (s + 1)) (by rw [d2]; exact nI_add s 1) ?_)⟩⟩
  · have H := H0 z
    refine pk_le (s + 2) 2 (fun y => ?_) (fun y => ?_)
    · rw [cn_3s]
      rw [show (s + 2) % 3 = s + 2 by omega] at H
      exact H
    · rw [show nI (s + 2) - 3 = nI (s + 2 - 3) from pk_sub (b := 3) (by omega), cn_3s]
      rw [show (s + 2) % 3 = s + 2 - 3 by omega] at H
      exact H
  · have H := H1 z
    refine pk_le (s + 1) 2 (fun y => ?_) (fun y => ?_)
    · rw [cn_3s]
      rw [show (s + 1) % 3 = s + 1 by omega] at H
      exact H
    · rw [show nI (s + 1) - 3 = nI (s + 1 - 3) from pk_sub (b := 3) (by omega), cn_3s]
      rw [show (s + 1) % 3 = s + 1 - 3 by omega] at H
      exact H
theorem cn_walk53 {x : cn_Pc} (hI : cn_I x) : ∀ (n i : Nat), i + n = 12 → ∀ p, (p = 5000 ∨ cn_L x p) → ∀ t : Int32, ∃ r : Int32, (t ≤ 0 → r = nI (cn_nm x p)) ∧ ∀ (post : Int32 → St1 → Prop) (f0 f1 f2 f3 f4 f5 f6 : Int32) (a1 a2 a3 a4 a5 a6 a7 a8 : Nat → Int32), cn_MX x (f0, f1, f2, f3, f4, f5, f6, a1, a2, a3, a4, a5, a6, a7, a8) → post r (f0, f1, f2, f3, f4, f5, f6, a1, a2, a3, a4, a5, a6, a7, a8) → wX_walk_53 post f0 f1 f2 f3 f4 f5 f6 a1 a2 a3 a4 a5 a6 a7 a8 (n + 1) (cn_en p) t (nI i) := by
  intro n
  induction n with
  | zero =>
    intro i hi p hp t
    refine ⟨nI (cn_nm x p), fun _ => rfl, fun post f0 f1 f2 f3 f4 f5 f6 a1 a2 a3 a4 a5 a6 a7 a8 hX H => ?_⟩
    refine pk_le 12 i (fun _ => ?_) (fun z => absurd z (by omega))
    unfold wX_walk_135
    exact cn_named p hI hp rfl hX H
  | succ n ih =>
    intro i hi p hp t
    by_cases ht : t ≤ 0
    · refine ⟨nI (cn_nm x p), fun _ => rfl, fun post f0 f1 f2 f3 f4 f5 f6 a1 a2 a3 a4 a5 a6 a7 a8 hX H => ?_⟩
      refine pk_le 12 i (fun z => absurd z (by omega)) (fun _ => br_t ht ?_)
      unfold wX_walk_135
      exact cn_named p hI hp rfl hX H
    · by_cases h5 : p = 5000 ∨ 1470 ≤ p ∨ cn_K x (p / 3) = 2
      · refine ⟨nI (cn_nm x p), fun _ => rfl, fun post f0 f1 f2 f3 f4 f5 f6 a1 a2 a3 a4 a5 a6 a7 a8 hX H => ?_⟩
        have N89 : wX_walk_89 post (cn_en p) f0 f1 f2 f3 f4 f5 f6 a1 a2 a3 a4 a5 a6 a7 a8 := by
          unfold wX_walk_89
          exact cn_named p hI hp rfl hX H
        refine pk_le 12 i (fun z => absurd z (by omega)) (fun _ => br_f ht ?_)
        refine cn_brO p rfl (hp.elim Or.inr (fun t => Or.inl (cn_Llt hI t))) (fun _ => N89) (fun y e => ?_)
        refine pk_le 1470 p (fun _ => N89) (fun y2 => ⟨by decide, ?_⟩) (hy := e)
        have k2 : cn_K x (p / 3) = 2 := by omega
        obtain ⟨m1, m2, m3, m4, m5, m6, m7, m8, m9⟩ := hX
        have t4 := hI.1.2.2.2.1
        have l1 : p / 3 < cn_md x := by
          rcases hp with w | w
          · omega
          · rcases w with w | w
            · omega
            · omega
        have d1 : cn_en p / 3 = nI (p / 3) := by rw [e]; exact pk_div (d := 3) (by omega) (by decide) (by decide)
        refine ⟨pk_in (p / 3) 490 (by omega) d1, br_t ?_ N89⟩
        rw [d1, nI_clamp (by omega), m6 _ l1, k2]
        rfl
      · have w : p < 3 * cn_md x ∧ cn_G x (p / 3) = 0 := by
          rcases hp with w | w
          · omega
          · rcases w with w | w
            · exact w
            · omega
        have t4 := hI.1.2.2.2.1
        have pe : 3 * (p / 3) + p % 3 = p := by omega
        have l1 : p / 3 < cn_md x := by omega
        have lx : ∀ s, s < 3 → cn_L x (3 * (p / 3) + s) := fun s hs => Or.inl ⟨by omega, by rw [show (3 * (p / 3) + s) / 3 = p / 3 by omega]; exact w.2⟩
        have k0 := (hI.2.2.2.1 _ l1).1
        have head : ∀ (post : Int32 → St1 → Prop) (f0 f1 f2 f3 f4 f5 f6 : Int32) (a1 a2 a3 a4 a5 a6 a7 a8 : Nat → Int32), cn_MX x (f0, f1, f2, f3, f4, f5, f6, a1, a2, a3, a4, a5, a6, a7, a8) → ((t &&& 1) = 1 → wX_walk_110 post (wX_walk_53 post f0 f1 f2 f3 f4 f5 f6 a1 a2 a3 a4 a5 a6 a7 a8 (n + 1)) t (nI i) 1 (nI p) f0 f1 f2 f3 f4 f5 f6 a1 a2 a3 a4 a5 a6 a7 a8) → (¬ (t &&& 1) = 1 → wX_walk_110 post (wX_walk_53 post f0 f1 f2 f3 f4 f5 f6 a1 a2 a3 a4 a5 a6 a7 a8 (n + 1)) t (nI i) 0 (nI p) f0 f1 f2 f3 f4 f5 f6 a1 a2 a3 a4 a5 a6 a7 a8) → wX_walk_53 post f0 f1 f2 f3 f4 f5 f6 a1 a2 a3 a4 a5 a6 a7 a8 (n + 1 + 1) (cn_en p) t (nI i) := by
          intro post f0 f1 f2 f3 f4 f5 f6 a1 a2 a3 a4 a5 a6 a7 a8 hX A1 A0
          obtain ⟨m1, m2, m3, m4, m5, m6, m7, m8, m9⟩ := hX
          rw [cn_en_n (show p ≠ 5000 by omega)]
          refine pk_le 12 i (fun z => absurd z (by omega)) (fun _ => br_f ht (br_f (cn_nm1 (by omega)) ?_))
          refine pk_le 1470 p (fun z => absurd z (by omega)) (fun y2 => ⟨by decide, ?_⟩)
          have d1 : nI p / 3 = nI (p / 3) := pk_div (d := 3) (by omega) (by decide) (by decide)
          refine ⟨pk_in (p / 3) 490 (by omega) d1, pk_eq (cn_K x (p / 3)) 2 (fun z => absurd z (by omega)) (fun _ => br_c A1 A0) (hx := ?_)⟩
          rw [d1, nI_clamp (by omega)]
          exact m6 _ l1
        have tail : ∀ (s : Nat), s < 3 → ∃ r : Int32, ∀ (post : Int32 → St1 → Prop) (f0 f1 f2 f3 f4 f5 f6 : Int32) (a1 a2 a3 a4 a5 a6 a7 a8 : Nat → Int32), cn_MX x (f0, f1, f2, f3, f4, f5, f6, a1, a2, a3, a4, a5, a6, a7, a8) → post r (f0, f1, f2, f3, f4, f5, f6, a1, a2, a3, a4, a5, a6, a7, a8) → (vp_in (nI (3 * (p / 3) + s)) 1474 ∧ (∀ x3_52 : Int32, x3_52 = a5 (nI (3 * (p / 3) + s)).toNatClampNeg → (∀ x4_53 : Int32, x4_53 = t >>> ((1 : Int32) &&& 31) → (∀ x5_54 : Int32, x5_54 = nI i + 1 → (wX_walk_53 post f0 f1 f2 f3 f4 f5 f6 a1 a2 a3 a4 a5 a6 a7 a8 (n + 1) x3_52 x4_53 x5_54))))) := by
          intro s hs
          obtain ⟨r, _, hr⟩ := ih (i + 1) (by omega) (cn_O x (3 * (p / 3) + s)) (cn_Lnx hI (lx s hs)) (t >>> ((1 : Int32) &&& 31))
          refine ⟨r, fun post f0 f1 f2 f3 f4 f5 f6 a1 a2 a3 a4 a5 a6 a7 a8 hX H => ?_⟩
          refine ⟨pk_in (3 * (p / 3) + s) 1474 (by omega), nm_r (e' := cn_en (cn_O x (3 * (p / 3) + s))) ?_ (nm_e (nm_r (nI_1 i) (hr post _ _ _ _ _ _ _ _ _ _ _ _ _ _ _ hX H)))⟩
          obtain ⟨m1, m2, m3, m4, m5, m6, m7, m8, m9⟩ := hX
          rw [nI_clamp (by omega)]
          exact m8 _ (Or.inl (by omega))
        by_cases b1 : (t &&& 1) = 1
        · obtain ⟨r, hr⟩ := tail ((p % 3 + 1) % 3) (by omega)
          refine ⟨r, fun z => absurd z ht, fun post f0 f1 f2 f3 f4 f5 f6 a1 a2 a3 a4 a5 a6 a7 a8 hX H => head post _ _ _ _ _ _ _ _ _ _ _ _ _ _ _ hX (fun _ => ?_) (fun z => absurd b1 z)⟩
          unfold wX_walk_110
          exact cn_exit (p / 3) (p % 3) (by rw [pe]) (by omega) (by omega) (fun z => absurd z (by decide)) (fun _ => hr post _ _ _ _ _ _ _ _ _ _ _ _ _ _ _ hX H)
        · obtain ⟨r, hr⟩ := tail ((p % 3 + 2) % 3) (by omega)
          refine ⟨r, fun z => absurd z ht, fun post f0 f1 f2 f3 f4 f5 f6 a1 a2 a3 a4 a5 a6 a7 a8 hX H => head post _ _ _ _ _ _ _ _ _ _ _ _ _ _ _ hX (fun z => absurd z b1) (fun _ => ?_)⟩
          unfold wX_walk_110
          exact cn_exit (p / 3) (p % 3) (by rw [pe]) (by omega) (by omega) (fun _ => hr post _ _ _ _ _ _ _ _ _ _ _ _ _ _ _ hX H) (fun z => absurd rfl z)
theorem cn_Lend {x : cn_Pc} {e : Nat} (he : e < 4) : cn_L x (1470 + e) := Or.inr (by omega)
theorem cn_walk {N : cn_Nt} (e t : Nat) (hN : cn_IN N) (he : e < 4) (ht : t ≤ 4095) : ∃ r : Int32, (t = 0 → r = nI (cn_nm (cn_pic N) (cn_O (cn_pic N) (1470 + e)))) ∧ ∀ (post : Int32 → St1 → Prop) (u : St1), cn_Ob N u → (∀ u', cn_B N u' → post (cn_an N r) u') → wpX_walk post u (nI e) (nI t) := by
  have hI := cn_pic_I hN
  obtain ⟨r, r1, r2⟩ := cn_walk53 hI 12 0 (by omega) _ (cn_Lnx hI (cn_Lend he)) (nI t)
  refine ⟨r, fun z => r1 (by rw [z]; decide), fun post u h H => ?_⟩
  obtain ⟨f0, f1, f2, f3, f4, f5, f6, a1, a2, a3, a4, a5, a6, a7, a8⟩ := u
  unfold wpX_walk
  dsimp only
  refine pk_lt e 0 (fun z => absurd z (by omega)) (fun _ => pk_lt 3 e (fun z => absurd z (by omega)) (fun _ => pk_lt t 0 (fun z => absurd z (by omega)) (fun _ => pk_le t 4095 (fun _ => ?_) (fun z => absurd z (by omega)))))
  refine cn_run_q hN h (fun u' hu => ?_)
  obtain ⟨f0, f1, f2, f3, f4, f5, f6, a1, a2, a3, a4, a5, a6, a7, a8⟩ := u'
  have i5 := hI.2.2.2.2
  have H' := H _ hu
  obtain ⟨hMN, hkn, hX⟩ := hu
  have hX' := hX
  obtain ⟨m1, m2, m3, m4, m5, m6, m7, m8, m9⟩ := hX
  refine pk_eq (cn_td (cn_pic N)) 0 (fun z => ?_) (fun z => ?_) (hx := m4)
  · rw [cn_an_t z] at H'
    have e1 : (1470 : Int32) + nI e = nI (1470 + e) := nI_add 1470 e
    exact ⟨pk_in (1470 + e) 1474 (by omega) e1, nm_r (e' := cn_en (cn_O (cn_pic N) (1470 + e))) (by rw [e1, nI_clamp (by omega)]; exact m8 _ (Or.inr (by omega))) ⟨13, r2 post _ _ _ _ _ _ _ _ _ _ _ _ _ _ _ hX' H'⟩⟩
  · rw [cn_an_f z] at H'
    exact H'
end
section
/-! sums -/
theorem cn_sum_le {f g : Nat → Nat} : ∀ n, (∀ c, c < n → f c ≤ g c) → cn_sum f n ≤ cn_sum g n := by
  intro n
  induction n with
  | zero => exact fun _ => Nat.le_refl _
  | succ n ih =>
    intro h
    have h1 := ih (fun c hc => h c (by omega))
    have h2 := h n (by omega)
    rw [cn_sum_s, cn_sum_s]
    omega
theorem cn_sum_eq {f g : Nat → Nat} (n : Nat) (h : ∀ c, c < n → f c = g c) : cn_sum f n = cn_sum g n :=
  Nat.le_antisymm (cn_sum_le n (fun c hc => Nat.le_of_eq (h c hc))) (cn_sum_le n (fun c hc => Nat.le_of_eq (h c hc).symm))
theorem cn_sum_n {f : Nat → Nat} : ∀ n, (∀ c, c < n → f c ≤ 1) → cn_sum f n ≤ n := by
  intro n
  induction n with
  | zero => exact fun _ => Nat.le_refl _
  | succ n ih =>
    intro h
    have h1 := ih (fun c hc => h c (by omega))
    have h2 := h n (by omega)
    rw [cn_sum_s]
    omega
theorem cn_sum_0 {f : Nat → Nat} : ∀ n, (∀ c, c < n → f c = 0) → cn_sum f n = 0 := by
  intro n
  induction n with
  | zero => exact fun _ => rfl
  | succ n ih =>
    intro h
    have h1 := ih (fun c hc => h c (by omega))
    have h2 := h n (by omega)
    rw [cn_sum_s]
    omega
theorem cn_sum_ch {f g : Nat → Nat} {c : Nat} : ∀ n, c < n → (∀ j, j < n → j ≠ c → g j = f j) → cn_sum g n + f c = cn_sum f n + g c := by
  intro n
  induction n with
  | zero => exact fun h => absurd h (Nat.not_lt_zero c)
  | succ n ih =>
    intro hc h
    rw [cn_sum_s, cn_sum_s]
    by_cases e : c = n
    · have h1 : cn_sum g n = cn_sum f n := cn_sum_eq n (fun j hj => h j (by omega) (by omega))
      rw [h1, e]
      omega
    · have h1 := ih (by omega) (fun j hj => h j (by omega))
      have h2 := h n (by omega) (fun z => e z.symm)
      omega
theorem cn_sum_pos {f : Nat → Nat} {c n : Nat} (hc : c < n) (h : 0 < f c) : 0 < cn_sum f n := by
  induction n with
  | zero => omega
  | succ n ih =>
    rw [cn_sum_s]
    by_cases e : c = n
    · rw [← e]
      omega
    · have := ih (by omega)
      omega
theorem cn_sum_ex {f : Nat → Nat} : ∀ n, 0 < cn_sum f n → ∃ c, c < n ∧ 0 < f c := by
  intro n
  induction n with
  | zero => exact fun h => absurd h (Nat.not_lt_zero 0)
  | succ n ih =>
    intro h
    rw [cn_sum_s] at h
    by_cases e : 0 < f n
    · exact ⟨n, by omega, e⟩
    · obtain ⟨c, hc, h2⟩ := ih (by omega)
      exact ⟨c, by omega, h2⟩
/-! reach -/
def cn_gz (x : cn_Pc) (c : Nat) : Nat := if cn_G x c = 0 then 1 else 0
/-- how many cells live -/
def cn_lv (x : cn_Pc) : Nat := cn_sum (cn_gz x) (cn_md x)
def cn_BI (x : cn_Pc) (sn Q : Nat → Nat) (n : Nat) : Prop := (∀ c, c < cn_md x → sn c ≤ cn_gz x c) ∧ n = cn_sum sn (cn_md x) ∧ (∀ i, i < n → Q i < cn_md x ∧ cn_G x (Q i) = 0)
theorem cn_gz1 (x : cn_Pc) (c : Nat) : cn_gz x c ≤ 1 := by
  unfold cn_gz
  split <;> omega
theorem cn_lv_n (x : cn_Pc) : cn_lv x ≤ cn_md x := cn_sum_n _ (fun c _ => cn_gz1 x c)
theorem cn_BI_n {x : cn_Pc} {sn Q : Nat → Nat} {n : Nat} (h : cn_BI x sn Q n) : n ≤ cn_lv x := by
  rw [h.2.1]
  exact cn_sum_le _ h.1
def cn_MB (md : Nat) (sn Q : Nat → Nat) (n : Nat) (u : St1) : Prop := match u with
  | (f0, f1, f2, f3, f4, f5, f6, a1, a2, a3, a4, a5, a6, a7, a8) => (∀ c, c < md → a7 c = nI (sn c)) ∧ (∀ i, i < n → a8 i = nI (Q i))
def cn_Bx (N : cn_Nt) (x : cn_Pc) (u : St1) : Prop := cn_MN N u ∧ cn_kn u = 1 ∧ cn_MX x u
theorem cn_ent {N : cn_Nt} {x : cn_Pc} (hI : cn_I x) {sn Q : Nat → Nat} {n p : Nat} (hB : cn_BI x sn Q n) (hp : p = 5000 ∨ cn_L x p) : ∃ (sn' Q' : Nat → Nat) (n' : Nat), cn_BI x sn' Q' n' ∧ n ≤ n' ∧ (∀ i, i < n → Q' i = Q i) ∧ ∀ (post : Int32 → St1 → Prop) (P : Int32) (u : St1), P = cn_en p → cn_Bx N x u → cn_MB (cn_md x) sn Q n u → (∀ u', cn_Bx N x u' → cn_MB (cn_md x) sn' Q' n' u' → post (nI n') u') → wpX_enter post u P (nI n) := by
  have t4 := hI.1.2.2.2.1
  have hb := hB
  obtain ⟨b1, b2, b3⟩ := hB
  have plt : p < 1474 ∨ p = 5000 := hp.elim Or.inr (fun t => Or.inl (cn_Llt hI t))
  by_cases z : p = 5000 ∨ 1470 ≤ p
  · refine ⟨sn, Q, n, hb, Nat.le_refl _, fun _ _ => rfl, fun post P u hP hu hm H => ?_⟩
    have H' := H _ hu hm
    obtain ⟨f0, f1, f2, f3, f4, f5, f6, a1, a2, a3, a4, a5, a6, a7, a8⟩ := u
    unfold wpX_enter
    dsimp only
    exact cn_brO p hP plt (fun _ => H') (fun _ e => pk_le 1470 p (fun _ => H') (fun y => absurd y (by omega)) (hy := e))
  · have w : p < 3 * cn_md x ∧ cn_G x (p / 3) = 0 := by
      rcases hp with w | w
      · omega
      · rcases w with w | w
        · exact w
        · omega
    have l1 : p / 3 < cn_md x := by omega
    have g1 : cn_gz x (p / 3) = 1 := if_pos w.2
    have s1 := b1 (p / 3) l1
    have start : ∀ (post : Int32 → St1 → Prop) (P : Int32) (f0 f1 f2 f3 f4 f5 f6 : Int32) (a1 a2 a3 a4 a5 a6 a7 a8 : Nat → Int32), P = cn_en p → (¬ (3 : Int32) = 0 ∧ (vp_in (P / 3) 490 ∧ ((((a7 (P / 3).toNatClampNeg) = 0 → (¬ (3 : Int32) = 0 ∧ (vp_in (P / 3) 490 ∧ ∀ a7_8 : Nat → Int32, a7_8 = upd a7 (P / 3).toNatClampNeg 1 → (¬ (3 : Int32) = 0 ∧ (vp_in (nI n) 490 ∧ ∀ a8_11 : Nat → Int32, a8_11 = upd a8 (nI n).toNatClampNeg (P / 3) → (post (nI n + 1) (f0, f1, f2, f3, f4, f5, f6, a1, a2, a3, a4, a5, a6, a7_8, a8_11))))))) ∧ (¬ (a7 (P / 3).toNatClampNeg) = 0 → (post (nI n) (f0, f1, f2, f3, f4, f5, f6, a1, a2, a3, a4, a5, a6, a7, a8))))))) → wpX_enter post (f0, f1, f2, f3, f4, f5, f6, a1, a2, a3, a4, a5, a6, a7, a8) P (nI n) := by
      intro post P f0 f1 f2 f3 f4 f5 f6 a1 a2 a3 a4 a5 a6 a7 a8 hP A
      unfold wpX_enter
      dsimp only
      exact cn_brO p hP plt (fun y => absurd (Or.inl y) z) (fun _ e => pk_le 1470 p (fun y => absurd (Or.inr y) z) (fun y => A) (hy := e))
    have dP : ∀ P : Int32, P = cn_en p → P / 3 = nI (p / 3) := by
      intro P hP
      rw [hP, cn_en_n (by omega)]
      exact pk_div (d := 3) (by omega) (by decide) (by decide)
    by_cases s0 : sn (p / 3) = 0
    · have c1 := cn_sum_ch (f := sn) (g := cn_up sn (p / 3) 1) (c := p / 3) (cn_md x) l1 (fun j _ hj => cn_un hj)
      rw [cn_us, s0] at c1
      have hb' : cn_BI x (cn_up sn (p / 3) 1) (cn_up Q n (p / 3)) (n + 1) := by
        refine ⟨fun c hc => ?_, by omega, fun i hi => ?_⟩
        · by_cases e : c = p / 3
          · rw [e, cn_us, g1]
            exact Nat.le_refl _
          · rw [cn_un e]
            exact b1 c hc
        · by_cases e : i = n
          · rw [e, cn_us]
            exact ⟨l1, w.2⟩
          · rw [cn_un e]
            exact b3 i (by omega)
      refine ⟨cn_up sn (p / 3) 1, cn_up Q n (p / 3), n + 1, hb', by omega, fun i hi => cn_un (by omega), fun post P u hP hu hm H => ?_⟩
      obtain ⟨f0, f1, f2, f3, f4, f5, f6, a1, a2, a3, a4, a5, a6, a7, a8⟩ := u
      obtain ⟨⟨n1, n2, n3⟩, hk, m1, m2, m3, m4, m5, m6, m7, m8, m9⟩ := hu
      replace hk : f1 = 1 := hk
      obtain ⟨q7, q8⟩ := hm
      have nle := cn_BI_n hb'
      have lvn := cn_lv_n x
      refine start post P _ _ _ _ _ _ _ _ _ _ _ _ _ _ _ hP ⟨by decide, pk_in (p / 3) 490 (by omega) (dP P hP), br_t ?_ ⟨by decide, pk_in (p / 3) 490 (by omega) (dP P hP), nm_r (e' := upd a7 (p / 3) 1) (by rw [dP P hP, nI_clamp (by omega)]) ⟨by decide, pk_in n 490 (by omega), nm_r (e' := upd a8 n (nI (p / 3))) (by rw [dP P hP, nI_clamp (by omega)]) ?_⟩⟩⟩
      · rw [dP P hP, nI_clamp (by omega), q7 _ l1, s0]
        rfl
      · rw [nI_1]
        exact H _ ⟨⟨n1, n2, n3⟩, hk, m1, m2, m3, m4, m5, m6, m7, m8, m9⟩ ⟨cn_updN q7 rfl, cn_updS q8 rfl⟩
    · refine ⟨sn, Q, n, hb, Nat.le_refl _, fun _ _ => rfl, fun post P u hP hu hm H => ?_⟩
      have H' := H _ hu hm
      obtain ⟨f0, f1, f2, f3, f4, f5, f6, a1, a2, a3, a4, a5, a6, a7, a8⟩ := u
      obtain ⟨q7, q8⟩ := hm
      refine start post P _ _ _ _ _ _ _ _ _ _ _ _ _ _ _ hP ⟨by decide, pk_in (p / 3) 490 (by omega) (dP P hP), br_f ?_ H'⟩
      rw [dP P hP, nI_clamp (by omega), q7 _ l1]
      exact nI_ne0 (by omega) (by omega)
theorem cn_r81s {N : cn_Nt} {x : cn_Pc} (hI : cn_I x) {got : Nat} : ∀ (m s : Nat), s + m = 3 → ∀ (sn Q : Nat → Nat) (n : Nat), cn_BI x sn Q n → got < n → ∃ (sn' Q' : Nat → Nat) (n' : Nat), cn_BI x sn' Q' n' ∧ n ≤ n' ∧ ∀ (post : Int32 → St1 → Prop) (J : Int32 → Int32 → Int32 → Int32 → Int32 → Int32 → Int32 → Int32 → Int32 → (Nat → Int32) → (Nat → Int32) → (Nat → Int32) → (Nat → Int32) → (Nat → Int32) → (Nat → Int32) → (Nat → Int32) → (Nat → Int32) → Prop) (f0 f1 f2 f3 f4 f5 f6 : Int32) (a1 a2 a3 a4 a5 a6 a7 a8 : Nat → Int32), cn_Bx N x (f0, f1, f2, f3, f4, f5, f6, a1, a2, a3, a4, a5, a6, a7, a8) → cn_MB (cn_md x) sn Q n (f0, f1, f2, f3, f4, f5, f6, a1, a2, a3, a4, a5, a6, a7, a8) → (∀ (f0 f1 f2 f3 f4 f5 f6 : Int32) (a1 a2 a3 a4 a5 a6 a7 a8 : Nat → Int32), cn_Bx N x (f0, f1, f2, f3, f4, f5, f6, a1, a2, a3, a4, a5, a6, a7, a8) → cn_MB (cn_md x) sn' Q' n' (f0, f1, f2, f3, f4, f5, f6, a1, a2, a3, a4, a5, a6, a7, a8) → J (nI n') (nI (got + 1)) f0 f1 f2 f3 f4 f5 f6 a1 a2 a3 a4 a5 a6 a7 a8) → wX_reach_81 post J (nI got) (m + 1) (nI n) (nI s) f0 f1 f2 f3 f4 f5 f6 a1 a2 a3 a4 a5 a6 a7 a8 := by
  intro m
  have t4 := hI.1.2.2.2.1
  have lvn := cn_lv_n x
  induction m with
  | zero =>
    intro s hs sn Q n hB hg
    refine ⟨sn, Q, n, hB, Nat.le_refl _, fun post J f0 f1 f2 f3 f4 f5 f6 a1 a2 a3 a4 a5 a6 a7 a8 hu hm H => ?_⟩
    exact pk_le 3 s (fun _ => nm_r (nI_1 got) (H _ _ _ _ _ _ _ _ _ _ _ _ _ _ _ hu hm)) (fun z => absurd z (by omega))
  | succ m ih =>
    intro s hs sn Q n hB hg
    have hQ := hB.2.2 got hg
    have nl := cn_BI_n hB
    have l1 : cn_L x (3 * Q got + s) := Or.inl ⟨by omega, by rw [show (3 * Q got + s) / 3 = Q got by omega]; exact hQ.2⟩
    obtain ⟨sn1, Q1, n1, e1, e2, e3, e4⟩ := cn_ent (N := N) hI hB (cn_Lnx hI l1)
    obtain ⟨sn2, Q2, n2, g1, g2, g3⟩ := ih (s + 1) (by omega) sn1 Q1 n1 e1 (by omega)
    refine ⟨sn2, Q2, n2, g1, by omega, fun post J f0 f1 f2 f3 f4 f5 f6 a1 a2 a3 a4 a5 a6 a7 a8 hu hm H => ?_⟩
    have hm' := hm
    obtain ⟨q7, q8⟩ := hm
    have hu' := hu
    obtain ⟨hMN, hk, m1, m2, m3, m4, m5, m6, m7, m8, m9⟩ := hu
    have qe : (3 : Int32) * a8 (nI got).toNatClampNeg + nI s = nI (3 * Q got + s) := by
      rw [nI_clamp (by omega), q8 got hg]
      exact cn_3s _ _
    refine pk_le 3 s (fun z => absurd z (by omega)) (fun _ => ⟨pk_in got 490 (by omega), pk_in (3 * Q got + s) 1474 (by omega) qe, ?_⟩)
    refine e4 _ _ _ (by rw [qe, nI_clamp (by omega)]; exact m8 _ (Or.inl (by omega))) hu' hm' (fun u' hu hm => ?_)
    obtain ⟨f0, f1, f2, f3, f4, f5, f6, a1, a2, a3, a4, a5, a6, a7, a8⟩ := u'
    exact nm_r (nI_1 s) (g3 post J _ _ _ _ _ _ _ _ _ _ _ _ _ _ _ hu hm H)
theorem cn_r66 {N : cn_Nt} {x : cn_Pc} (hI : cn_I x) : ∀ (m got : Nat), got + m = 490 → ∀ (sn Q : Nat → Nat) (n : Nat), cn_BI x sn Q n → ∃ r : Nat, r ≤ cn_lv x ∧ ∀ (post : Int32 → St1 → Prop) (f0 f1 f2 f3 f4 f5 f6 : Int32) (a1 a2 a3 a4 a5 a6 a7 a8 : Nat → Int32), cn_Bx N x (f0, f1, f2, f3, f4, f5, f6, a1, a2, a3, a4, a5, a6, a7, a8) → cn_MB (cn_md x) sn Q n (f0, f1, f2, f3, f4, f5, f6, a1, a2, a3, a4, a5, a6, a7, a8) → (∀ u', cn_Bx N x u' → post (nI r) u') → wX_reach_66 post (m + 1) (nI n) (nI got) f0 f1 f2 f3 f4 f5 f6 a1 a2 a3 a4 a5 a6 a7 a8 := by
  intro m
  have t4 := hI.1.2.2.2.1
  have lvn := cn_lv_n x
  induction m with
  | zero =>
    intro got hg sn Q n hB
    have nl := cn_BI_n hB
    refine ⟨n, nl, fun post f0 f1 f2 f3 f4 f5 f6 a1 a2 a3 a4 a5 a6 a7 a8 hu hm H => ?_⟩
    exact pk_le n got (fun _ => H _ hu) (fun z => absurd z (by omega))
  | succ m ih =>
    intro got hg sn Q n hB
    have nl := cn_BI_n hB
    by_cases z : n ≤ got
    · refine ⟨n, nl, fun post f0 f1 f2 f3 f4 f5 f6 a1 a2 a3 a4 a5 a6 a7 a8 hu hm H => ?_⟩
      exact pk_le n got (fun _ => H _ hu) (fun y => absurd y (by omega))
    · obtain ⟨sn1, Q1, n1, e1, e2, e3⟩ := cn_r81s hI (N := N) (got := got) 3 0 (by omega) sn Q n hB (by omega)
      obtain ⟨r, r1, r2⟩ := ih (got + 1) (by omega) sn1 Q1 n1 e1
      refine ⟨r, r1, fun post f0 f1 f2 f3 f4 f5 f6 a1 a2 a3 a4 a5 a6 a7 a8 hu hm H => ?_⟩
      refine pk_le n got (fun y => absurd y (by omega)) (fun _ => pk_le 490 got (fun y => absurd y (by omega)) (fun _ => ⟨4, ?_⟩))
      exact e3 post _ _ _ _ _ _ _ _ _ _ _ _ _ _ _ _ hu hm (fun f0 f1 f2 f3 f4 f5 f6 a1 a2 a3 a4 a5 a6 a7 a8 hu hm => r2 post _ _ _ _ _ _ _ _ _ _ _ _ _ _ _ hu hm H)
theorem cn_reach {N : cn_Nt} (e : Nat) (hN : cn_IN N) (he : e < 4) : ∃ r : Nat, r ≤ cn_lv (cn_pic N) ∧ ∀ (post : Int32 → St1 → Prop) (u : St1), cn_Ob N u → (∀ u', cn_B N u' → post (cn_an N (nI r)) u') → wpX_reach post u (nI e) := by
  have hI := cn_pic_I hN
  have t4 := hI.1.2.2.2.1
  have b0 : cn_BI (cn_pic N) (fun _ => 0) (fun _ => 0) 0 := ⟨fun c _ => Nat.zero_le _, (cn_sum_0 _ (fun _ _ => rfl)).symm, fun i hi => absurd hi (Nat.not_lt_zero i)⟩
  obtain ⟨sn1, Q1, n1, e1, e2, e3, e4⟩ := cn_ent (N := N) hI b0 (cn_Lnx hI (cn_Lend he))
  obtain ⟨r, r1, r2⟩ := cn_r66 (N := N) hI 490 0 (by omega) sn1 Q1 n1 e1
  refine ⟨r, r1, fun post u h H => ?_⟩
  obtain ⟨f0, f1, f2, f3, f4, f5, f6, a1, a2, a3, a4, a5, a6, a7, a8⟩ := u
  unfold wpX_reach
  dsimp only
  refine pk_lt e 0 (fun z => absurd z (by omega)) (fun _ => pk_le e 3 (fun _ => ?_) (fun z => absurd z (by omega)))
  refine cn_run_q hN h (fun u' hu => ?_)
  obtain ⟨f0, f1, f2, f3, f4, f5, f6, a1, a2, a3, a4, a5, a6, a7, a8⟩ := u'
  have i5 := hI.2.2.2.2
  have hu' := hu
  obtain ⟨hMN, hkn, hX⟩ := hu
  obtain ⟨m1, m2, m3, m4, m5, m6, m7, m8, m9⟩ := hX
  refine pk_eq (cn_td (cn_pic N)) 0 (fun z => ?_) (fun z => ?_) (hx := m4)
  · rw [cn_an_t z] at H
    refine pk_loop (fun n i s => wX_reach_27 post (nI e) f0 f1 f2 f3 f4 f5 f6 n (nI i) a1 a2 a3 a4 a5 a6 s a8) (fun i s => ∀ c, c < i → s c = nI 0) (cn_md (cn_pic N)) 0 a7 (by omega) (fun c hc => absurd hc (Nat.not_lt_zero c)) ?_ ?_
    · intro n s hs
      have ee : (1470 : Int32) + nI e = nI (1470 + e) := nI_add 1470 e
      refine pk_le (cn_md (cn_pic N)) (cn_md (cn_pic N)) (fun _ => ⟨pk_in (1470 + e) 1474 (by omega) ee, ?_⟩) (fun z => absurd z (by omega)) (hx := m1)
      refine e4 _ _ _ (by rw [ee, nI_clamp (by omega)]; exact m8 _ (Or.inr (by omega))) ⟨hMN, hkn, m1, m2, m3, m4, m5, m6, m7, m8, m9⟩ ⟨hs, fun i hi => absurd hi (Nat.not_lt_zero i)⟩ (fun u' hu hm => ?_)
      obtain ⟨f0, f1, f2, f3, f4, f5, f6, a1, a2, a3, a4, a5, a6, a7, a8⟩ := u'
      exact ⟨491, r2 post _ _ _ _ _ _ _ _ _ _ _ _ _ _ _ hu hm H⟩
    · intro n i s hi hs hw
      refine pk_le (cn_md (cn_pic N)) i (fun z => absurd z (by omega)) (fun _ => ⟨pk_in i 490 (by omega), nm_e (nm_r (nI_1 i) (hw _ ?_))⟩) (hx := m1)
      exact cn_fill (f := fun _ => nI 0) (nI_clamp (by omega)) hs rfl
  · have H' := H _ hu'
    rw [cn_an_f z] at H'
    exact H'
end
section
/-! what the law says of the finished copy -/
theorem cn_l3 {x : cn_Pc} : ∀ n, (∀ c, c < n → cn_K x c ≤ 2) → cn_sum (cn_lg x 0) n + cn_sum (cn_lg x 1) n + cn_sum (cn_lg x 2) n = cn_sum (cn_gz x) n := by
  intro n
  induction n with
  | zero => exact fun _ => rfl
  | succ n ih =>
    intro h
    have h1 := ih (fun c hc => h c (by omega))
    have h2 := h n (by omega)
    rw [cn_sum_s, cn_sum_s, cn_sum_s, cn_sum_s]
    have h3 : cn_lg x 0 n + cn_lg x 1 n + cn_lg x 2 n = cn_gz x n := by
      unfold cn_lg cn_gz
      by_cases g : cn_G x n = 0
      · rcases (show cn_K x n = 0 ∨ cn_K x n = 1 ∨ cn_K x n = 2 by omega) with k | k | k <;> simp [g, k]
      · simp [g]
    omega
theorem cn_l3x {x : cn_Pc} (hI : cn_I x) : cn_lf x 0 + cn_lf x 1 + cn_lf x 2 = cn_lv x := cn_l3 _ (fun c hc => (hI.2.2.2.1 c hc).1)
theorem cn_nm13 {x : cn_Pc} {p : Nat} (hI : cn_I x) (hp : p = 5000 ∨ cn_L x p) : cn_nm x p ≤ 13 ∧ (9 < cn_nm x p → 1470 ≤ p ∧ p < 1474 ∧ cn_nm x p = p - 1460) := by
  unfold cn_nm
  by_cases z : p = 5000
  · rw [if_pos z]
    omega
  · rw [if_neg z]
    have l := hp.resolve_left z
    have t4 := hI.1.2.2.2.1
    rcases l with l | l
    · have := (hI.2.2.2.1 (p / 3) (by omega)).1
      rw [if_neg (by omega)]
      omega
    · rw [if_pos l.1]
      omega
/-- a wire between two ends, seen from both -/
theorem cn_way {x : cn_Pc} {e : Nat} (hI : cn_I x) (he : e < 4) (h : 9 < cn_nm x (cn_O x (1470 + e))) : ∃ e', e' < 4 ∧ cn_nm x (cn_O x (1470 + e)) = 10 + e' ∧ cn_nm x (cn_O x (1470 + e')) = 10 + e := by
  obtain ⟨h1, h2, h3⟩ := (cn_nm13 hI (cn_Lnx hI (cn_Lend he))).2 h
  refine ⟨cn_O x (1470 + e) - 1470, by omega, by omega, ?_⟩
  have u := (hI.1.1 _ (cn_Lend he)).2.resolve_left (by omega)
  rw [show 1470 + (cn_O x (1470 + e) - 1470) = cn_O x (1470 + e) by omega, u.2.1]
  unfold cn_nm
  rw [if_neg (by omega), if_pos (by omega)]
  omega
/-! done -/
theorem cn_dn_step (x : cn_Pc) (c d : Nat) : cn_dn (cn_step x c d) = cn_dn x := by
  unfold cn_step
  split
  · rfl
  · split
    · rw [cn_dn_ann]; rfl
    · split
      · rw [cn_dn_era]; rfl
      · split
        · rw [cn_dn_era]; rfl
        · split
          · rw [cn_dn_com]; rfl
          · rw [cn_dn_com]; rfl
theorem cn_dn_rnd (x : cn_Pc) : cn_dn x ≤ cn_dn (cn_rnd x) := by
  unfold cn_rnd
  split
  · split
    · exact Nat.le_refl _
    · rw [cn_dn_step]
      exact Nat.le_succ _
  · exact Nat.le_refl _
theorem cn_dn_run : ∀ (n : Nat) (x : cn_Pc), cn_dn x ≤ cn_dn (cn_run n x) := by
  intro n
  induction n with
  | zero => exact fun x => Nat.le_refl _
  | succ n ih =>
    intro x
    by_cases z : cn_wt x = 0
    · rw [cn_run_0 z]
      exact Nat.le_refl _
    · rw [cn_run_s z]
      exact Nat.le_trans (cn_dn_rnd x) (ih _)
theorem cn_fc_t {N : cn_Nt} {c : Nat} (hc : 3 * c < 30) (h : N.2.2 (3 * c) < 30) (h2 : N.2.2 (3 * c) % 3 = 0) : cn_fc N c = true := by
  unfold cn_fc
  rw [cn_O0l hc, cn_cpl h]
  exact cn_hd_t (by omega) h2
theorem cn_fc_e {N : cn_Nt} {c : Nat} (hN : cn_IN N) (hc : c < N.1) (h : cn_fc N c = true) : ∃ d, d < N.1 ∧ d ≠ c ∧ N.2.2 (3 * c) = 3 * d ∧ N.2.2 (3 * d) = 3 * c ∧ cn_O0 N.2.2 (3 * c) = 3 * d ∧ 3 * d < 30 := by
  obtain ⟨h1, h2, h3⟩ := hN
  unfold cn_fc at h
  rw [cn_O0l (by omega)] at h ⊢
  have hh := cn_hd_e h
  rcases h3 (3 * c) (by omega) with z | z
  · rw [z, cn_cp5] at hh
    omega
  · obtain ⟨z1, z2, z3, z4, z5⟩ := z
    by_cases e : N.2.2 (3 * c) < 30
    · rw [cn_cpl e] at hh ⊢
      have e3 : 3 * (N.2.2 (3 * c) / 3) = N.2.2 (3 * c) := by omega
      refine ⟨N.2.2 (3 * c) / 3, ?_, by omega, by omega, by rw [e3]; exact z4, by omega, by omega⟩
      rcases z3 with y | y
      · omega
      · exact y.1
    · rw [cn_cpg (by omega) z2] at hh
      omega
theorem cn_fa_wt {N : cn_Nt} (hN : cn_IN N) : 0 < cn_fa N ↔ cn_wt (cn_cp N) ≠ 0 := by
  obtain ⟨q1, q2, q3⟩ := cn_q_ok (cn_fc N) N.1
  have h1 := hN.1
  constructor
  · intro h
    obtain ⟨c, hc, h2⟩ := cn_sum_ex _ h
    unfold cn_fcg at h2
    have h3 : N.2.2 (3 * c) < 30 ∧ N.2.2 (3 * c) % 3 = 0 ∧ 3 * c < N.2.2 (3 * c) := by
      by_cases z : N.2.2 (3 * c) < 30 ∧ N.2.2 (3 * c) % 3 = 0 ∧ 3 * c < N.2.2 (3 * c)
      · exact z
      · rw [if_neg z] at h2
        omega
    obtain ⟨i, i1, i2⟩ := q3 c hc (cn_fc_t (by omega) h3.1 h3.2.1)
    show (cn_q (cn_fc N) N.1).1 ≠ 0
    omega
  · intro h
    have h' : (cn_q (cn_fc N) N.1).1 ≠ 0 := h
    obtain ⟨p1, p2⟩ := q2 0 (by omega)
    obtain ⟨d, d1, d2, d3, d4, d5, d6⟩ := cn_fc_e hN p1 p2
    by_cases e : (cn_q (cn_fc N) N.1).2 0 < d
    · refine cn_sum_pos (c := (cn_q (cn_fc N) N.1).2 0) p1 ?_
      unfold cn_fcg
      rw [if_pos (by omega)]
      omega
    · refine cn_sum_pos (c := d) d1 ?_
      unfold cn_fcg
      rw [if_pos (by omega)]
      omega
theorem cn_F1 {N : cn_Nt} (hN : cn_IN N) : 0 < cn_fa N ↔ 0 < cn_dn (cn_pic N) := by
  rw [cn_fa_wt hN]
  unfold cn_pic
  by_cases z : cn_wt (cn_cp N) = 0
  · rw [cn_run_0 z]
    exact ⟨fun h => absurd z h, fun h => absurd h (Nat.lt_irrefl 0)⟩
  · refine ⟨fun _ => ?_, fun _ => z⟩
    rw [cn_run_s z]
    refine Nat.lt_of_lt_of_le ?_ (cn_dn_run _ _)
    obtain ⟨q1, q2, q3⟩ := cn_q_ok (cn_fc N) N.1
    have z' : (cn_q (cn_fc N) N.1).1 ≠ 0 := z
    have f1 := (q2 ((cn_q (cn_fc N) N.1).1 - 1) (by omega)).2
    unfold cn_rnd
    rw [if_pos ⟨rfl, f1⟩, if_neg (by show ¬ (0 = 120); omega), cn_dn_step]
    exact Nat.succ_pos _
/-! erasers alone -/
theorem cn_sum_2 {f g : Nat → Nat} {c d n : Nat} (hc : c < n) (hd : d < n) (ne : c ≠ d) (h : ∀ j, j < n → j ≠ c → j ≠ d → g j = f j) : cn_sum g n + f c + f d = cn_sum f n + g c + g d := by
  have h1 := cn_sum_ch (f := f) (g := cn_up f c (g c)) (c := c) n hc (fun j _ hj => cn_un hj)
  have h2 := cn_sum_ch (f := cn_up f c (g c)) (g := g) (c := d) n hd (fun j hj hjd => by
    by_cases e : j = c
    · rw [e, cn_us]
    · rw [cn_un e]
      exact h j hj e hjd)
  rw [cn_us] at h1
  rw [cn_un (fun z => ne z.symm)] at h2
  omega
def cn_hz (N : cn_Nt) (x : cn_Pc) (c : Nat) : Nat := if cn_G x c = 0 then cn_fcg N c else 0
def cn_Er (N : cn_Nt) (i : Nat) (x : cn_Pc) : Prop := cn_md x = N.1 ∧ (∀ c, c < N.1 → cn_K x c = 2) ∧ cn_O x = cn_O0 N.2.2 ∧ (∀ c, c < N.1 → cn_G x c = 0 → cn_fc N c = true → ∃ j, j < cn_wt x ∧ cn_W x j = c) ∧ cn_sum (cn_gz x) N.1 + 2 * cn_dn x = N.1 ∧ cn_sum (cn_hz N x) N.1 + cn_dn x = cn_fa N ∧ cn_wt x + i ≤ 10
theorem cn_Er0 {N : cn_Nt} (hN : cn_IN N) (h2 : ∀ c, c < N.1 → N.2.1 c = 2) : cn_Er N 0 (cn_cp N) := by
  obtain ⟨q1, q2, q3⟩ := cn_q_ok (cn_fc N) N.1
  have h1 := hN.1
  refine ⟨rfl, h2, rfl, fun c hc _ hf => q3 c hc hf, ?_, ?_, ?_⟩
  · show cn_sum (cn_gz (cn_cp N)) N.1 + 2 * 0 = N.1
    have : ∀ n, cn_sum (cn_gz (cn_cp N)) n = n := by
      intro n
      induction n with
      | zero => rfl
      | succ n ih =>
        rw [cn_sum_s, ih]
        rfl
    rw [this]
    omega
  · show cn_sum (cn_hz N (cn_cp N)) N.1 + 0 = cn_sum (cn_fcg N) N.1
    exact cn_sum_eq _ (fun c _ => rfl)
  · show (cn_q (cn_fc N) N.1).1 + 0 ≤ 10
    omega
theorem cn_Er_s {N : cn_Nt} {i : Nat} {x : cn_Pc} (hN : cn_IN N) (hI : cn_I x) (hE : cn_Er N i x) (hw : cn_wt x ≠ 0) : cn_Er N (i + 1) (cn_rnd x) := by
  obtain ⟨e1, e2, e3, e4, e5, e6, e7⟩ := hE
  have hc : cn_top x < cn_md x := hI.1.2.2.2.2.2 _ (by omega)
  have h1 := hN.1
  unfold cn_rnd
  split
  · next z =>
    obtain ⟨gc, hh⟩ := z
    rw [e3] at hh ⊢
    obtain ⟨d, d1, d2, d3, d4, d5, d6⟩ := cn_fc_e hN (by omega) hh
    rw [d5, show 3 * d / 3 = d by omega, if_neg (by omega)]
    have sf := cn_sf (c := cn_top x) (d := d) hI hc gc (by rw [e3]; exact d5) (by omega)
    have gd := sf.2.1
    unfold cn_step
    rw [if_pos ⟨e2 _ (by omega), e2 _ d1⟩]
    have G' : ∀ j, cn_G (cn_kill (cn_pp x) (cn_top x) d) j = 0 ↔ (cn_G x j = 0 ∧ j ≠ cn_top x ∧ j ≠ d) := fun j => cn_G2
    have gz0 : ∀ j, j = cn_top x ∨ j = d → cn_gz (cn_kill (cn_pp x) (cn_top x) d) j = 0 := fun j hj => if_neg (fun t => by have := (G' j).mp t; omega)
    have hz0 : ∀ j, j = cn_top x ∨ j = d → cn_hz N (cn_kill (cn_pp x) (cn_top x) d) j = 0 := fun j hj => if_neg (fun t => by have := (G' j).mp t; omega)
    have gzs : ∀ j, j ≠ cn_top x → j ≠ d → cn_gz (cn_kill (cn_pp x) (cn_top x) d) j = cn_gz x j := by
      intro j j1 j2
      unfold cn_gz
      by_cases g : cn_G x j = 0
      · rw [if_pos g, if_pos ((G' j).mpr ⟨g, j1, j2⟩)]
      · rw [if_neg g, if_neg (fun t => g ((G' j).mp t).1)]
    have hzs : ∀ j, j ≠ cn_top x → j ≠ d → cn_hz N (cn_kill (cn_pp x) (cn_top x) d) j = cn_hz N x j := by
      intro j j1 j2
      unfold cn_hz
      by_cases g : cn_G x j = 0
      · rw [if_pos g, if_pos ((G' j).mpr ⟨g, j1, j2⟩)]
      · rw [if_neg g, if_neg (fun t => g ((G' j).mp t).1)]
    have s1 := cn_sum_2 (f := cn_gz x) (g := cn_gz (cn_kill (cn_pp x) (cn_top x) d)) (c := cn_top x) (d := d) (n := N.1) (by omega) d1 (by omega) (fun j _ j1 j2 => gzs j j1 j2)
    have s2 := cn_sum_2 (f := cn_hz N x) (g := cn_hz N (cn_kill (cn_pp x) (cn_top x) d)) (c := cn_top x) (d := d) (n := N.1) (by omega) d1 (by omega) (fun j _ j1 j2 => hzs j j1 j2)
    rw [gz0 _ (Or.inl rfl), gz0 _ (Or.inr rfl), show cn_gz x (cn_top x) = 1 from if_pos gc, show cn_gz x d = 1 from if_pos gd] at s1
    rw [hz0 _ (Or.inl rfl), hz0 _ (Or.inr rfl), show cn_hz N x (cn_top x) = cn_fcg N (cn_top x) from if_pos gc, show cn_hz N x d = cn_fcg N d from if_pos gd] at s2
    have ff : cn_fcg N (cn_top x) + cn_fcg N d = 1 := by
      unfold cn_fcg
      rw [d3, d4]
      by_cases y : cn_top x < d
      · rw [if_pos (by omega), if_neg (by omega)]
      · rw [if_neg (by omega), if_pos (by omega)]
    refine ⟨e1, e2, e3, fun c c1 c2 c3 => ?_, ?_, ?_, ?_⟩
    · have g := (G' c).mp c2
      obtain ⟨j, j1, j2⟩ := e4 c c1 g.1 c3
      refine ⟨j, ?_, j2⟩
      show j < cn_wt x - 1
      have : j ≠ cn_wt x - 1 := fun t => g.2.1 (by rw [← j2, t]; rfl)
      omega
    · show _ + 2 * (cn_dn x + 1) = N.1
      omega
    · show _ + (cn_dn x + 1) = cn_fa N
      omega
    · show cn_wt x - 1 + (i + 1) ≤ 10
      omega
  · next z =>
    refine ⟨e1, e2, e3, fun c c1 c2 c3 => ?_, e5, e6, ?_⟩
    · obtain ⟨j, j1, j2⟩ := e4 c c1 c2 c3
      refine ⟨j, ?_, j2⟩
      show j < cn_wt x - 1
      have : j ≠ cn_wt x - 1 := fun t => by
        have tc : cn_top x = c := by rw [← j2, t]; rfl
        refine z ⟨by rw [tc]; exact c2, ?_⟩
        rw [tc, e3]
        exact c3
      omega
    · show cn_wt x - 1 + (i + 1) ≤ 10
      omega
theorem cn_Er_run {N : cn_Nt} (hN : cn_IN N) : ∀ (n i : Nat) (x : cn_Pc), 10 ≤ i + n → cn_I x → cn_Er N i x → (∃ i', cn_Er N i' (cn_run n x)) ∧ cn_wt (cn_run n x) = 0 := by
  intro n
  induction n with
  | zero =>
    intro i x hi hI hE
    have e7 := hE.2.2.2.2.2.2
    exact ⟨⟨i, hE⟩, by show cn_wt x = 0; omega⟩
  | succ n ih =>
    intro i x hi hI hE
    by_cases z : cn_wt x = 0
    · rw [cn_run_0 z]
      exact ⟨⟨i, hE⟩, z⟩
    · rw [cn_run_s z]
      exact ih (i + 1) _ (by omega) (cn_rnd_I hI z) (cn_Er_s hN hI hE z)
theorem cn_F2g {N : cn_Nt} {x : cn_Pc} {i : Nat} (h1 : N.1 ≤ 10) (hE : cn_Er N i x) (w : cn_wt x = 0) : cn_lf x 2 + 2 * cn_fa N = N.1 := by
  obtain ⟨e1, e2, e3, e4, e5, e6, e7⟩ := hE
  have s0 : cn_sum (cn_hz N x) N.1 = 0 := by
    refine cn_sum_0 _ (fun c hc => ?_)
    unfold cn_hz
    by_cases g : cn_G x c = 0
    · rw [if_pos g]
      unfold cn_fcg
      by_cases z : N.2.2 (3 * c) < 30 ∧ N.2.2 (3 * c) % 3 = 0 ∧ 3 * c < N.2.2 (3 * c)
      · obtain ⟨j, j1, _⟩ := e4 c hc g (cn_fc_t (by omega) z.1 z.2.1)
        omega
      · rw [if_neg z]
    · rw [if_neg g]
  have s1 : cn_lf x 2 = cn_sum (cn_gz x) N.1 := by
    unfold cn_lf
    rw [e1]
    refine cn_sum_eq _ (fun c hc => ?_)
    unfold cn_lg cn_gz
    by_cases g : cn_G x c = 0
    · rw [if_pos g, if_pos ⟨g, e2 c hc⟩]
    · rw [if_neg g, if_neg (fun t => g t.1)]
  omega
theorem cn_F2 {N : cn_Nt} (hN : cn_IN N) (h2 : ∀ c, c < N.1 → N.2.1 c = 2) : cn_lf (cn_pic N) 2 + 2 * cn_fa N = N.1 := by
  obtain ⟨⟨i, hE⟩, w⟩ := cn_Er_run hN 1000 0 (cn_cp N) (by omega) (cn_cp_I hN) (cn_Er0 hN h2)
  exact cn_F2g hN.1 hE w
end
section
/-! the net: making it -/
def cn_N0 (K : Nat → Nat) : cn_Nt := (0, K, fun _ => 5000)
theorem cn_N0_IN (K : Nat → Nat) : cn_IN (cn_N0 K) := ⟨Nat.zero_le _, fun c hc => absurd hc (Nat.not_lt_zero c), fun _ _ => Or.inl rfl⟩
theorem cn_init {post : St1 → Prop} {mc ms : Nat} (K : Nat → Nat) (h1 : 8 ≤ mc) (h2 : 4478 ≤ ms) (H : ∀ u', cn_Ob (cn_N0 K) u' → post u') : wpX_init post mc ms (0, 0, 0, 0, 0, 0, 0) := by
  unfold wpX_init
  dsimp only
  refine ⟨by omega, by omega, by omega, by omega, by omega, by omega, by omega, by omega, by omega, by omega, by omega, by omega, by omega, by omega, by omega, by omega, ?_⟩
  refine pk_loop (fun n i s => wX_init_76 post mc ms 8 4478 0 0 0 0 0 0 0 n (nI i) (fun _ => 0) s (fun _ => 0) (fun _ => 0) (fun _ => 0) (fun _ => 0) (fun _ => 0) (fun _ => 0)) (fun i s => ∀ p, p < i → s p = cn_en 5000) 34 0 (fun _ => 0) (by omega) (fun j hj => absurd hj (Nat.not_lt_zero j)) ?_ ?_
  · intro n s hs
    exact pk_le 34 34 (fun _ => H _ ⟨⟨rfl, fun c hc => absurd hc (Nat.not_lt_zero c), hs⟩, Or.inl rfl⟩) (fun z => absurd z (by omega))
  · intro n i s hi hs hw
    exact pk_le 34 i (fun z => absurd z (by omega)) (fun _ => ⟨pk_in i 34 hi, nm_e (nm_r (nI_1 i) (hw _ (cn_fill (f := fun _ => cn_en 5000) (nI_clamp (by omega)) hs cn_en_o.symm)))⟩)
theorem cn_clear {post : St1 → Prop} {N : cn_Nt} {u : St1} (h : cn_MN N u) (H : ∀ u', cn_MN (cn_N0 N.2.1) u' → cn_kn u' = 0 → post u') : wpX_clear post u := by
  obtain ⟨f0, f1, f2, f3, f4, f5, f6, a1, a2, a3, a4, a5, a6, a7, a8⟩ := u
  obtain ⟨n1, n2, n3⟩ := h
  unfold wpX_clear
  dsimp only
  refine pk_loop (fun n i s => wX_clear_7 post 0 f1 f2 f3 f4 f5 f6 n (nI i) a1 s a3 a4 a5 a6 a7 a8) (fun i s => ∀ p, p < i → s p = cn_en 5000) 34 0 a2 (by omega) (fun j hj => absurd hj (Nat.not_lt_zero j)) ?_ ?_
  · intro n s hs
    exact pk_le 34 34 (fun _ => H _ ⟨rfl, fun c hc => absurd hc (Nat.not_lt_zero c), hs⟩ rfl) (fun z => absurd z (by omega))
  · intro n i s hi hs hw
    exact pk_le 34 i (fun z => absurd z (by omega)) (fun _ => ⟨pk_in i 34 hi, nm_e (nm_r (nI_1 i) (hw _ (cn_fill (f := fun _ => cn_en 5000) (nI_clamp (by omega)) hs cn_en_o.symm)))⟩)
theorem cn_bad {post : Int32 → Prop} {N : cn_Nt} {u : St1} {P : Int32} (p : Nat) (hP : P = nI p) (hp : p < 34) (hN : cn_IN N) (h : cn_MN N u) (h0 : cn_gd N p → post 0) (h1 : ¬ cn_gd N p → post 1) : wpX_badPort post u P := by
  obtain ⟨f0, f1, f2, f3, f4, f5, f6, a1, a2, a3, a4, a5, a6, a7, a8⟩ := u
  obtain ⟨n1, n2, n3⟩ := h
  have c10 := hN.1
  have d1 : P / 3 = nI (p / 3) := by rw [hP]; exact pk_div (d := 3) (by omega) (by decide) (by decide)
  have d2 : P - P / 3 * 3 = nI (p % 3) := by rw [hP]; exact pk_rem (d := 3) (by omega) (by decide) (by decide)
  unfold wpX_badPort
  dsimp only
  refine pk_lt p 0 (fun z => absurd z (by omega)) (fun _ => pk_le p 33 (fun _ => pk_lt p 30 (fun z => ⟨by decide, ?_⟩) (fun z => h0 (Or.inl z)) (hx := hP)) (fun z => absurd z (by omega)) (hx := hP)) (hx := hP)
  refine pk_le N.1 (p / 3) (fun y => h1 (fun t => ?_)) (fun y => ⟨by decide, pk_in (p / 3) 10 (by omega) d1, ?_⟩) (hx := n1) (hy := d1)
  · rcases t with t | t
    · omega
    · omega
  · have k2 := hN.2.1 (p / 3) y
    refine pk_eq (N.2.1 (p / 3)) 2 (fun k => ⟨by decide, pk_le (p % 3) 0 (fun r => h0 (Or.inr ⟨y, fun _ => by omega⟩)) (fun r => h1 (fun t => ?_)) (hx := d2)⟩) (fun k => h0 (Or.inr ⟨y, fun t => absurd t k⟩)) (hx := ?_)
    · rcases t with t | t
      · omega
      · have := t.2 k
        omega
    · rw [d1, nI_clamp (by omega)]
      exact n2 _ y
def cn_a2 (N : cn_Nt) : Prop := ∀ c, c < N.1 → N.2.1 c = 2
/-! cell -/
def cn_cl (N : cn_Nt) (k : Nat) : cn_Nt := (N.1 + 1, cn_up N.2.1 N.1 k, N.2.2)
theorem cn_cl_IN {N : cn_Nt} {k : Nat} (hN : cn_IN N) (h9 : N.1 ≠ 10) (hk : k ≤ 2) : cn_IN (cn_cl N k) := by
  obtain ⟨h1, h2, h3⟩ := hN
  have g : ∀ p, cn_gd N p → cn_gd (cn_cl N k) p := by
    intro p hp
    rcases hp with z | z
    · exact Or.inl z
    · refine Or.inr ⟨Nat.lt_succ_of_lt z.1, ?_⟩
      show cn_up N.2.1 N.1 k (p / 3) = 2 → p % 3 = 0
      rw [cn_un (by omega)]
      exact z.2
  refine ⟨by show N.1 + 1 ≤ 10; omega, fun c hc => ?_, fun p hp => ?_⟩
  · show cn_up N.2.1 N.1 k c ≤ 2
    have hc' : c < N.1 + 1 := hc
    by_cases e : c = N.1
    · rw [e, cn_us]
      exact hk
    · rw [cn_un e]
      exact h2 c (by omega)
  · rcases h3 p hp with z | z
    · exact Or.inl z
    · exact Or.inr ⟨g _ z.1, z.2.1, g _ z.2.2.1, z.2.2.2⟩
theorem cn_cell {N : cn_Nt} (k : Nat) (hk : k ≤ 2) (hN : cn_IN N) : ∃ N', cn_IN N' ∧ (k = 2 → cn_a2 N → cn_a2 N') ∧ ∀ (post : Int32 → St1 → Prop) (u : St1), cn_Ob N u → (∀ r u', cn_Ob N' u' → post r u') → wpX_cell post u (nI k) := by
  have h1 := hN.1
  by_cases z : N.1 = 10
  · refine ⟨N, hN, fun _ h => h, fun post u h H => ?_⟩
    have H' := H (-2) _ h
    obtain ⟨f0, f1, f2, f3, f4, f5, f6, a1, a2, a3, a4, a5, a6, a7, a8⟩ := u
    obtain ⟨⟨n1, n2, n3⟩, hk2⟩ := h
    unfold wpX_cell
    dsimp only
    exact pk_lt k 0 (fun z => absurd z (by omega)) (fun _ => pk_le k 2 (fun _ => pk_eq N.1 10 (fun _ => H') (fun y => absurd z y) (hx := n1)) (fun y => absurd y (by omega)))
  · refine ⟨cn_cl N k, cn_cl_IN hN z hk, fun e h c hc => ?_, fun post u h H => ?_⟩
    · show cn_up N.2.1 N.1 k c = 2
      have hc' : c < N.1 + 1 := hc
      by_cases e2 : c = N.1
      · rw [e2, cn_us]
        exact e
      · rw [cn_un e2]
        exact h c (by omega)
    · obtain ⟨f0, f1, f2, f3, f4, f5, f6, a1, a2, a3, a4, a5, a6, a7, a8⟩ := u
      obtain ⟨⟨n1, n2, n3⟩, hk2⟩ := h
      unfold wpX_cell
      dsimp only
      refine pk_lt k 0 (fun z => absurd z (by omega)) (fun _ => pk_le k 2 (fun _ => pk_eq N.1 10 (fun y => absurd y z) (fun _ => ⟨pk_in N.1 10 (by omega) n1, nm_r (e' := upd a1 N.1 (nI k)) (by rw [n1, nI_clamp (by omega)]) (nm_r (e' := nI (N.1 + 1)) (by rw [n1, nI_1]) (H _ _ ⟨⟨rfl, cn_updS n2 rfl, n3⟩, Or.inl rfl⟩))⟩) (hx := n1)) (fun y => absurd y (by omega)))
/-! join -/
def cn_jn (N : cn_Nt) (p q : Nat) : cn_Nt := (N.1, N.2.1, cn_up (cn_up N.2.2 p q) q p)
def cn_ok (N : cn_Nt) (p q : Nat) : Prop := cn_gd N p ∧ cn_gd N q ∧ p ≠ q ∧ N.2.2 p = 5000 ∧ N.2.2 q = 5000
theorem cn_jn_IN {N : cn_Nt} {p q : Nat} (hN : cn_IN N) (hp : p < 34) (hq : q < 34) (ok : cn_ok N p q) : cn_IN (cn_jn N p q) := by
  obtain ⟨h1, h2, h3⟩ := hN
  obtain ⟨o1, o2, o3, o4, o5⟩ := ok
  refine ⟨h1, h2, fun r hr => ?_⟩
  show cn_up (cn_up N.2.2 p q) q p r = 5000 ∨ (cn_gd N r ∧ cn_up (cn_up N.2.2 p q) q p r < 34 ∧ cn_gd N (cn_up (cn_up N.2.2 p q) q p r) ∧ cn_up (cn_up N.2.2 p q) q p (cn_up (cn_up N.2.2 p q) q p r) = r ∧ cn_up (cn_up N.2.2 p q) q p r ≠ r)
  by_cases e1 : r = q
  · right
    rw [e1, cn_us, cn_un o3, cn_us]
    exact ⟨o2, hp, o1, rfl, o3⟩
  · by_cases e2 : r = p
    · right
      rw [e2, cn_un o3, cn_us, cn_us]
      exact ⟨o1, hq, o2, rfl, fun t => o3 t.symm⟩
    · rw [cn_un e1, cn_un e2]
      rcases h3 r hr with z | z
      · exact Or.inl z
      · right
        obtain ⟨z1, z2, z3, z4, z5⟩ := z
        refine ⟨z1, z2, z3, ?_, z5⟩
        rw [cn_un (fun t => ?_), cn_un (fun t => ?_)]
        · exact z4
        · rw [t] at z4; omega
        · rw [t] at z4; omega
theorem cn_wlt {N : cn_Nt} {p : Nat} (hN : cn_IN N) (hp : p < 34) : N.2.2 p < 1474 ∨ N.2.2 p = 5000 := by
  rcases hN.2.2 p hp with z | z
  · exact Or.inr z
  · exact Or.inl (by omega)
theorem cn_updW {a : Nat → Int32} {f : Nat → Nat} {k w : Nat} {v : Int32} (h : ∀ r, r < 34 → a r = cn_en (f r)) (hv : v = cn_en w) : ∀ r, r < 34 → upd a k v r = cn_en (cn_up f k w r) := by
  intro r hr
  by_cases e : r = k
  · rw [e, pk_us, cn_us, hv]
  · rw [pk_un e, cn_un e, h r hr]
theorem cn_join {post : Int32 → St1 → Prop} {N : cn_Nt} {u : St1} {P Q : Int32} (p q : Nat) (hP : P = nI p) (hQ : Q = nI q) (hp : p < 34) (hq : q < 34) (hN : cn_IN N) (h : cn_MN N u) (H0 : ¬ cn_ok N p q → ∀ r, ¬ r = 0 → post r u) (H1 : cn_ok N p q → ∀ u', cn_MN (cn_jn N p q) u' → cn_kn u' = 0 → post 0 u') : wpX_join post u P Q := by
  obtain ⟨f0, f1, f2, f3, f4, f5, f6, a1, a2, a3, a4, a5, a6, a7, a8⟩ := u
  have h' := h
  obtain ⟨n1, n2, n3⟩ := h
  subst hP hQ
  unfold wpX_join
  dsimp only
  refine cn_bad p rfl hp hN h' (fun g1 => br_t rfl ?_) (fun g1 => br_f (by decide) (H0 (fun t => g1 t.1) _ (by decide)))
  refine cn_bad q rfl hq hN h' (fun g2 => br_t rfl ?_) (fun g2 => br_f (by decide) (H0 (fun t => g2 t.2.1) _ (by decide)))
  refine pk_eq p q (fun e => H0 (fun t => t.2.2.1 e) _ (by decide)) (fun ne => ⟨pk_in p 34 hp, ?_⟩)
  rw [nI_clamp (show p < 2 ^ 31 by omega), nI_clamp (show q < 2 ^ 31 by omega)]
  refine cn_brO (N.2.2 p) (n3 p hp) (cn_wlt hN hp) (fun o1 => ⟨pk_in q 34 hq, ?_⟩) (fun o1 _ => H0 (fun t => by have := t.2.2.2.1; omega) _ (by decide))
  refine cn_brO (N.2.2 q) (n3 q hq) (cn_wlt hN hq) (fun o2 => ⟨pk_in p 34 hp, nm_e ⟨pk_in q 34 hq, nm_e ?_⟩⟩) (fun o2 _ => H0 (fun t => by have := t.2.2.2.2; omega) _ (by decide))
  exact H1 ⟨g1, g2, ne, o1, o2⟩ _ ⟨n1, n2, cn_updW (cn_updW n3 (cn_en_n (by omega)).symm) (cn_en_n (by omega)).symm⟩ rfl
/-! cut -/
def cn_ct (N : cn_Nt) (p : Nat) : cn_Nt := (N.1, N.2.1, cn_up (cn_up N.2.2 p 5000) (N.2.2 p) 5000)
theorem cn_ct_IN {N : cn_Nt} {p : Nat} (hN : cn_IN N) (hp : p < 34) : cn_IN (cn_ct N p) := by
  obtain ⟨h1, h2, h3⟩ := hN
  refine ⟨h1, h2, fun r hr => ?_⟩
  show cn_up (cn_up N.2.2 p 5000) (N.2.2 p) 5000 r = 5000 ∨ (cn_gd N r ∧ cn_up (cn_up N.2.2 p 5000) (N.2.2 p) 5000 r < 34 ∧ cn_gd N (cn_up (cn_up N.2.2 p 5000) (N.2.2 p) 5000 r) ∧ cn_up (cn_up N.2.2 p 5000) (N.2.2 p) 5000 (cn_up (cn_up N.2.2 p 5000) (N.2.2 p) 5000 r) = r ∧ cn_up (cn_up N.2.2 p 5000) (N.2.2 p) 5000 r ≠ r)
  by_cases e1 : r = N.2.2 p
  · left
    rw [e1, cn_us]
  · by_cases e2 : r = p
    · left
      rw [cn_un e1, e2, cn_us]
    · rw [cn_un e1, cn_un e2]
      rcases h3 r hr with z | z
      · exact Or.inl z
      · right
        obtain ⟨z1, z2, z3, z4, z5⟩ := z
        refine ⟨z1, z2, z3, ?_, z5⟩
        rw [cn_un (fun t => ?_), cn_un (fun t => ?_)]
        · exact z4
        · rw [t] at z4; exact e1 z4.symm
        · rw [t] at z4
          rcases h3 p hp with y | y
          · omega
          · rw [y.2.2.2.1] at z4
            exact e2 z4.symm
theorem cn_cut {post : Int32 → St1 → Prop} {N : cn_Nt} {u : St1} {P : Int32} (p : Nat) (hP : P = nI p) (hp : p < 34) (hN : cn_IN N) (h : cn_MN N u) (H0 : ¬ (cn_gd N p ∧ N.2.2 p ≠ 5000) → ∀ r, post r u) (H1 : cn_gd N p ∧ N.2.2 p ≠ 5000 → ∀ u', cn_MN (cn_ct N p) u' → cn_kn u' = 0 → post (nI (N.2.2 p)) u') : wpX_cut post u P := by
  obtain ⟨f0, f1, f2, f3, f4, f5, f6, a1, a2, a3, a4, a5, a6, a7, a8⟩ := u
  have h' := h
  obtain ⟨n1, n2, n3⟩ := h
  subst hP
  unfold wpX_cut
  dsimp only
  refine cn_bad p rfl hp hN h' (fun g1 => br_t rfl ⟨pk_in p 34 hp, nm_r (e' := cn_en (N.2.2 p)) (by rw [nI_clamp (by omega)]; exact n3 p hp) ?_⟩) (fun g1 => br_f (by decide) (H0 (fun t => g1 t.1) _))
  have w := hN.2.2 p hp
  refine cn_brO (N.2.2 p) rfl (cn_wlt hN hp) (fun o => H0 (fun t => t.2 o) _) (fun o e => ?_)
  rw [e, nI_clamp (show p < 2 ^ 31 by omega), nI_clamp (show N.2.2 p < 2 ^ 31 by omega)]
  refine ⟨pk_in p 34 hp, nm_e ⟨pk_in (N.2.2 p) 34 (by omega), nm_e ?_⟩⟩
  exact H1 ⟨g1, by omega⟩ _ ⟨n1, n2, cn_updW (cn_updW n3 cn_en_o.symm) cn_en_o.symm⟩ rfl
/-! the law's own methods -/
theorem cn_port {N : cn_Nt} (x : Int32) (hN : cn_IN N) : ∃ p : Nat, p < 34 ∧ ∀ (post : Int32 → Prop) (u : St1), cn_MN N u → post (nI p) → wpL_port post u x := by
  have h1 := hN.1
  obtain ⟨j, j1, j2⟩ := pk_andE x 2 (m := 3) (by decide)
  obtain ⟨i, i1, i2⟩ := pk_andE (x >>> ((2 : Int32) &&& 31)) 4 (m := 15) (by decide)
  have e30 : (30 : Int32) + (x &&& 3) = nI (30 + j) := by rw [j2]; exact nI_add 30 j
  by_cases z : N.1 = 0
  · refine ⟨30 + j, by omega, fun post u h H => ?_⟩
    obtain ⟨f0, f1, f2, f3, f4, f5, f6, a1, a2, a3, a4, a5, a6, a7, a8⟩ := u
    unfold wpL_port wL_port_21
    dsimp only
    refine cn_cells h (pk_eq N.1 0 (fun _ => br_t (by rw [z]; rfl) ?_) (fun y => absurd z y))
    rw [e30]
    exact H
  · have c0 : ¬ nI N.1 = 0 := nI_ne0 (by omega) (by omega)
    have er : nI i - nI i / nI N.1 * nI N.1 = nI (i % N.1) := pk_rem (by omega) (by omega) (by omega)
    have ilt : i % N.1 < N.1 := Nat.mod_lt _ (by omega)
    by_cases z6 : ((x >>> ((6 : Int32) &&& 31)) &&& 7) = 0
    · refine ⟨30 + j, by omega, fun post u h H => ?_⟩
      obtain ⟨f0, f1, f2, f3, f4, f5, f6, a1, a2, a3, a4, a5, a6, a7, a8⟩ := u
      unfold wpL_port wL_port_21
      dsimp only
      refine cn_cells h (br_f c0 ⟨c0, br_f c0 (br_t z6 ?_)⟩)
      rw [e30]
      exact H
    · by_cases z9 : ((x >>> ((9 : Int32) &&& 31)) &&& 1) = 0
      · refine ⟨3 * (i % N.1), by omega, fun post u h H => ?_⟩
        obtain ⟨f0, f1, f2, f3, f4, f5, f6, a1, a2, a3, a4, a5, a6, a7, a8⟩ := u
        unfold wpL_port wL_port_21
        dsimp only
        refine cn_cells h (br_f c0 ⟨c0, br_f c0 (br_f z6 (br_t z9 ?_))⟩)
        rw [i2, er, cn_30]
        exact H
      · refine ⟨3 * (i % N.1) + j % 3, by omega, fun post u h H => ?_⟩
        obtain ⟨f0, f1, f2, f3, f4, f5, f6, a1, a2, a3, a4, a5, a6, a7, a8⟩ := u
        unfold wpL_port wL_port_21
        dsimp only
        refine cn_cells h (br_f c0 ⟨c0, br_f c0 (br_f z6 (br_f z9 ⟨by decide, ?_⟩))⟩)
        rw [i2, er, j2, show nI j - nI j / 3 * 3 = nI (j % 3) from pk_rem (d := 3) (by omega) (by decide) (by decide), cn_3s]
        exact H
theorem cn_turn {N : cn_Nt} (op x : Int32) (hN : cn_IN N) : ∃ N', cn_IN N' ∧ ((8 ≤ (op &&& 31) ∨ (x &&& 7) = 7) → cn_a2 N → cn_a2 N') ∧ ∀ (post : Int32 → St1 → Prop) (u : St1), cn_Ob N u → (∀ r u', cn_Ob N' u' → post r u') → wpL_turn post u op x := by
  obtain ⟨p, p1, p2⟩ := cn_port x hN
  obtain ⟨q, q1, q2⟩ := cn_port (x >>> ((10 : Int32) &&& 31)) hN
  by_cases c8 : 8 ≤ (op &&& 31)
  · by_cases c29 : 29 ≤ (op &&& 31)
    · by_cases c31 : 31 ≤ (op &&& 31)
      · by_cases c0 : (x &&& 7) = 0
        · refine ⟨cn_N0 N.2.1, cn_N0_IN _, fun _ _ c hc => absurd hc (Nat.not_lt_zero c), fun post u h H => ?_⟩
          obtain ⟨f0, f1, f2, f3, f4, f5, f6, a1, a2, a3, a4, a5, a6, a7, a8⟩ := u
          unfold wpL_turn
          dsimp only
          refine nm_e (p2 _ _ h.1 (q2 _ _ h.1 (br_t c8 (br_t c29 (br_t c31 (br_t c0 ?_))))))
          refine cn_clear h.1 (fun u' hu hk => ?_)
          obtain ⟨f0, f1, f2, f3, f4, f5, f6, a1, a2, a3, a4, a5, a6, a7, a8⟩ := u'
          exact H _ _ ⟨hu, Or.inl hk⟩
        · refine ⟨N, hN, fun _ h => h, fun post u h H => ?_⟩
          have H' := H 0 _ h
          obtain ⟨f0, f1, f2, f3, f4, f5, f6, a1, a2, a3, a4, a5, a6, a7, a8⟩ := u
          unfold wpL_turn
          dsimp only
          exact nm_e (p2 _ _ h.1 (q2 _ _ h.1 (br_t c8 (br_t c29 (br_t c31 (br_f c0 H'))))))
      · by_cases ok : cn_gd N p ∧ N.2.2 p ≠ 5000
        · refine ⟨cn_ct N p, cn_ct_IN hN p1, fun _ h => h, fun post u h H => ?_⟩
          obtain ⟨f0, f1, f2, f3, f4, f5, f6, a1, a2, a3, a4, a5, a6, a7, a8⟩ := u
          unfold wpL_turn
          dsimp only
          refine nm_e (p2 _ _ h.1 (q2 _ _ h.1 (br_t c8 (br_t c29 (br_f c31 ?_)))))
          refine cn_cut p rfl p1 hN h.1 (fun t => absurd ok t) (fun _ u' hu hk => ?_)
          obtain ⟨f0, f1, f2, f3, f4, f5, f6, a1, a2, a3, a4, a5, a6, a7, a8⟩ := u'
          exact H _ _ ⟨hu, Or.inl hk⟩
        · refine ⟨N, hN, fun _ h => h, fun post u h H => ?_⟩
          have H' := fun r => H r _ h
          obtain ⟨f0, f1, f2, f3, f4, f5, f6, a1, a2, a3, a4, a5, a6, a7, a8⟩ := u
          unfold wpL_turn
          dsimp only
          refine nm_e (p2 _ _ h.1 (q2 _ _ h.1 (br_t c8 (br_t c29 (br_f c31 ?_)))))
          exact cn_cut p rfl p1 hN h.1 (fun _ r => H' r) (fun t => absurd t ok)
    · by_cases ok : cn_ok N p q
      · refine ⟨cn_jn N p q, cn_jn_IN hN p1 q1 ok, fun _ h => h, fun post u h H => ?_⟩
        obtain ⟨f0, f1, f2, f3, f4, f5, f6, a1, a2, a3, a4, a5, a6, a7, a8⟩ := u
        unfold wpL_turn
        dsimp only
        refine nm_e (p2 _ _ h.1 (q2 _ _ h.1 (br_t c8 (br_f c29 ?_))))
        refine cn_join p q rfl rfl p1 q1 hN h.1 (fun t => absurd ok t) (fun _ u' hu hk => ?_)
        obtain ⟨f0, f1, f2, f3, f4, f5, f6, a1, a2, a3, a4, a5, a6, a7, a8⟩ := u'
        exact H _ _ ⟨hu, Or.inl hk⟩
      · refine ⟨N, hN, fun _ h => h, fun post u h H => ?_⟩
        have H' := fun r => H r _ h
        obtain ⟨f0, f1, f2, f3, f4, f5, f6, a1, a2, a3, a4, a5, a6, a7, a8⟩ := u
        unfold wpL_turn
        dsimp only
        refine nm_e (p2 _ _ h.1 (q2 _ _ h.1 (br_t c8 (br_f c29 ?_))))
        exact cn_join p q rfl rfl p1 q1 hN h.1 (fun _ r _ => H' r) (fun t => absurd t ok)
  · by_cases c7 : (x &&& 7) = 7
    · obtain ⟨N', k1, k2, k3⟩ := cn_cell 2 (by omega) hN
      refine ⟨N', k1, fun _ h => k2 rfl h, fun post u h H => ?_⟩
      obtain ⟨f0, f1, f2, f3, f4, f5, f6, a1, a2, a3, a4, a5, a6, a7, a8⟩ := u
      unfold wpL_turn wL_turn_45
      dsimp only
      refine nm_e (p2 _ _ h.1 (q2 _ _ h.1 (br_f c8 (br_t c7 ?_))))
      refine k3 _ _ h (fun r u' hu => ?_)
      obtain ⟨f0, f1, f2, f3, f4, f5, f6, a1, a2, a3, a4, a5, a6, a7, a8⟩ := u'
      exact H _ _ hu
    · obtain ⟨j, j1, j2⟩ := pk_andE x 1 (m := 1) (by decide)
      obtain ⟨N', k1, k2, k3⟩ := cn_cell j (by omega) hN
      refine ⟨N', k1, fun t => ?_, fun post u h H => ?_⟩
      · rcases t with t | t
        · exact absurd t c8
        · exact absurd t c7
      · obtain ⟨f0, f1, f2, f3, f4, f5, f6, a1, a2, a3, a4, a5, a6, a7, a8⟩ := u
        unfold wpL_turn wL_turn_45
        dsimp only
        refine nm_e (p2 _ _ h.1 (q2 _ _ h.1 (br_f c8 (br_f c7 ?_))))
        rw [j2]
        refine k3 _ _ h (fun r u' hu => ?_)
        obtain ⟨f0, f1, f2, f3, f4, f5, f6, a1, a2, a3, a4, a5, a6, a7, a8⟩ := u'
        exact H _ _ hu
end
section
theorem cn_eqE {N : cn_Nt} {post : Int32 → St2 → Prop} (hN : cn_IN N) (H : ∀ (f0 f1 f2 f3 f4 f5 f6 : Int32) (a1 a2 a3 a4 a5 a6 a7 a8 : Nat → Int32) (g0 g1 g2 g3 g4 g5 g6 : Int32) (b1 b2 b3 b4 b5 b6 b7 b8 : Nat → Int32), cn_B N (f0, f1, f2, f3, f4, f5, f6, a1, a2, a3, a4, a5, a6, a7, a8) → cn_B N (g0, g1, g2, g3, g4, g5, g6, b1, b2, b3, b4, b5, b6, b7, b8) → post 1 (f0, f1, f2, f3, f4, f5, f6, a1, a2, a3, a4, a5, a6, a7, a8, g0, g1, g2, g3, g4, g5, g6, b1, b2, b3, b4, b5, b6, b7, b8)) (n : Nat) (f0 f1 f2 f3 f4 f5 f6 : Int32) (a1 a2 a3 a4 a5 a6 a7 a8 : Nat → Int32) (g0 g1 g2 g3 g4 g5 g6 : Int32) (b1 b2 b3 b4 b5 b6 b7 b8 : Nat → Int32) (hu : cn_Ob N (f0, f1, f2, f3, f4, f5, f6, a1, a2, a3, a4, a5, a6, a7, a8)) (hv : cn_Ob N (g0, g1, g2, g3, g4, g5, g6, b1, b2, b3, b4, b5, b6, b7, b8)) : wL_equal_2 post (n + 1) (nI 4) f0 f1 f2 f3 f4 f5 f6 a1 a2 a3 a4 a5 a6 a7 a8 g0 g1 g2 g3 g4 g5 g6 b1 b2 b3 b4 b5 b6 b7 b8 := by
  refine pk_le 4 4 (fun _ => ?_) (fun z => absurd z (by omega))
  refine cn_steps hN hu (fun u' hu => ?_)
  obtain ⟨f0, f1, f2, f3, f4, f5, f6, a1, a2, a3, a4, a5, a6, a7, a8⟩ := u'
  refine cn_steps hN hv (fun u' hv => ?_)
  obtain ⟨g0, g1, g2, g3, g4, g5, g6, b1, b2, b3, b4, b5, b6, b7, b8⟩ := u'
  refine br_t rfl ?_
  replace hu := cn_BO hu
  replace hv := cn_BO hv
  refine cn_left 0 (by omega) hN hu (fun u' hu => ?_)
  obtain ⟨f0, f1, f2, f3, f4, f5, f6, a1, a2, a3, a4, a5, a6, a7, a8⟩ := u'
  refine cn_left 0 (by omega) hN hv (fun u' hv => ?_)
  obtain ⟨g0, g1, g2, g3, g4, g5, g6, b1, b2, b3, b4, b5, b6, b7, b8⟩ := u'
  refine br_t rfl ?_
  replace hu := cn_BO hu
  replace hv := cn_BO hv
  refine cn_left 1 (by omega) hN hu (fun u' hu => ?_)
  obtain ⟨f0, f1, f2, f3, f4, f5, f6, a1, a2, a3, a4, a5, a6, a7, a8⟩ := u'
  refine cn_left 1 (by omega) hN hv (fun u' hv => ?_)
  obtain ⟨g0, g1, g2, g3, g4, g5, g6, b1, b2, b3, b4, b5, b6, b7, b8⟩ := u'
  refine br_t rfl ?_
  replace hu := cn_BO hu
  replace hv := cn_BO hv
  refine cn_left 2 (by omega) hN hu (fun u' hu => ?_)
  obtain ⟨f0, f1, f2, f3, f4, f5, f6, a1, a2, a3, a4, a5, a6, a7, a8⟩ := u'
  refine cn_left 2 (by omega) hN hv (fun u' hv => ?_)
  obtain ⟨g0, g1, g2, g3, g4, g5, g6, b1, b2, b3, b4, b5, b6, b7, b8⟩ := u'
  refine br_t rfl ?_
  replace hu := cn_BO hu
  replace hv := cn_BO hv
  refine cn_loops hN hu (fun u' hu => ?_)
  obtain ⟨f0, f1, f2, f3, f4, f5, f6, a1, a2, a3, a4, a5, a6, a7, a8⟩ := u'
  refine cn_loops hN hv (fun u' hv => ?_)
  obtain ⟨g0, g1, g2, g3, g4, g5, g6, b1, b2, b3, b4, b5, b6, b7, b8⟩ := u'
  refine br_t rfl ?_
  replace hu := cn_BO hu
  replace hv := cn_BO hv
  refine cn_open hN hu (fun u' hu => ?_)
  obtain ⟨f0, f1, f2, f3, f4, f5, f6, a1, a2, a3, a4, a5, a6, a7, a8⟩ := u'
  refine cn_open hN hv (fun u' hv => ?_)
  obtain ⟨g0, g1, g2, g3, g4, g5, g6, b1, b2, b3, b4, b5, b6, b7, b8⟩ := u'
  refine br_t rfl ?_
  exact cn_facing hN hu.1 (cn_facing hN hv.1 (br_t rfl (cn_cells hu.1 (cn_cells hv.1 (br_t rfl (H f0 f1 f2 f3 f4 f5 f6 a1 a2 a3 a4 a5 a6 a7 a8 g0 g1 g2 g3 g4 g5 g6 b1 b2 b3 b4 b5 b6 b7 b8 hu hv))))))

theorem cn_eqS {N : cn_Nt} {post : Int32 → St2 → Prop} (hN : cn_IN N) (n i : Nat) (hi : i < 4) (ih : ∀ (f0 f1 f2 f3 f4 f5 f6 : Int32) (a1 a2 a3 a4 a5 a6 a7 a8 : Nat → Int32) (g0 g1 g2 g3 g4 g5 g6 : Int32) (b1 b2 b3 b4 b5 b6 b7 b8 : Nat → Int32), cn_Ob N (f0, f1, f2, f3, f4, f5, f6, a1, a2, a3, a4, a5, a6, a7, a8) → cn_Ob N (g0, g1, g2, g3, g4, g5, g6, b1, b2, b3, b4, b5, b6, b7, b8) → wL_equal_2 post n (nI (i + 1)) f0 f1 f2 f3 f4 f5 f6 a1 a2 a3 a4 a5 a6 a7 a8 g0 g1 g2 g3 g4 g5 g6 b1 b2 b3 b4 b5 b6 b7 b8) (f0 f1 f2 f3 f4 f5 f6 : Int32) (a1 a2 a3 a4 a5 a6 a7 a8 : Nat → Int32) (g0 g1 g2 g3 g4 g5 g6 : Int32) (b1 b2 b3 b4 b5 b6 b7 b8 : Nat → Int32) (hu : cn_Ob N (f0, f1, f2, f3, f4, f5, f6, a1, a2, a3, a4, a5, a6, a7, a8)) (hv : cn_Ob N (g0, g1, g2, g3, g4, g5, g6, b1, b2, b3, b4, b5, b6, b7, b8)) : wL_equal_2 post (n + 1) (nI i) f0 f1 f2 f3 f4 f5 f6 a1 a2 a3 a4 a5 a6 a7 a8 g0 g1 g2 g3 g4 g5 g6 b1 b2 b3 b4 b5 b6 b7 b8 := by
  obtain ⟨r, _, rr⟩ := cn_reach i hN hi
  obtain ⟨r0, _, w0⟩ := cn_walk i 0 hN hi (by omega)
  obtain ⟨r5, _, w5⟩ := cn_walk i 5 hN hi (by omega)
  obtain ⟨r22, _, w22⟩ := cn_walk i 22 hN hi (by omega)
  refine pk_le 4 i (fun z => absurd z (by omega)) (fun _ => ?_)
  refine rr _ _ hu (fun u' hu => ?_)
  obtain ⟨f0, f1, f2, f3, f4, f5, f6, a1, a2, a3, a4, a5, a6, a7, a8⟩ := u'
  refine rr _ _ hv (fun u' hv => ?_)
  obtain ⟨g0, g1, g2, g3, g4, g5, g6, b1, b2, b3, b4, b5, b6, b7, b8⟩ := u'
  refine br_t rfl ?_
  replace hu := cn_BO hu
  replace hv := cn_BO hv
  refine w0 _ _ hu (fun u' hu => ?_)
  obtain ⟨f0, f1, f2, f3, f4, f5, f6, a1, a2, a3, a4, a5, a6, a7, a8⟩ := u'
  refine w0 _ _ hv (fun u' hv => ?_)
  obtain ⟨g0, g1, g2, g3, g4, g5, g6, b1, b2, b3, b4, b5, b6, b7, b8⟩ := u'
  refine br_t rfl ?_
  replace hu := cn_BO hu
  replace hv := cn_BO hv
  refine w5 _ _ hu (fun u' hu => ?_)
  obtain ⟨f0, f1, f2, f3, f4, f5, f6, a1, a2, a3, a4, a5, a6, a7, a8⟩ := u'
  refine w5 _ _ hv (fun u' hv => ?_)
  obtain ⟨g0, g1, g2, g3, g4, g5, g6, b1, b2, b3, b4, b5, b6, b7, b8⟩ := u'
  refine br_t rfl ?_
  replace hu := cn_BO hu
  replace hv := cn_BO hv
  refine w22 _ _ hu (fun u' hu => ?_)
  obtain ⟨f0, f1, f2, f3, f4, f5, f6, a1, a2, a3, a4, a5, a6, a7, a8⟩ := u'
  refine w22 _ _ hv (fun u' hv => ?_)
  obtain ⟨g0, g1, g2, g3, g4, g5, g6, b1, b2, b3, b4, b5, b6, b7, b8⟩ := u'
  refine br_t rfl ?_
  replace hu := cn_BO hu
  replace hv := cn_BO hv
  exact nm_r (nI_1 i) (ih f0 f1 f2 f3 f4 f5 f6 a1 a2 a3 a4 a5 a6 a7 a8 g0 g1 g2 g3 g4 g5 g6 b1 b2 b3 b4 b5 b6 b7 b8 hu hv)
theorem cn_equal2 {N : cn_Nt} {post : Int32 → St2 → Prop} (hN : cn_IN N) (H : ∀ (f0 f1 f2 f3 f4 f5 f6 : Int32) (a1 a2 a3 a4 a5 a6 a7 a8 : Nat → Int32) (g0 g1 g2 g3 g4 g5 g6 : Int32) (b1 b2 b3 b4 b5 b6 b7 b8 : Nat → Int32), cn_B N (f0, f1, f2, f3, f4, f5, f6, a1, a2, a3, a4, a5, a6, a7, a8) → cn_B N (g0, g1, g2, g3, g4, g5, g6, b1, b2, b3, b4, b5, b6, b7, b8) → post 1 (f0, f1, f2, f3, f4, f5, f6, a1, a2, a3, a4, a5, a6, a7, a8, g0, g1, g2, g3, g4, g5, g6, b1, b2, b3, b4, b5, b6, b7, b8)) : ∀ (n i : Nat), i + n = 4 → ∀ (f0 f1 f2 f3 f4 f5 f6 : Int32) (a1 a2 a3 a4 a5 a6 a7 a8 : Nat → Int32) (g0 g1 g2 g3 g4 g5 g6 : Int32) (b1 b2 b3 b4 b5 b6 b7 b8 : Nat → Int32), cn_Ob N (f0, f1, f2, f3, f4, f5, f6, a1, a2, a3, a4, a5, a6, a7, a8) → cn_Ob N (g0, g1, g2, g3, g4, g5, g6, b1, b2, b3, b4, b5, b6, b7, b8) → wL_equal_2 post (n + 1) (nI i) f0 f1 f2 f3 f4 f5 f6 a1 a2 a3 a4 a5 a6 a7 a8 g0 g1 g2 g3 g4 g5 g6 b1 b2 b3 b4 b5 b6 b7 b8 := by
  intro n
  induction n with
  | zero =>
    intro i hi
    rw [show i = 4 by omega]
    exact cn_eqE hN H 0
  | succ n ih =>
    intro i hi
    exact cn_eqS hN (n + 1) i (by omega) (ih (i + 1) (by omega))
theorem cn_equal {N : cn_Nt} {post : Int32 → St2 → Prop} {f0 f1 f2 f3 f4 f5 f6 : Int32} {a1 a2 a3 a4 a5 a6 a7 a8 : Nat → Int32} {g0 g1 g2 g3 g4 g5 g6 : Int32} {b1 b2 b3 b4 b5 b6 b7 b8 : Nat → Int32} (hN : cn_IN N) (hu : cn_Ob N (f0, f1, f2, f3, f4, f5, f6, a1, a2, a3, a4, a5, a6, a7, a8)) (hv : cn_Ob N (g0, g1, g2, g3, g4, g5, g6, b1, b2, b3, b4, b5, b6, b7, b8)) (H : ∀ (f0 f1 f2 f3 f4 f5 f6 : Int32) (a1 a2 a3 a4 a5 a6 a7 a8 : Nat → Int32) (g0 g1 g2 g3 g4 g5 g6 : Int32) (b1 b2 b3 b4 b5 b6 b7 b8 : Nat → Int32), cn_B N (f0, f1, f2, f3, f4, f5, f6, a1, a2, a3, a4, a5, a6, a7, a8) → cn_B N (g0, g1, g2, g3, g4, g5, g6, b1, b2, b3, b4, b5, b6, b7, b8) → post 1 (f0, f1, f2, f3, f4, f5, f6, a1, a2, a3, a4, a5, a6, a7, a8, g0, g1, g2, g3, g4, g5, g6, b1, b2, b3, b4, b5, b6, b7, b8)) : wpL_equal post (f0, f1, f2, f3, f4, f5, f6, a1, a2, a3, a4, a5, a6, a7, a8, g0, g1, g2, g3, g4, g5, g6, b1, b2, b3, b4, b5, b6, b7, b8) := by
  unfold wpL_equal
  dsimp only
  exact ⟨5, cn_equal2 hN H 4 0 (by omega) f0 f1 f2 f3 f4 f5 f6 a1 a2 a3 a4 a5 a6 a7 a8 g0 g1 g2 g3 g4 g5 g6 b1 b2 b3 b4 b5 b6 b7 b8 hu hv⟩
theorem cn_346 {N : cn_Nt} {post : Int32 → Prop} {L : Nat} {xs : Nat → Int32} {z : Int32} {kc ks : Nat} {f0 f1 f2 f3 f4 f5 f6 : Int32} {a1 a2 a3 a4 a5 a6 a7 a8 : Nat → Int32} {g0 g1 g2 g3 g4 g5 g6 : Int32} {b1 b2 b3 b4 b5 b6 b7 b8 : Nat → Int32} (hN : cn_IN N) (hp : post 1) (hu : cn_Ob N (f0, f1, f2, f3, f4, f5, f6, a1, a2, a3, a4, a5, a6, a7, a8)) (hv : cn_Ob N (g0, g1, g2, g3, g4, g5, g6, b1, b2, b3, b4, b5, b6, b7, b8)) : wL_law_346 post L xs z z kc ks f0 f1 f2 f3 f4 f5 f6 a1 a2 a3 a4 a5 a6 a7 a8 g0 g1 g2 g3 g4 g5 g6 b1 b2 b3 b4 b5 b6 b7 b8 := by
  unfold wL_law_346
  refine br_t rfl (cn_equal hN hu hv ?_)
  intro f0 f1 f2 f3 f4 f5 f6 a1 a2 a3 a4 a5 a6 a7 a8 g0 g1 g2 g3 g4 g5 g6 b1 b2 b3 b4 b5 b6 b7 b8 hu hv
  exact br_f (by decide) hp
theorem cn_ctjn {N : cn_Nt} {p q : Nat} (ok : cn_ok N p q) : cn_ct (cn_jn N p q) p = N := by
  obtain ⟨c, K, w⟩ := N
  obtain ⟨o1, o2, o3, o4, o5⟩ := ok
  replace o4 : w p = 5000 := o4
  replace o5 : w q = 5000 := o5
  show (c, K, cn_up (cn_up (cn_up (cn_up w p q) q p) p 5000) (cn_up (cn_up w p q) q p p) 5000) = (c, K, w)
  rw [cn_un o3, cn_us]
  have e : cn_up (cn_up (cn_up (cn_up w p q) q p) p 5000) q 5000 = w := by
    funext r
    by_cases e1 : r = q
    · rw [e1, cn_us, o5]
    · rw [cn_un e1]
      by_cases e2 : r = p
      · rw [e2, cn_us, o4]
      · rw [cn_un e2, cn_un e1, cn_un e2]
  rw [e]
theorem cn_301 {N : cn_Nt} {post : Int32 → Prop} {L : Nat} {xs : Nat → Int32} {x4 : Int32} {kc ks : Nat} {f0 f1 f2 f3 f4 f5 f6 : Int32} {a1 a2 a3 a4 a5 a6 a7 a8 : Nat → Int32} {g0 g1 g2 g3 g4 g5 g6 : Int32} {b1 b2 b3 b4 b5 b6 b7 b8 : Nat → Int32} (hN : cn_IN N) (hp : post 1) (hu : cn_Ob N (f0, f1, f2, f3, f4, f5, f6, a1, a2, a3, a4, a5, a6, a7, a8)) (hv : cn_Ob N (g0, g1, g2, g3, g4, g5, g6, b1, b2, b3, b4, b5, b6, b7, b8)) : wL_law_301 post L xs x4 kc ks f0 f1 f2 f3 f4 f5 f6 a1 a2 a3 a4 a5 a6 a7 a8 g0 g1 g2 g3 g4 g5 g6 b1 b2 b3 b4 b5 b6 b7 b8 := by
  obtain ⟨p, p1, p2⟩ := cn_port x4 hN
  obtain ⟨q, q1, q2⟩ := cn_port (x4 >>> ((10 : Int32) &&& 31)) hN
  unfold wL_law_301
  refine p2 _ _ hv.1 (q2 _ _ hv.1 ?_)
  refine cn_join p q rfl rfl p1 q1 hN hv.1 (fun _ r hr => br_f hr (cn_346 hN hp hu hv)) (fun ok u' hw hk => ?_)
  obtain ⟨g0, g1, g2, g3, g4, g5, g6, b1, b2, b3, b4, b5, b6, b7, b8⟩ := u'
  have hN' := cn_jn_IN hN p1 q1 ok
  have wq : (cn_jn N p q).2.2 p = q := by
    show cn_up (cn_up N.2.2 p q) q p p = q
    rw [cn_un ok.2.2.1, cn_us]
  have ok2 : cn_gd (cn_jn N p q) p ∧ (cn_jn N p q).2.2 p ≠ 5000 := ⟨ok.1, by omega⟩
  refine br_t rfl (cn_cut p rfl p1 hN' hw (fun t => absurd ok2 t) (fun _ u' hw hk => ?_))
  obtain ⟨g0, g1, g2, g3, g4, g5, g6, b1, b2, b3, b4, b5, b6, b7, b8⟩ := u'
  rw [cn_ctjn ok] at hw
  rw [wq]
  exact cn_346 hN hp hu ⟨hw, Or.inl hk⟩
/-! the checks of the ends -/
theorem cn_281 {post : Int32 → Prop} {L : Nat} {xs : Nat → Int32} {J : Int32 → Int32 → Int32 → Int32 → Int32 → Int32 → Int32 → Int32 → (Nat → Int32) → (Nat → Int32) → (Nat → Int32) → (Nat → Int32) → (Nat → Int32) → (Nat → Int32) → (Nat → Int32) → (Nat → Int32) → Int32 → Int32 → Int32 → Int32 → Int32 → Int32 → Int32 → (Nat → Int32) → (Nat → Int32) → (Nat → Int32) → (Nat → Int32) → (Nat → Int32) → (Nat → Int32) → (Nat → Int32) → (Nat → Int32) → Prop} {x4 x7 : Int32} {kc ks : Nat} {f0 f1 f2 f3 f4 f5 f6 : Int32} {a1 a2 a3 a4 a5 a6 a7 a8 : Nat → Int32} {g0 g1 g2 g3 g4 g5 g6 : Int32} {b1 b2 b3 b4 b5 b6 b7 b8 : Nat → Int32} (e w : Nat) (hw : w ≤ 13) (H : J (nI (e + 1)) f0 f1 f2 f3 f4 f5 f6 a1 a2 a3 a4 a5 a6 a7 a8 g0 g1 g2 g3 g4 g5 g6 b1 b2 b3 b4 b5 b6 b7 b8) : wL_law_281 post L xs J x4 x7 (nI e) (nI w) kc ks f0 f1 f2 f3 f4 f5 f6 a1 a2 a3 a4 a5 a6 a7 a8 g0 g1 g2 g3 g4 g5 g6 b1 b2 b3 b4 b5 b6 b7 b8 := by
  unfold wL_law_281
  exact pk_lt w 0 (fun z => absurd z (by omega)) (fun _ => pk_le w 13 (fun _ => nm_r (nI_1 e) H) (fun z => absurd z (by omega)))
theorem cn_221s {N : cn_Nt} {post : Int32 → Prop} {L : Nat} {xs : Nat → Int32} {x4 : Int32} {kc ks : Nat} (hN : cn_IN N) (td : cn_td (cn_pic N) = 0) (x : cn_Pc) (hx : cn_pic N = x) (n e : Nat) (he : e < 4) (ih : ∀ (f0 f1 f2 f3 f4 f5 f6 : Int32) (a1 a2 a3 a4 a5 a6 a7 a8 : Nat → Int32) (g0 g1 g2 g3 g4 g5 g6 : Int32) (b1 b2 b3 b4 b5 b6 b7 b8 : Nat → Int32), cn_B N (f0, f1, f2, f3, f4, f5, f6, a1, a2, a3, a4, a5, a6, a7, a8) → cn_B N (g0, g1, g2, g3, g4, g5, g6, b1, b2, b3, b4, b5, b6, b7, b8) → wL_law_221 post L xs x4 (nI (cn_lv x)) kc ks n (nI (e + 1)) f0 f1 f2 f3 f4 f5 f6 a1 a2 a3 a4 a5 a6 a7 a8 g0 g1 g2 g3 g4 g5 g6 b1 b2 b3 b4 b5 b6 b7 b8) (f0 f1 f2 f3 f4 f5 f6 : Int32) (a1 a2 a3 a4 a5 a6 a7 a8 : Nat → Int32) (g0 g1 g2 g3 g4 g5 g6 : Int32) (b1 b2 b3 b4 b5 b6 b7 b8 : Nat → Int32) (hu : cn_B N (f0, f1, f2, f3, f4, f5, f6, a1, a2, a3, a4, a5, a6, a7, a8)) (hv : cn_B N (g0, g1, g2, g3, g4, g5, g6, b1, b2, b3, b4, b5, b6, b7, b8)) : wL_law_221 post L xs x4 (nI (cn_lv x)) kc ks (n + 1) (nI e) f0 f1 f2 f3 f4 f5 f6 a1 a2 a3 a4 a5 a6 a7 a8 g0 g1 g2 g3 g4 g5 g6 b1 b2 b3 b4 b5 b6 b7 b8 := by
  have hI : cn_I x := hx ▸ cn_pic_I hN
  obtain ⟨r, r1, rr⟩ := cn_reach e hN he
  obtain ⟨r0, z0, w0⟩ := cn_walk e 0 hN he (by omega)
  replace z0 := z0 rfl
  have an : ∀ v, cn_an N v = v := fun v => cn_an_t td
  rw [hx] at r1 z0
  have lvn := cn_lv_n x
  have t4 := hI.1.2.2.2.1
  have nm1 := cn_nm13 hI (cn_Lnx hI (cn_Lend (x := x) he))
  refine pk_le 4 e (fun z => absurd z (by omega)) (fun _ => ?_)
  refine w0 _ _ (cn_BO hu) (fun u' hu => ?_)
  obtain ⟨f0, f1, f2, f3, f4, f5, f6, a1, a2, a3, a4, a5, a6, a7, a8⟩ := u'
  rw [an, z0]
  refine rr _ _ (cn_BO hu) (fun u' hu => ?_)
  obtain ⟨f0, f1, f2, f3, f4, f5, f6, a1, a2, a3, a4, a5, a6, a7, a8⟩ := u'
  rw [an]
  refine pk_lt (cn_lv x) r (fun z => absurd z (by omega)) (fun _ => ?_)
  refine rr _ _ (cn_BO hu) (fun u' hu => ?_)
  obtain ⟨f0, f1, f2, f3, f4, f5, f6, a1, a2, a3, a4, a5, a6, a7, a8⟩ := u'
  rw [an]
  refine pk_lt r 0 (fun z => absurd z (by omega)) (fun _ => ?_)
  refine pk_le (cn_nm x (cn_O x (1470 + e))) 9 (fun z => ?_) (fun z => ?_)
  · exact cn_281 e _ nm1.1 (ih f0 f1 f2 f3 f4 f5 f6 a1 a2 a3 a4 a5 a6 a7 a8 g0 g1 g2 g3 g4 g5 g6 b1 b2 b3 b4 b5 b6 b7 b8 hu hv)
  · obtain ⟨e', h1, h2, h3⟩ := cn_way hI he z
    obtain ⟨r2, z2, w2⟩ := cn_walk e' 0 hN h1 (by omega)
    replace z2 := z2 rfl
    rw [hx, h3] at z2
    have s1 : nI (cn_nm x (cn_O x (1470 + e))) - 10 = nI e' := by
      rw [h2, show nI (10 + e') - 10 = nI (10 + e' - 10) from pk_sub (b := 10) (by omega), show 10 + e' - 10 = e' by omega]
    rw [s1]
    refine w2 _ _ (cn_BO hu) (fun u' hu => ?_)
    obtain ⟨f0, f1, f2, f3, f4, f5, f6, a1, a2, a3, a4, a5, a6, a7, a8⟩ := u'
    rw [an, z2]
    exact br_t (nI_add 10 e).symm (cn_281 e _ nm1.1 (ih f0 f1 f2 f3 f4 f5 f6 a1 a2 a3 a4 a5 a6 a7 a8 g0 g1 g2 g3 g4 g5 g6 b1 b2 b3 b4 b5 b6 b7 b8 hu hv))
theorem cn_221 {N : cn_Nt} {post : Int32 → Prop} {L : Nat} {xs : Nat → Int32} {x4 : Int32} {kc ks : Nat} (hN : cn_IN N) (hp : post 1) (td : cn_td (cn_pic N) = 0) (x : cn_Pc) (hx : cn_pic N = x) : ∀ (n e : Nat), e + n = 4 → ∀ (f0 f1 f2 f3 f4 f5 f6 : Int32) (a1 a2 a3 a4 a5 a6 a7 a8 : Nat → Int32) (g0 g1 g2 g3 g4 g5 g6 : Int32) (b1 b2 b3 b4 b5 b6 b7 b8 : Nat → Int32), cn_B N (f0, f1, f2, f3, f4, f5, f6, a1, a2, a3, a4, a5, a6, a7, a8) → cn_B N (g0, g1, g2, g3, g4, g5, g6, b1, b2, b3, b4, b5, b6, b7, b8) → wL_law_221 post L xs x4 (nI (cn_lv x)) kc ks (n + 1) (nI e) f0 f1 f2 f3 f4 f5 f6 a1 a2 a3 a4 a5 a6 a7 a8 g0 g1 g2 g3 g4 g5 g6 b1 b2 b3 b4 b5 b6 b7 b8 := by
  intro n
  induction n with
  | zero =>
    intro e he f0 f1 f2 f3 f4 f5 f6 a1 a2 a3 a4 a5 a6 a7 a8 g0 g1 g2 g3 g4 g5 g6 b1 b2 b3 b4 b5 b6 b7 b8 hu hv
    exact pk_le 4 e (fun _ => cn_301 hN hp (cn_BO hu) (cn_BO hv)) (fun z => absurd z (by omega))
  | succ n ih =>
    intro e he
    exact cn_221s hN td x hx (n + 1) e (by omega) (ih (e + 1) (by omega))
theorem cn_192 {N : cn_Nt} {post : Int32 → Prop} {L : Nat} {xs : Nat → Int32} {x3 x4 z : Int32} {kc ks : Nat} {f0 f1 f2 f3 f4 f5 f6 : Int32} {a1 a2 a3 a4 a5 a6 a7 a8 : Nat → Int32} {g0 g1 g2 g3 g4 g5 g6 : Int32} {b1 b2 b3 b4 b5 b6 b7 b8 : Nat → Int32} (hN : cn_IN N) (hp : post 1) (td : cn_td (cn_pic N) = 0) (h3 : x3 = 0 → cn_a2 N) (hu : cn_B N (f0, f1, f2, f3, f4, f5, f6, a1, a2, a3, a4, a5, a6, a7, a8)) (hv : cn_B N (g0, g1, g2, g3, g4, g5, g6, b1, b2, b3, b4, b5, b6, b7, b8)) : wL_law_192 post L xs x3 x4 (nI (cn_fa N)) (nI (cn_lv (cn_pic N))) z z kc ks f0 f1 f2 f3 f4 f5 f6 a1 a2 a3 a4 a5 a6 a7 a8 g0 g1 g2 g3 g4 g5 g6 b1 b2 b3 b4 b5 b6 b7 b8 := by
  unfold wL_law_192
  refine br_t rfl (br_c (fun z3 => ?_) (fun _ => ⟨5, cn_221 hN hp td _ rfl 4 0 (by omega) f0 f1 f2 f3 f4 f5 f6 a1 a2 a3 a4 a5 a6 a7 a8 g0 g1 g2 g3 g4 g5 g6 b1 b2 b3 b4 b5 b6 b7 b8 hu hv⟩))
  have F2 := cn_F2 hN (h3 z3)
  refine cn_left 2 (by omega) hN (cn_BO hu) (fun u' hu => ?_)
  obtain ⟨f0, f1, f2, f3, f4, f5, f6, a1, a2, a3, a4, a5, a6, a7, a8⟩ := u'
  refine cn_cells hu.1 (br_t ?_ ⟨5, cn_221 hN hp td _ rfl 4 0 (by omega) f0 f1 f2 f3 f4 f5 f6 a1 a2 a3 a4 a5 a6 a7 a8 g0 g1 g2 g3 g4 g5 g6 b1 b2 b3 b4 b5 b6 b7 b8 hu hv⟩)
  rw [cn_an_t td, show (2 : Int32) * nI (cn_fa N) = nI (2 * cn_fa N) from pk_mul 2 _, pk_sub (by omega), show N.1 - 2 * cn_fa N = cn_lf (cn_pic N) 2 by omega]
theorem cn_182 {N : cn_Nt} {post : Int32 → Prop} {L : Nat} {xs : Nat → Int32} {x3 x4 z : Int32} {kc ks : Nat} {f0 f1 f2 f3 f4 f5 f6 : Int32} {a1 a2 a3 a4 a5 a6 a7 a8 : Nat → Int32} {g0 g1 g2 g3 g4 g5 g6 : Int32} {b1 b2 b3 b4 b5 b6 b7 b8 : Nat → Int32} (hN : cn_IN N) (hp : post 1) (td : cn_td (cn_pic N) = 0) (h3 : x3 = 0 → cn_a2 N) (hu : cn_B N (f0, f1, f2, f3, f4, f5, f6, a1, a2, a3, a4, a5, a6, a7, a8)) (hv : cn_B N (g0, g1, g2, g3, g4, g5, g6, b1, b2, b3, b4, b5, b6, b7, b8)) (hz0 : cn_fa N = 0 → z = 0) (hz1 : 0 < cn_fa N → z = 1) : wL_law_182 post L xs x3 x4 (nI (cn_dn (cn_pic N))) (nI (cn_fa N)) (nI (cn_lv (cn_pic N))) z kc ks f0 f1 f2 f3 f4 f5 f6 a1 a2 a3 a4 a5 a6 a7 a8 g0 g1 g2 g3 g4 g5 g6 b1 b2 b3 b4 b5 b6 b7 b8 := by
  have F1 := cn_F1 hN
  have d1 := (cn_pic_I hN).2.1
  unfold wL_law_182
  refine pk_le (cn_dn (cn_pic N)) 0 (fun y => ?_) (fun y => ?_)
  · rw [hz0 (by omega)]
    exact cn_192 hN hp td h3 hu hv
  · rw [hz1 (by omega)]
    exact cn_192 hN hp td h3 hu hv
/-! behind the law's loop -/
theorem cn_35e {N : cn_Nt} {post : Int32 → Prop} {L : Nat} {xs : Nat → Int32} {x3 x4 : Int32} {kc ks : Nat} (hL : L ≤ 260) (n k : Nat) (hk : L ≤ k + 1) (hk2 : k ≤ 300) {f0 f1 f2 f3 f4 f5 f6 : Int32} {a1 a2 a3 a4 a5 a6 a7 a8 : Nat → Int32} {g0 g1 g2 g3 g4 g5 g6 : Int32} {b1 b2 b3 b4 b5 b6 b7 b8 : Nat → Int32} (hN : cn_IN N) (hp : post 1) (h3 : x3 = 0 → cn_a2 N) (hu : cn_Ob N (f0, f1, f2, f3, f4, f5, f6, a1, a2, a3, a4, a5, a6, a7, a8)) (hv : cn_Ob N (g0, g1, g2, g3, g4, g5, g6, b1, b2, b3, b4, b5, b6, b7, b8)) : wL_law_35 post L xs x4 kc ks (n + 1) x3 (nI k) f0 f1 f2 f3 f4 f5 f6 a1 a2 a3 a4 a5 a6 a7 a8 g0 g1 g2 g3 g4 g5 g6 b1 b2 b3 b4 b5 b6 b7 b8 := by
  refine pk_le L (k + 1) (fun _ => ?_) (fun z => absurd z (by omega)) (hy := nI_1 k)
  refine cn_steps hN hu (fun u' hu => ?_)
  obtain ⟨f0, f1, f2, f3, f4, f5, f6, a1, a2, a3, a4, a5, a6, a7, a8⟩ := u'
  refine cn_facing hN hu.1 ?_
  refine cn_equal hN (cn_BO hu) hv ?_
  intro f0 f1 f2 f3 f4 f5 f6 a1 a2 a3 a4 a5 a6 a7 a8 g0 g1 g2 g3 g4 g5 g6 b1 b2 b3 b4 b5 b6 b7 b8 hu hv
  refine br_f (by decide) ?_
  have d1 := (cn_pic_I hN).2.1
  have fb : cn_fa N ≤ N.1 := cn_sum_n _ (fun c _ => by unfold cn_fcg; split <;> omega)
  have n10 := hN.1
  by_cases td : cn_td (cn_pic N) = 0
  · rw [cn_an_t td]
    refine br_f ?_ ?_
    · intro e
      have e1 := congrArg Int32.toInt e
      rw [nI_toInt (by omega), show (-5 : Int32).toInt = -5 from by decide] at e1
      omega
    · refine cn_left 0 (by omega) hN (cn_BO hu) (fun u' hu => ?_)
      obtain ⟨f0, f1, f2, f3, f4, f5, f6, a1, a2, a3, a4, a5, a6, a7, a8⟩ := u'
      refine cn_left 1 (by omega) hN (cn_BO hu) (fun u' hu => ?_)
      obtain ⟨f0, f1, f2, f3, f4, f5, f6, a1, a2, a3, a4, a5, a6, a7, a8⟩ := u'
      refine cn_left 2 (by omega) hN (cn_BO hu) (fun u' hu => ?_)
      obtain ⟨f0, f1, f2, f3, f4, f5, f6, a1, a2, a3, a4, a5, a6, a7, a8⟩ := u'
      refine nm_r (e' := nI (cn_lv (cn_pic N))) ?_ ?_
      · rw [cn_an_t td, cn_an_t td, cn_an_t td, nI_add, nI_add, cn_l3x (cn_pic_I hN)]
      · refine pk_le (cn_fa N) 0 (fun y => ?_) (fun y => ?_)
        · exact cn_182 hN hp td h3 hu hv (fun _ => rfl) (fun t => absurd t (by omega))
        · exact cn_182 hN hp td h3 hu hv (fun t => absurd t (by omega)) (fun _ => rfl)
  · rw [cn_an_f td]
    exact br_t rfl (cn_301 hN hp (cn_BO hu) (cn_BO hv))
theorem cn_35 {post : Int32 → Prop} {L : Nat} {xs : Nat → Int32} {x4 : Int32} {kc ks : Nat} (hL : L ≤ 260) (hp : post 1) : ∀ (m k kk : Nat) (N : cn_Nt), L ≤ k + 2 * m → k ≤ 300 → kk ≤ k → cn_IN N → (kk = 0 → cn_a2 N) → ∀ (f0 f1 f2 f3 f4 f5 f6 : Int32) (a1 a2 a3 a4 a5 a6 a7 a8 : Nat → Int32) (g0 g1 g2 g3 g4 g5 g6 : Int32) (b1 b2 b3 b4 b5 b6 b7 b8 : Nat → Int32), cn_Ob N (f0, f1, f2, f3, f4, f5, f6, a1, a2, a3, a4, a5, a6, a7, a8) → cn_Ob N (g0, g1, g2, g3, g4, g5, g6, b1, b2, b3, b4, b5, b6, b7, b8) → wL_law_35 post L xs x4 kc ks (m + 1) (nI kk) (nI k) f0 f1 f2 f3 f4 f5 f6 a1 a2 a3 a4 a5 a6 a7 a8 g0 g1 g2 g3 g4 g5 g6 b1 b2 b3 b4 b5 b6 b7 b8 := by
  intro m
  induction m with
  | zero =>
    intro k kk N h1 h2 h3 hN ha f0 f1 f2 f3 f4 f5 f6 a1 a2 a3 a4 a5 a6 a7 a8 g0 g1 g2 g3 g4 g5 g6 b1 b2 b3 b4 b5 b6 b7 b8 hu hv
    exact cn_35e hL 0 k (by omega) h2 hN hp (fun t => ha ((nI_eq (b := 0) (by omega) (by omega)).mp t)) hu hv
  | succ m ih =>
    intro k kk N h1 h2 h3 hN ha f0 f1 f2 f3 f4 f5 f6 a1 a2 a3 a4 a5 a6 a7 a8 g0 g1 g2 g3 g4 g5 g6 b1 b2 b3 b4 b5 b6 b7 b8 hu hv
    by_cases z : L ≤ k + 1
    · exact cn_35e hL (m + 1) k z h2 hN hp (fun t => ha ((nI_eq (b := 0) (by omega) (by omega)).mp t)) hu hv
    · refine pk_le L (k + 1) (fun y => absurd y z) (fun _ => ?_) (hy := nI_1 k)
      obtain ⟨N', i1, i2, i3⟩ := cn_turn (xs (nI k).toNatClampNeg) (xs (nI k + 1).toNatClampNeg) hN
      have in1 : vp_in (nI k) L := pk_in k L (by omega)
      have in2 : vp_in (nI k + 1) L := pk_in (k + 1) L (by omega) (nI_1 k)
      refine ⟨in1, in2, i3 _ _ hu (fun r u' hu => ?_)⟩
      obtain ⟨f0, f1, f2, f3, f4, f5, f6, a1, a2, a3, a4, a5, a6, a7, a8⟩ := u'
      refine ⟨in1, in2, i3 _ _ hv (fun r u' hv => ?_)⟩
      obtain ⟨g0, g1, g2, g3, g4, g5, g6, b1, b2, b3, b4, b5, b6, b7, b8⟩ := u'
      refine cn_steps i1 hv (fun u' hv => ?_)
      obtain ⟨g0, g1, g2, g3, g4, g5, g6, b1, b2, b3, b4, b5, b6, b7, b8⟩ := u'
      refine cn_open i1 (cn_BO hv) (fun u' hv => ?_)
      obtain ⟨g0, g1, g2, g3, g4, g5, g6, b1, b2, b3, b4, b5, b6, b7, b8⟩ := u'
      replace hv := cn_BO hv
      refine ⟨in1, br_c (fun c8 => ?_) (fun c8 => ⟨in2, br_c (fun c7 => ?_) (fun c7 => ?_)⟩)⟩
      · exact nm_r (nI_add k 2) (ih (k + 2) kk N' (by omega) (by omega) (by omega) i1 (fun t => i2 (Or.inl c8) (ha t)) f0 f1 f2 f3 f4 f5 f6 a1 a2 a3 a4 a5 a6 a7 a8 g0 g1 g2 g3 g4 g5 g6 b1 b2 b3 b4 b5 b6 b7 b8 hu hv)
      · exact nm_r (nI_add k 2) (ih (k + 2) kk N' (by omega) (by omega) (by omega) i1 (fun t => i2 (Or.inr c7) (ha t)) f0 f1 f2 f3 f4 f5 f6 a1 a2 a3 a4 a5 a6 a7 a8 g0 g1 g2 g3 g4 g5 g6 b1 b2 b3 b4 b5 b6 b7 b8 hu hv)
      · exact nm_r (nI_1 kk) (nm_r (nI_add k 2) (ih (k + 2) (kk + 1) N' (by omega) (by omega) (by omega) i1 (fun t => absurd t (by omega)) f0 f1 f2 f3 f4 f5 f6 a1 a2 a3 a4 a5 a6 a7 a8 g0 g1 g2 g3 g4 g5 g6 b1 b2 b3 b4 b5 b6 b7 b8 hu hv))
end
section
theorem i_vc (xs : Nat → Int32) (L : Nat) (hL : L ≤ 260) : wpL_law (fun r => r = 1) L xs := by
  unfold wpL_law
  refine ⟨8, 4478, by omega, by omega, cn_init (fun _ => 0) (by omega) (by omega) (fun u' hu => ?_)⟩
  obtain ⟨f0, f1, f2, f3, f4, f5, f6, a1, a2, a3, a4, a5, a6, a7, a8⟩ := u'
  refine ⟨by omega, by omega, 8, 4478, by omega, by omega, cn_init (fun _ => 0) (by omega) (by omega) (fun u' hv => ?_)⟩
  obtain ⟨g0, g1, g2, g3, g4, g5, g6, b1, b2, b3, b4, b5, b6, b7, b8⟩ := u'
  have go : ∀ (x4 : Int32) (kc ks : Nat), ∃ fu35 : Nat, wL_law_35 (fun r => r = 1) L xs x4 kc ks fu35 0 1 f0 f1 f2 f3 f4 f5 f6 a1 a2 a3 a4 a5 a6 a7 a8 g0 g1 g2 g3 g4 g5 g6 b1 b2 b3 b4 b5 b6 b7 b8 := fun x4 kc ks => ⟨131, cn_35 (post := fun r => r = 1) hL rfl 130 1 0 (cn_N0 (fun _ => 0)) (by omega) (by omega) (by omega) (cn_N0_IN _) (fun _ c hc => absurd hc (Nat.not_lt_zero c)) f0 f1 f2 f3 f4 f5 f6 a1 a2 a3 a4 a5 a6 a7 a8 g0 g1 g2 g3 g4 g5 g6 b1 b2 b3 b4 b5 b6 b7 b8 hu hv⟩
  exact pk_le L 0 (fun _ => go 0 _ _) (fun z => ⟨pk_in 0 L (by omega), nm_e (go _ _ _)⟩)
end
