section
section
/-! numbers that a store keeps -/
theorem jt_n16 : ∀ k, k < 256 → (nI k).toInt16.toInt32 = nI k := by decide +kernel
theorem jt_n8 : ∀ k, k < 128 → (nI k).toInt8.toInt32 = nI k := by decide +kernel
theorem jt_vs {k : Nat} (h : k < 256) : vp_nar .short (nI k) = nI k := by
  rw [vp_nar_short]
  exact jt_n16 k h
theorem jt_vb {k : Nat} (h : k < 128) : vp_nar .byte (nI k) = nI k := by
  rw [vp_nar_byte]
  exact jt_n8 k h
theorem jt_v0 : vp_nar .boolean 0 = 0 := by rfl
theorem jt_v1 : vp_nar .boolean 1 = 1 := by rfl
theorem jt_uu (f : Nat → Int32) (k : Nat) (v w : Int32) : upd (upd f k v) k w = upd f k w := by
  funext j
  by_cases e : j = k
  · rw [e, pk_us, pk_us]
  · rw [pk_un e, pk_un e, pk_un e]
theorem jt_p31 {k : Nat} (h : k < 256) : k < 2 ^ 31 := by omega
theorem jt_len (ls rs : List Nat) (n : Nat) : (ls ++ n :: rs).length = ls.length + rs.length + 1 := by
  simp only [List.length_append, List.length_cons] <;> omega

/-! trees: the shape is a Lean.RArray Unit; the nodes in order -/
def jt_nd : Lean.RArray Unit → List Nat
  | .leaf _ => []
  | .branch n l r => jt_nd l ++ n :: jt_nd r
def jt_rp (L R C : Nat → Int32) : Lean.RArray Unit → Int32 → Prop
  | .leaf _ => fun x => x = nI 0 ∧ C 0 = nI 0
  | .branch n l r => fun x => x = nI n ∧ 0 < n ∧ n < 256 ∧ C n = nI (jt_nd l ++ n :: jt_nd r).length ∧ jt_rp L R C l (L n) ∧ jt_rp L R C r (R n)
/-- x is the root of a tree whose nodes, in order, are ns; every count is right -/
def jt_TR (L R C : Nat → Int32) (x : Int32) (ns : List Nat) : Prop := ∃ t, jt_nd t = ns ∧ jt_rp L R C t x
/-- nothing has changed but at the nodes S -/
def jt_OFF (S : List Nat) (L R C L' R' C' : Nat → Int32) : Prop := 0 ∉ S ∧ ∀ j, j ∉ S → L' j = L j ∧ R' j = R j ∧ C' j = C j

variable {L R C L' R' C' L1 R1 C1 L2 R2 C2 : Nat → Int32} {x : Int32} {ns ls rs S S' T : List Nat} {n : Nat}

theorem jt_nil (h : C 0 = nI 0) : jt_TR L R C (nI 0) [] := ⟨.leaf (), rfl, rfl, h⟩

theorem jt_node (h0 : 0 < n) (h1 : n < 256) (hc : C n = nI (ls.length + rs.length + 1)) (hl : jt_TR L R C (L n) ls) (hr : jt_TR L R C (R n) rs) : jt_TR L R C (nI n) (ls ++ n :: rs) := by
  obtain ⟨tl, rfl, pl⟩ := hl
  obtain ⟨tr, rfl, pr⟩ := hr
  refine ⟨.branch n tl tr, rfl, rfl, h0, h1, ?_, pl, pr⟩
  rw [hc, jt_len]

theorem jt_cs (h : jt_TR L R C x ns) : (x = nI 0 ∧ ns = [] ∧ C 0 = nI 0) ∨ ∃ n ls rs, x = nI n ∧ 0 < n ∧ n < 256 ∧ ns = ls ++ n :: rs ∧ C n = nI ns.length ∧ jt_TR L R C (L n) ls ∧ jt_TR L R C (R n) rs := by
  obtain ⟨t, rfl, p⟩ := h
  cases t with
  | leaf u =>
    have p' : x = nI 0 ∧ C 0 = nI 0 := p
    exact Or.inl ⟨p'.1, rfl, p'.2⟩
  | branch n l r =>
    obtain ⟨e, h0, h1, hc, pl, pr⟩ := p
    exact Or.inr ⟨n, jt_nd l, jt_nd r, e, h0, h1, rfl, hc, ⟨l, rfl, pl⟩, ⟨r, rfl, pr⟩⟩

theorem jt_fr (h : jt_TR L R C x ns) (z : C' 0 = C 0) (e : ∀ j, j ∈ ns → L' j = L j ∧ R' j = R j ∧ C' j = C j) : jt_TR L' R' C' x ns := by
  obtain ⟨t, rfl, p⟩ := h
  refine ⟨t, rfl, ?_⟩
  induction t generalizing x with
  | leaf u =>
    have p' : x = nI 0 ∧ C 0 = nI 0 := p
    exact (⟨p'.1, z.trans p'.2⟩ : x = nI 0 ∧ C' 0 = nI 0)
  | branch n l r il ir =>
    obtain ⟨e0, h0, h1, hc, pl, pr⟩ := p
    have en := e n (by simp [jt_nd])
    refine ⟨e0, h0, h1, en.2.2.trans hc, ?_, ?_⟩
    · rw [en.1]
      exact il pl (fun j hj => e j (by simp [jt_nd, hj]))
    · rw [en.2.1]
      exact ir pr (fun j hj => e j (by simp [jt_nd, hj]))

theorem jt_mem (h : jt_TR L R C x ns) : ∀ j, j ∈ ns → 0 < j ∧ j < 256 := by
  obtain ⟨t, rfl, p⟩ := h
  induction t generalizing x with
  | leaf u => intro j hj; exact absurd hj (by simp [jt_nd])
  | branch n l r il ir =>
    obtain ⟨e0, h0, h1, hc, pl, pr⟩ := p
    intro j hj
    simp only [jt_nd, List.mem_append, List.mem_cons] at hj
    rcases hj with hj | hj | hj
    · exact il pl j hj
    · exact hj ▸ ⟨h0, h1⟩
    · exact ir pr j hj

theorem jt_n0 (h : jt_TR L R C x ns) : 0 ∉ ns := fun z => absurd (jt_mem h 0 z).1 (by omega)

theorem jt_ix (h : jt_TR L R C x ns) : ∃ k, x = nI k ∧ k < 256 ∧ C k = nI ns.length ∧ (k = 0 → ns = []) ∧ (0 < k → k ∈ ns) := by
  rcases jt_cs h with ⟨e, e1, e2⟩ | ⟨n, ls, rs, e, h0, h1, e1, hc, _, _⟩
  · exact ⟨0, e, by omega, by rw [e2, e1]; rfl, fun _ => e1, fun z => absurd z (by omega)⟩
  · exact ⟨n, e, h1, hc, fun z => absurd z (by omega), fun _ => by rw [e1]; simp⟩

theorem jt_c0 (h : jt_TR L R C x ns) : C 0 = nI 0 := by
  obtain ⟨t, rfl, p⟩ := h
  induction t generalizing x with
  | leaf u =>
    have p' : x = nI 0 ∧ C 0 = nI 0 := p
    exact p'.2
  | branch n l r il ir =>
    obtain ⟨e0, h0, h1, hc, pl, pr⟩ := p
    exact il pl

theorem jt_off (h : jt_TR L R C x ns) (o : jt_OFF S L R C L' R' C') (d : ∀ j, j ∈ ns → j ∉ S) : jt_TR L' R' C' x ns :=
  jt_fr h (o.2 0 o.1).2.2 (fun j hj => o.2 j (d j hj))

theorem jt_or (h0 : 0 ∉ S) : jt_OFF S L R C L R C := ⟨h0, fun _ _ => ⟨rfl, rfl, rfl⟩⟩

theorem jt_ot (o1 : jt_OFF S L R C L1 R1 C1) (o2 : jt_OFF S' L1 R1 C1 L2 R2 C2) (h0 : 0 ∉ T) (s1 : ∀ j, j ∈ S → j ∈ T) (s2 : ∀ j, j ∈ S' → j ∈ T) : jt_OFF T L R C L2 R2 C2 := by
  refine ⟨h0, fun j hj => ?_⟩
  have e1 := o1.2 j (fun z => hj (s1 j z))
  have e2 := o2.2 j (fun z => hj (s2 j z))
  exact ⟨e2.1.trans e1.1, e2.2.1.trans e1.2.1, e2.2.2.trans e1.2.2⟩

theorem jt_om (o1 : jt_OFF S L R C L1 R1 C1) (h0 : 0 ∉ T) (s1 : ∀ j, j ∈ S → j ∈ T) : jt_OFF T L R C L1 R1 C1 :=
  ⟨h0, fun j hj => o1.2 j (fun z => hj (s1 j z))⟩

theorem jt_ou (hn : 0 < n) (e : ∀ j, j ≠ n → L' j = L j ∧ R' j = R j ∧ C' j = C j) : jt_OFF [n] L R C L' R' C' :=
  ⟨by simp; omega, fun j hj => e j (by simpa using hj)⟩

theorem jt_uL {v : Int32} (hn : 0 < n) : jt_OFF [n] L R C (upd L n v) R C := jt_ou hn (fun _ hj => ⟨pk_un hj, rfl, rfl⟩)
theorem jt_uR {v : Int32} (hn : 0 < n) : jt_OFF [n] L R C L (upd R n v) C := jt_ou hn (fun _ hj => ⟨rfl, pk_un hj, rfl⟩)
theorem jt_uC {v : Int32} (hn : 0 < n) : jt_OFF [n] L R C L R (upd C n v) := jt_ou hn (fun _ hj => ⟨rfl, rfl, pk_un hj⟩)

/-- off a single node -/
theorem jt_off1 (h : jt_TR L R C x ns) (o : jt_OFF [n] L R C L' R' C') (d : n ∉ ns) : jt_TR L' R' C' x ns :=
  jt_off h o (fun j hj z => d (List.mem_singleton.mp z ▸ hj))

/-- the free nodes: the top first -/
def jt_fl (F : Nat → Int32) : List Nat → Prop
  | [] => True
  | n :: t => F t.length = nI n ∧ 0 < n ∧ n < 256 ∧ jt_fl F t
theorem jt_flF {F F' : Nat → Int32} {fl : List Nat} (h : jt_fl F fl) (e : ∀ j, j < fl.length → F' j = F j) : jt_fl F' fl := by
  induction fl with
  | nil => trivial
  | cons n t ih =>
    obtain ⟨h1, h2, h3, h4⟩ := h
    exact ⟨(e _ (by simp)).trans h1, h2, h3, ih h4 (fun j hj => e j (by simp <;> omega))⟩
theorem jt_flP {F : Nat → Int32} {fl : List Nat} (h : jt_fl F fl) (h0 : 0 < n) (h1 : n < 256) : jt_fl (upd F fl.length (nI n)) (n :: fl) :=
  ⟨pk_us, h0, h1, jt_flF h (fun j hj => pk_un (by omega))⟩
theorem jt_flM {F : Nat → Int32} {fl : List Nat} (h : jt_fl F fl) : ∀ j, j ∈ fl → 0 < j ∧ j < 256 := by
  induction fl with
  | nil => intro j hj; exact absurd hj (by simp)
  | cons n t ih =>
    obtain ⟨h1, h2, h3, h4⟩ := h
    intro j hj
    rcases List.mem_cons.mp hj with e | hj
    · rw [e]; exact ⟨h2, h3⟩
    · exact ih h4 j hj
theorem jt_fl0 {F : Nat → Int32} {fl : List Nat} (h : jt_fl F fl) : 0 ∉ fl := fun z => absurd (jt_flM h 0 z).1 (by omega)

/-! the way: (node, whether it went right, the nodes of the side that is left out) -/
def jt_pre : List (Nat × Bool × List Nat) → List Nat
  | [] => []
  | (p, true, s) :: t => jt_pre t ++ (s ++ [p])
  | (_, false, _) :: t => jt_pre t
def jt_pst : List (Nat × Bool × List Nat) → List Nat
  | [] => []
  | (_, true, _) :: t => jt_pst t
  | (p, false, s) :: t => (p :: s) ++ jt_pst t
def jt_cx (L R C : Nat → Int32) : List (Nat × Bool × List Nat) → Prop
  | [] => True
  | (p, true, s) :: t => (0 < p ∧ p < 256 ∧ jt_TR L R C (L p) s) ∧ jt_cx L R C t
  | (p, false, s) :: t => (0 < p ∧ p < 256 ∧ jt_TR L R C (R p) s) ∧ jt_cx L R C t
def jt_ws (a7 a8 : Nat → Int32) (w : Nat) : List (Nat × Bool × List Nat) → Prop
  | [] => True
  | (p, b, _) :: t => a7 (w + t.length) = nI p ∧ a8 (w + t.length) = (if b = true then 1 else 0) ∧ jt_ws a7 a8 w t
theorem jt_stl (st : List (Nat × Bool × List Nat)) : st.length ≤ (jt_pre st).length + (jt_pst st).length := by
  induction st with
  | nil => simp
  | cons e t ih =>
    obtain ⟨p, b, s⟩ := e
    cases b
    · simp only [jt_pre, jt_pst, List.length_append, List.length_cons] <;> omega
    · simp only [jt_pre, jt_pst, List.length_append, List.length_cons] <;> omega
theorem jt_cxF {st : List (Nat × Bool × List Nat)} (h : jt_cx L R C st) (o : jt_OFF S L R C L' R' C') (d1 : ∀ j, j ∈ jt_pre st → j ∉ S) (d2 : ∀ j, j ∈ jt_pst st → j ∉ S) : jt_cx L' R' C' st := by
  induction st with
  | nil => trivial
  | cons e t ih =>
    obtain ⟨p, b, s⟩ := e
    cases b
    · obtain ⟨⟨h0, h1, h2⟩, h3⟩ := h
      refine ⟨⟨h0, h1, ?_⟩, ih h3 (fun j hj => d1 j hj) (fun j hj => d2 j (by simp [jt_pst, hj]))⟩
      rw [(o.2 p (d2 p (by simp [jt_pst]))).2.1]
      exact jt_off h2 o (fun j hj => d2 j (by simp [jt_pst, hj]))
    · obtain ⟨⟨h0, h1, h2⟩, h3⟩ := h
      refine ⟨⟨h0, h1, ?_⟩, ih h3 (fun j hj => d1 j (by simp [jt_pre, hj])) (fun j hj => d2 j hj)⟩
      rw [(o.2 p (d1 p (by simp [jt_pre]))).1]
      exact jt_off h2 o (fun j hj => d1 j (by simp [jt_pre, hj]))
theorem jt_wsF {a7 a8 b7 b8 : Nat → Int32} {w : Nat} {st : List (Nat × Bool × List Nat)} (h : jt_ws a7 a8 w st) (e : ∀ j, j < w + st.length → b7 j = a7 j ∧ b8 j = a8 j) : jt_ws b7 b8 w st := by
  induction st with
  | nil => trivial
  | cons q t ih =>
    obtain ⟨p, b, s⟩ := q
    obtain ⟨h1, h2, h3⟩ := h
    have ee := e (w + t.length) (by simp only [List.length_cons]; omega)
    exact ⟨ee.1.trans h1, ee.2.trans h2, ih h3 (fun j hj => e j (by simp only [List.length_cons]; omega))⟩
theorem jt_wsP {a7 a8 : Nat → Int32} {w p : Nat} {b : Bool} {s : List Nat} {v : Int32} {st : List (Nat × Bool × List Nat)} (h : jt_ws a7 a8 w st) (hv : v = if b = true then 1 else 0) : jt_ws (upd a7 (w + st.length) (nI p)) (upd a8 (w + st.length) v) w ((p, b, s) :: st) :=
  ⟨pk_us, pk_us.trans hv, jt_wsF h (fun j hj => ⟨pk_un (by omega), pk_un (by omega)⟩)⟩
theorem jt_cxM {st : List (Nat × Bool × List Nat)} (h : jt_cx L R C st) : (∀ j, j ∈ jt_pre st → 0 < j ∧ j < 256) ∧ (∀ j, j ∈ jt_pst st → 0 < j ∧ j < 256) := by
  induction st with
  | nil => exact ⟨fun j hj => absurd hj (by simp [jt_pre]), fun j hj => absurd hj (by simp [jt_pst])⟩
  | cons e t ih =>
    obtain ⟨p, b, s⟩ := e
    cases b
    · obtain ⟨⟨h0, h1, h2⟩, h3⟩ := h
      refine ⟨fun j hj => (ih h3).1 j hj, fun j hj => ?_⟩
      simp only [jt_pst, List.mem_append, List.mem_cons] at hj
      rcases hj with (hj | hj) | hj
      · rw [hj]; exact ⟨h0, h1⟩
      · exact jt_mem h2 j hj
      · exact (ih h3).2 j hj
    · obtain ⟨⟨h0, h1, h2⟩, h3⟩ := h
      refine ⟨fun j hj => ?_, fun j hj => (ih h3).2 j hj⟩
      simp only [jt_pre, List.mem_append, List.mem_cons, List.mem_singleton, List.not_mem_nil, or_false] at hj
      rcases hj with hj | hj | hj
      · exact (ih h3).1 j hj
      · exact jt_mem h2 j hj
      · rw [hj]; exact ⟨h0, h1⟩
end
end
section
section
variable {fc we lo hi ex : Int32} {a1 a2 a3 a4 a5 a6 a7 a8 a9 a10 a11 a12 a13 : Nat → Int32}

theorem jt_weight {post : Int32 → Prop} {x : Int32} {ns : List Nat} (h : jt_TR a1 a2 a4 x ns) (H : post (nI (ns.length + 1))) : wpX_weight post (fc, we, lo, hi, ex, a1, a2, a3, a4, a5, a6, a7, a8, a9, a10, a11, a12, a13) x := by
  obtain ⟨k, rfl, hk, hc, _⟩ := jt_ix h
  unfold wpX_weight
  dsimp only
  rw [nI_clamp (jt_p31 hk), hc, nI_1]
  exact ⟨pk_in k 256 hk, H⟩

theorem jt_push {post : St1 → Prop} {w k : Nat} {v : Int32} (hw : w < 64) (hk : k < 256) (hv : vp_nar .boolean v = v) (H : post (fc, nI (w + 1), lo, hi, ex, a1, a2, a3, a4, a5, a6, upd a7 w (nI k), upd a8 w v, a9, a10, a11, a12, a13)) : wpX_pushWay post (fc, nI w, lo, hi, ex, a1, a2, a3, a4, a5, a6, a7, a8, a9, a10, a11, a12, a13) (nI k) v := by
  unfold wpX_pushWay
  dsimp only
  rw [nI_clamp (show w < 2 ^ 31 by omega), jt_n16 k hk, hv, nI_1]
  exact ⟨pk_in w 64 hw, nm_e ⟨pk_in w 64 hw, nm_e (nm_e H)⟩⟩

theorem jt_update {post : St1 → Prop} {n : Nat} {ls rs : List Nat} (hn : n < 256) (hl : jt_TR a1 a2 a4 (a1 n) ls) (hr : jt_TR a1 a2 a4 (a2 n) rs) (hb : ls.length + rs.length ≤ 100) (H : post (fc, we, lo, hi, ex, a1, a2, a3, upd a4 n (nI (ls.length + rs.length + 1)), a5, a6, a7, a8, a9, a10, a11, a12, a13)) : wpX_update post (fc, we, lo, hi, ex, a1, a2, a3, a4, a5, a6, a7, a8, a9, a10, a11, a12, a13) (nI n) := by
  obtain ⟨k, ek, hk, hc, _⟩ := jt_ix hl
  obtain ⟨q, eq, hq, hd, _⟩ := jt_ix hr
  unfold wpX_update
  dsimp only
  rw [nI_clamp (jt_p31 hn), ek, eq, nI_clamp (jt_p31 hk), nI_clamp (jt_p31 hq), hc, hd, nI_add, nI_1, jt_n8 _ (by omega)]
  exact ⟨pk_in n 256 hn, pk_in k 256 hk, pk_in n 256 hn, pk_in q 256 hq, pk_in n 256 hn, nm_e H⟩

theorem jt_u2 : wpX_update_2 = wpX_update := rfl
theorem jt_u3 : wpX_update_3 = wpX_update := rfl
theorem jt_u4 : wpX_update_4 = wpX_update := rfl
theorem jt_u5 : wpX_update_5 = wpX_update := rfl
theorem jt_u6 : wpX_update_6 = wpX_update := rfl

/-- what a turn to the left leaves -/
theorem jt_rotLp {L R C : Nat → Int32} {n r : Nat} {x : Int32} {ls ms rs : List Nat} (hn : 0 < n) (hn' : n < 256) (hr : 0 < r) (hr' : r < 256) (ex : L r = x)
    (hl : jt_TR L R C (L n) ls) (hm : jt_TR L R C (L r) ms) (hs : jt_TR L R C (R r) rs) (nd : (ls ++ n :: ms ++ r :: rs).Nodup) :
    jt_TR (upd L r (nI n)) (upd R n x) C (upd L r (nI n) n) ls ∧ jt_TR (upd L r (nI n)) (upd R n x) C (upd R n x n) ms ∧
    jt_TR (upd L r (nI n)) (upd R n x) (upd C n (nI (ls.length + ms.length + 1))) (upd L r (nI n) r) (ls ++ n :: ms) ∧ jt_TR (upd L r (nI n)) (upd R n x) (upd C n (nI (ls.length + ms.length + 1))) (upd R n x r) rs ∧
    jt_TR (upd L r (nI n)) (upd R n x) (upd (upd C n (nI (ls.length + ms.length + 1))) r (nI ((ls ++ n :: ms).length + rs.length + 1))) (nI r) (ls ++ n :: ms ++ r :: rs) ∧
    jt_OFF (ls ++ n :: ms ++ r :: rs) L R C (upd L r (nI n)) (upd R n x) (upd (upd C n (nI (ls.length + ms.length + 1))) r (nI ((ls ++ n :: ms).length + rs.length + 1))) := by
  have hne : n ≠ r := by grind
  have d1 : n ∉ ls ∧ r ∉ ls := by grind
  have d2 : n ∉ ms ∧ r ∉ ms := by grind
  have d3 : n ∉ rs ∧ r ∉ rs := by grind
  have o1 : jt_OFF [r] L R C (upd L r (nI n)) R C := jt_uL hr
  have o2 : jt_OFF [n] (upd L r (nI n)) R C (upd L r (nI n)) (upd R n x) C := jt_uR hn
  have o3 : jt_OFF [n] (upd L r (nI n)) (upd R n x) C (upd L r (nI n)) (upd R n x) (upd C n (nI (ls.length + ms.length + 1))) := jt_uC hn
  have o4 : jt_OFF [r] (upd L r (nI n)) (upd R n x) (upd C n (nI (ls.length + ms.length + 1))) (upd L r (nI n)) (upd R n x) (upd (upd C n (nI (ls.length + ms.length + 1))) r (nI ((ls ++ n :: ms).length + rs.length + 1))) := jt_uC hr
  have eL : upd L r (nI n) n = L n := pk_un hne
  have eR : upd R n x r = R r := pk_un (fun z => hne z.symm)
  have eN : upd R n x n = x := pk_us
  have eM : upd L r (nI n) r = nI n := pk_us
  have h1 : jt_TR (upd L r (nI n)) (upd R n x) C (L n) ls := jt_off1 (jt_off1 hl o1 d1.2) o2 d1.1
  have h2 : jt_TR (upd L r (nI n)) (upd R n x) C x ms := jt_off1 (jt_off1 (ex ▸ hm) o1 d2.2) o2 d2.1
  have h3 : jt_TR (upd L r (nI n)) (upd R n x) C (R r) rs := jt_off1 (jt_off1 hs o1 d3.2) o2 d3.1
  have k1 := jt_off1 h1 o3 d1.1
  have k2 := jt_off1 h2 o3 d2.1
  have k3 := jt_off1 h3 o3 d3.1
  have k : jt_TR (upd L r (nI n)) (upd R n x) (upd C n (nI (ls.length + ms.length + 1))) (nI n) (ls ++ n :: ms) :=
    jt_node hn hn' pk_us (by rw [eL]; exact k1) (by rw [eN]; exact k2)
  have m1 := jt_off1 k o4 (by grind)
  have m3 := jt_off1 k3 o4 d3.2
  have m : jt_TR (upd L r (nI n)) (upd R n x) (upd (upd C n (nI (ls.length + ms.length + 1))) r (nI ((ls ++ n :: ms).length + rs.length + 1))) (nI r) (ls ++ n :: ms ++ r :: rs) :=
    jt_node hr hr' pk_us (by rw [eM]; exact m1) (by rw [eR]; exact m3)
  refine ⟨by rw [eL]; exact h1, by rw [eN]; exact h2, by rw [eM]; exact k, by rw [eR]; exact k3, m, ?_⟩
  have hT := jt_n0 m
  have o12 := jt_ot o1 o2 hT (by intro j hj; simp at hj; simp [hj]) (by intro j hj; simp at hj; simp [hj])
  have o34 := jt_ot o3 o4 hT (by intro j hj; simp at hj; simp [hj]) (by intro j hj; simp at hj; simp [hj])
  exact jt_ot o12 o34 hT (fun _ h => h) (fun _ h => h)

/-- what a turn to the right leaves -/
theorem jt_rotRp {L R C : Nat → Int32} {n l : Nat} {x : Int32} {ls ms rs : List Nat} (hn : 0 < n) (hn' : n < 256) (hr : 0 < l) (hr' : l < 256) (ex : R l = x)
    (hl : jt_TR L R C (L l) ls) (hm : jt_TR L R C (R l) ms) (hs : jt_TR L R C (R n) rs) (nd : (ls ++ l :: (ms ++ n :: rs)).Nodup) :
    jt_TR (upd L n x) (upd R l (nI n)) C (upd L n x n) ms ∧ jt_TR (upd L n x) (upd R l (nI n)) C (upd R l (nI n) n) rs ∧
    jt_TR (upd L n x) (upd R l (nI n)) (upd C n (nI (ms.length + rs.length + 1))) (upd L n x l) ls ∧ jt_TR (upd L n x) (upd R l (nI n)) (upd C n (nI (ms.length + rs.length + 1))) (upd R l (nI n) l) (ms ++ n :: rs) ∧
    jt_TR (upd L n x) (upd R l (nI n)) (upd (upd C n (nI (ms.length + rs.length + 1))) l (nI (ls.length + (ms ++ n :: rs).length + 1))) (nI l) (ls ++ l :: (ms ++ n :: rs)) ∧
    jt_OFF (ls ++ l :: (ms ++ n :: rs)) L R C (upd L n x) (upd R l (nI n)) (upd (upd C n (nI (ms.length + rs.length + 1))) l (nI (ls.length + (ms ++ n :: rs).length + 1))) := by
  have hne : n ≠ l := by grind
  have d1 : n ∉ ls ∧ l ∉ ls := by grind
  have d2 : n ∉ ms ∧ l ∉ ms := by grind
  have d3 : n ∉ rs ∧ l ∉ rs := by grind
  have o1 : jt_OFF [n] L R C (upd L n x) R C := jt_uL hn
  have o2 : jt_OFF [l] (upd L n x) R C (upd L n x) (upd R l (nI n)) C := jt_uR hr
  have o3 : jt_OFF [n] (upd L n x) (upd R l (nI n)) C (upd L n x) (upd R l (nI n)) (upd C n (nI (ms.length + rs.length + 1))) := jt_uC hn
  have o4 : jt_OFF [l] (upd L n x) (upd R l (nI n)) (upd C n (nI (ms.length + rs.length + 1))) (upd L n x) (upd R l (nI n)) (upd (upd C n (nI (ms.length + rs.length + 1))) l (nI (ls.length + (ms ++ n :: rs).length + 1))) := jt_uC hr
  have eL : upd L n x l = L l := pk_un (fun z => hne z.symm)
  have eR : upd R l (nI n) n = R n := pk_un hne
  have eN : upd L n x n = x := pk_us
  have eM : upd R l (nI n) l = nI n := pk_us
  have h1 : jt_TR (upd L n x) (upd R l (nI n)) C (L l) ls := jt_off1 (jt_off1 hl o1 d1.1) o2 d1.2
  have h2 : jt_TR (upd L n x) (upd R l (nI n)) C x ms := jt_off1 (jt_off1 (ex ▸ hm) o1 d2.1) o2 d2.2
  have h3 : jt_TR (upd L n x) (upd R l (nI n)) C (R n) rs := jt_off1 (jt_off1 hs o1 d3.1) o2 d3.2
  have k1 := jt_off1 h1 o3 d1.1
  have k2 := jt_off1 h2 o3 d2.1
  have k3 := jt_off1 h3 o3 d3.1
  have k : jt_TR (upd L n x) (upd R l (nI n)) (upd C n (nI (ms.length + rs.length + 1))) (nI n) (ms ++ n :: rs) :=
    jt_node hn hn' pk_us (by rw [eN]; exact k2) (by rw [eR]; exact k3)
  have m1 := jt_off1 k o4 (by grind)
  have m3 := jt_off1 k1 o4 d1.2
  have m : jt_TR (upd L n x) (upd R l (nI n)) (upd (upd C n (nI (ms.length + rs.length + 1))) l (nI (ls.length + (ms ++ n :: rs).length + 1))) (nI l) (ls ++ l :: (ms ++ n :: rs)) :=
    jt_node hr hr' pk_us (by rw [eL]; exact m3) (by rw [eM]; exact m1)
  refine ⟨by rw [eN]; exact h2, by rw [eR]; exact h3, by rw [eL]; exact k1, by rw [eM]; exact k, m, ?_⟩
  have hT := jt_n0 m
  have o12 := jt_ot o1 o2 hT (by intro j hj; simp at hj; simp [hj]) (by intro j hj; simp at hj; simp [hj])
  have o34 := jt_ot o3 o4 hT (by intro j hj; simp at hj; simp [hj]) (by intro j hj; simp at hj; simp [hj])
  exact jt_ot o12 o34 hT (fun _ h => h) (fun _ h => h)

theorem jt_rotL {post : Int32 → St1 → Prop} {n r : Nat} {ls ms rs : List Nat} (hn : 0 < n) (hn' : n < 256) (hr : 0 < r) (hr' : r < 256) (e : a2 n = nI r)
    (hl : jt_TR a1 a2 a4 (a1 n) ls) (hm : jt_TR a1 a2 a4 (a1 r) ms) (hs : jt_TR a1 a2 a4 (a2 r) rs) (nd : (ls ++ n :: ms ++ r :: rs).Nodup) (hb : ls.length + ms.length + rs.length ≤ 98)
    (H : ∀ b1 b2 b4, jt_TR b1 b2 b4 (nI r) (ls ++ n :: ms ++ r :: rs) → jt_OFF (ls ++ n :: ms ++ r :: rs) a1 a2 a4 b1 b2 b4 → post (nI r) (fc, we, lo, hi, ex, b1, b2, a3, b4, a5, a6, a7, a8, a9, a10, a11, a12, a13)) : wpX_rotatedLeft_2 post (fc, we, lo, hi, ex, a1, a2, a3, a4, a5, a6, a7, a8, a9, a10, a11, a12, a13) (nI n) := by
  obtain ⟨k, ek, hk, _⟩ := jt_ix hm
  obtain ⟨p1, p2, p3, p4, p5, p6⟩ := jt_rotLp hn hn' hr hr' ek hl hm hs nd
  unfold wpX_rotatedLeft_2
  dsimp only
  rw [nI_clamp (jt_p31 hn'), e]
  refine ⟨pk_in n 256 hn', nm_e ?_⟩
  rw [nI_clamp (jt_p31 hr'), ek, jt_vs hk, jt_n16 n hn']
  refine ⟨pk_in r 256 hr', pk_in n 256 hn', nm_e ⟨pk_in r 256 hr', nm_e ?_⟩⟩
  refine jt_update hn' p1 p2 (by omega) ?_
  dsimp only
  refine jt_update hr' p3 p4 (by rw [jt_len]; omega) ?_
  exact H _ _ _ p5 p6

theorem jt_rotR {post : Int32 → St1 → Prop} {n l : Nat} {ls ms rs : List Nat} (hn : 0 < n) (hn' : n < 256) (hr : 0 < l) (hr' : l < 256) (e : a1 n = nI l)
    (hl : jt_TR a1 a2 a4 (a1 l) ls) (hm : jt_TR a1 a2 a4 (a2 l) ms) (hs : jt_TR a1 a2 a4 (a2 n) rs) (nd : (ls ++ l :: (ms ++ n :: rs)).Nodup) (hb : ls.length + ms.length + rs.length ≤ 98)
    (H : ∀ b1 b2 b4, jt_TR b1 b2 b4 (nI l) (ls ++ l :: (ms ++ n :: rs)) → jt_OFF (ls ++ l :: (ms ++ n :: rs)) a1 a2 a4 b1 b2 b4 → post (nI l) (fc, we, lo, hi, ex, b1, b2, a3, b4, a5, a6, a7, a8, a9, a10, a11, a12, a13)) : wpX_rotatedRight post (fc, we, lo, hi, ex, a1, a2, a3, a4, a5, a6, a7, a8, a9, a10, a11, a12, a13) (nI n) := by
  obtain ⟨k, ek, hk, _⟩ := jt_ix hm
  obtain ⟨p1, p2, p3, p4, p5, p6⟩ := jt_rotRp hn hn' hr hr' ek hl hm hs nd
  unfold wpX_rotatedRight
  dsimp only
  rw [nI_clamp (jt_p31 hn'), e]
  refine ⟨pk_in n 256 hn', nm_e ?_⟩
  rw [nI_clamp (jt_p31 hr'), ek, jt_vs hk, jt_n16 n hn']
  refine ⟨pk_in l 256 hr', pk_in n 256 hn', nm_e ⟨pk_in l 256 hr', nm_e ?_⟩⟩
  refine jt_update hn' p1 p2 (by omega) ?_
  dsimp only
  refine jt_update hr' p3 p4 (by rw [jt_len]; omega) ?_
  exact H _ _ _ p5 p6

theorem jt_rl1 : wpX_rotatedLeft = wpX_rotatedLeft_2 := rfl
theorem jt_rl3 : wpX_rotatedLeft_3 = wpX_rotatedLeft_2 := rfl
theorem jt_rl4 : wpX_rotatedLeft_4 = wpX_rotatedLeft_2 := rfl
theorem jt_rr2 : wpX_rotatedRight_2 = wpX_rotatedRight := rfl
theorem jt_rr3 : wpX_rotatedRight_3 = wpX_rotatedRight := rfl
theorem jt_rr4 : wpX_rotatedRight_4 = wpX_rotatedRight := rfl

/-- the turn to the left at n, whatever its right side's root is -/
theorem jt_tL {post : Int32 → St1 → Prop} {n : Nat} {ls rs : List Nat} (hn : 0 < n) (hn' : n < 256) (hl : jt_TR a1 a2 a4 (a1 n) ls) (hr : jt_TR a1 a2 a4 (a2 n) rs) (nd : (ls ++ n :: rs).Nodup) (h1 : 1 ≤ rs.length) (hb : ls.length + rs.length ≤ 99)
    (H : ∀ r b1 b2 b4, jt_TR b1 b2 b4 r (ls ++ n :: rs) → jt_OFF (ls ++ n :: rs) a1 a2 a4 b1 b2 b4 → post r (fc, we, lo, hi, ex, b1, b2, a3, b4, a5, a6, a7, a8, a9, a10, a11, a12, a13)) : wpX_rotatedLeft_2 post (fc, we, lo, hi, ex, a1, a2, a3, a4, a5, a6, a7, a8, a9, a10, a11, a12, a13) (nI n) := by
  rcases jt_cs hr with ⟨_, e, _⟩ | ⟨r, ms, ss, e, h0, h2, e1, _, hm, hs⟩
  · rw [e] at h1; exact absurd h1 (by simp)
  · subst e1
    have ee : ls ++ n :: (ms ++ r :: ss) = ls ++ n :: ms ++ r :: ss := by simp only [List.append_assoc, List.cons_append]
    rw [jt_len] at hb
    rw [ee] at nd H
    exact jt_rotL hn hn' h0 h2 e hl hm hs nd (by omega) (fun b1 b2 b4 t o => H _ b1 b2 b4 t o)

theorem jt_tR {post : Int32 → St1 → Prop} {n : Nat} {ls rs : List Nat} (hn : 0 < n) (hn' : n < 256) (hl : jt_TR a1 a2 a4 (a1 n) ls) (hr : jt_TR a1 a2 a4 (a2 n) rs) (nd : (ls ++ n :: rs).Nodup) (h1 : 1 ≤ ls.length) (hb : ls.length + rs.length ≤ 99)
    (H : ∀ r b1 b2 b4, jt_TR b1 b2 b4 r (ls ++ n :: rs) → jt_OFF (ls ++ n :: rs) a1 a2 a4 b1 b2 b4 → post r (fc, we, lo, hi, ex, b1, b2, a3, b4, a5, a6, a7, a8, a9, a10, a11, a12, a13)) : wpX_rotatedRight post (fc, we, lo, hi, ex, a1, a2, a3, a4, a5, a6, a7, a8, a9, a10, a11, a12, a13) (nI n) := by
  rcases jt_cs hl with ⟨_, e, _⟩ | ⟨l, ps, ms, e, h0, h2, e1, _, hm, hs⟩
  · rw [e] at h1; exact absurd h1 (by simp)
  · subst e1
    have ee : ps ++ l :: ms ++ n :: rs = ps ++ l :: (ms ++ n :: rs) := by simp only [List.append_assoc, List.cons_append]
    rw [jt_len] at hb
    rw [ee] at nd H
    exact jt_rotR hn hn' h0 h2 e hm hs hr nd (by omega) (fun b1 b2 b4 t o => H _ b1 b2 b4 t o)

theorem jt_b71 {post : Int32 → St1 → Prop} {n : Nat} {ls rs : List Nat} (hn : 0 < n) (hn' : n < 256) (hl : jt_TR a1 a2 a4 (a1 n) ls) (hr : jt_TR a1 a2 a4 (a2 n) rs) (nd : (ls ++ n :: rs).Nodup) (h1 : 1 ≤ rs.length) (hb : ls.length + rs.length ≤ 99)
    (H : ∀ r b1 b2 b4, jt_TR b1 b2 b4 r (ls ++ n :: rs) → jt_OFF (ls ++ n :: rs) a1 a2 a4 b1 b2 b4 → post r (fc, we, lo, hi, ex, b1, b2, a3, b4, a5, a6, a7, a8, a9, a10, a11, a12, a13)) : wX_balanced_71 post (nI n) fc we lo hi ex a1 a2 a3 a4 a5 a6 a7 a8 a9 a10 a11 a12 a13 := by
  unfold wX_balanced_71
  exact jt_tL hn hn' hl hr nd h1 hb H

theorem jt_b129 {post : Int32 → St1 → Prop} {n : Nat} {ls rs : List Nat} (hn : 0 < n) (hn' : n < 256) (hl : jt_TR a1 a2 a4 (a1 n) ls) (hr : jt_TR a1 a2 a4 (a2 n) rs) (nd : (ls ++ n :: rs).Nodup) (h1 : 1 ≤ ls.length) (hb : ls.length + rs.length ≤ 99)
    (H : ∀ r b1 b2 b4, jt_TR b1 b2 b4 r (ls ++ n :: rs) → jt_OFF (ls ++ n :: rs) a1 a2 a4 b1 b2 b4 → post r (fc, we, lo, hi, ex, b1, b2, a3, b4, a5, a6, a7, a8, a9, a10, a11, a12, a13)) : wX_balanced_129 post (nI n) fc we lo hi ex a1 a2 a3 a4 a5 a6 a7 a8 a9 a10 a11 a12 a13 := by
  unfold wX_balanced_129
  exact jt_tR hn hn' hl hr nd h1 hb H

theorem jt_bal {post : Int32 → St1 → Prop} {n : Nat} {ls rs : List Nat} (hn : 0 < n) (hn' : n < 256) (hl : jt_TR a1 a2 a4 (a1 n) ls) (hr : jt_TR a1 a2 a4 (a2 n) rs) (nd : (ls ++ n :: rs).Nodup) (hb : ls.length + rs.length ≤ 99)
    (H : ∀ r b1 b2 b4, jt_TR b1 b2 b4 r (ls ++ n :: rs) → jt_OFF (ls ++ n :: rs) a1 a2 a4 b1 b2 b4 → post r (fc, we, lo, hi, ex, b1, b2, a3, b4, a5, a6, a7, a8, a9, a10, a11, a12, a13)) : wpX_balanced post (fc, we, lo, hi, ex, a1, a2, a3, a4, a5, a6, a7, a8, a9, a10, a11, a12, a13) (nI n) := by
  unfold wpX_balanced
  refine jt_update hn' hl hr (by omega) ?_
  dsimp only
  have d1 : n ∉ ls := by grind
  have d2 : n ∉ rs := by grind
  have o1 : jt_OFF [n] a1 a2 a4 a1 a2 (upd a4 n (nI (ls.length + rs.length + 1))) := jt_uC hn
  have hl1 := jt_off1 hl o1 d1
  have hr1 := jt_off1 hr o1 d2
  have hT : 0 ∉ ls ++ n :: rs := by
    have q1 := jt_n0 hl
    have q2 := jt_n0 hr
    have q3 : (0 : Nat) ≠ n := by omega
    simp [q1, q2, q3]
  have sT : ∀ j, j ∈ [n] → j ∈ ls ++ n :: rs := by intro j hj; simp at hj; simp [hj]
  have H1 : ∀ r b1 b2 b4, jt_TR b1 b2 b4 r (ls ++ n :: rs) → jt_OFF (ls ++ n :: rs) a1 a2 (upd a4 n (nI (ls.length + rs.length + 1))) b1 b2 b4 → post r (fc, we, lo, hi, ex, b1, b2, a3, b4, a5, a6, a7, a8, a9, a10, a11, a12, a13) :=
    fun r b1 b2 b4 t o => H r b1 b2 b4 t (jt_ot o1 o hT sT (fun _ h => h))
  rw [nI_clamp (jt_p31 hn')]
  refine ⟨pk_in n 256 hn', nm_e ⟨pk_in n 256 hn', nm_e ?_⟩⟩
  refine jt_weight hr1 (jt_weight hl1 ?_)
  refine pk_le (rs.length + 1) (3 * (ls.length + 1)) (fun g => ?_) (fun g => ?_) rfl (pk_mul 3 _) (by omega) (by omega)
  · refine jt_weight hl1 (jt_weight hr1 ?_)
    refine pk_le (ls.length + 1) (3 * (rs.length + 1)) (fun g2 => ?_) (fun g2 => ?_) rfl (pk_mul 3 _) (by omega) (by omega)
    · exact H1 _ _ _ _ (jt_node hn hn' pk_us hl1 hr1) (jt_or hT)
    · rcases jt_cs hl1 with ⟨_, e, _⟩ | ⟨l, ps, qs, e, h0, h2, e1, _, hm, hs⟩
      · rw [e] at g2; exact absurd g2 (by simp)
      · subst e1
        rw [jt_len] at hb g g2
        rw [e, nI_clamp (jt_p31 h2)]
        refine ⟨pk_in l 256 h2, jt_weight hs ⟨pk_in l 256 h2, jt_weight hm ?_⟩⟩
        refine pk_lt (qs.length + 1) (2 * (ps.length + 1)) (fun g3 => ?_) (fun g3 => ?_) rfl (pk_mul 2 _) (by omega) (by omega)
        · exact jt_b129 hn hn' hl1 hr1 nd (by rw [jt_len]; omega) (by rw [jt_len]; omega) H1
        · have nd2 : (ps ++ l :: qs).Nodup := by grind
          have dn : n ∉ ps ++ l :: qs := d1
          rw [jt_rl1]
          refine jt_tL h0 h2 hm hs nd2 (by omega) (by omega) (fun r b1 b2 b4 t o => ?_)
          dsimp only
          obtain ⟨k, rfl, hk, _⟩ := jt_ix t
          rw [jt_n16 k hk]
          refine ⟨pk_in n 256 hn', nm_e ?_⟩
          have o2 : jt_OFF [n] b1 b2 b4 (upd b1 n (nI k)) b2 b4 := jt_uL hn
          have t2 := jt_off1 t o2 dn
          have eR := (o.2 n dn).2.1
          have r2 := jt_off1 (jt_off hr1 o (by grind)) o2 d2
          refine jt_b129 hn hn' (by rw [pk_us]; exact t2) (by rw [eR]; exact r2) nd (by rw [jt_len]; omega) (by rw [jt_len]; omega) (fun r c1 c2 c4 t3 o3 => H1 r c1 c2 c4 t3 ?_)
          exact jt_ot (jt_ot o o2 hT (fun j hj => List.mem_append_left _ hj) sT) o3 hT (fun _ h => h) (fun _ h => h)
  · rcases jt_cs hr1 with ⟨_, e, _⟩ | ⟨l, ps, qs, e, h0, h2, e1, _, hm, hs⟩
    · rw [e] at g; exact absurd g (by simp <;> omega)
    · subst e1
      rw [jt_len] at hb g
      rw [e, nI_clamp (jt_p31 h2)]
      refine ⟨pk_in l 256 h2, jt_weight hm ⟨pk_in l 256 h2, jt_weight hs ?_⟩⟩
      refine pk_lt (ps.length + 1) (2 * (qs.length + 1)) (fun g3 => ?_) (fun g3 => ?_) rfl (pk_mul 2 _) (by omega) (by omega)
      · exact jt_b71 hn hn' hl1 hr1 nd (by rw [jt_len]; omega) (by rw [jt_len]; omega) H1
      · have nd2 : (ps ++ l :: qs).Nodup := by grind
        have dn : n ∉ ps ++ l :: qs := d2
        rw [jt_rr2]
        refine jt_tR h0 h2 hm hs nd2 (by omega) (by omega) (fun r b1 b2 b4 t o => ?_)
        dsimp only
        obtain ⟨k, rfl, hk, _⟩ := jt_ix t
        rw [jt_n16 k hk]
        refine ⟨pk_in n 256 hn', nm_e ?_⟩
        have o2 : jt_OFF [n] b1 b2 b4 b1 (upd b2 n (nI k)) b4 := jt_uR hn
        have t2 := jt_off1 t o2 dn
        have eL := (o.2 n dn).1
        have r2 := jt_off1 (jt_off hl1 o (by grind)) o2 d1
        refine jt_b71 hn hn' (by rw [eL]; exact r2) (by rw [pk_us]; exact t2) nd (by rw [jt_len]; omega) (by rw [jt_len]; omega) (fun r c1 c2 c4 t3 o3 => H1 r c1 c2 c4 t3 ?_)
        exact jt_ot (jt_ot o o2 hT (fun j hj => List.mem_append_right _ (List.mem_cons_of_mem _ hj)) sT) o3 hT (fun _ h => h) (fun _ h => h)
theorem jt_bal2 : wpX_balanced_2 = wpX_balanced := rfl
theorem jt_push2 : wpX_pushWay_2 = wpX_pushWay := rfl
end
end
section
section
theorem jt_nd3 {A B C : List Nat} (h : (A ++ (B ++ C)).Nodup) : (∀ j, j ∈ A → j ∉ B) ∧ (∀ j, j ∈ C → j ∉ B) ∧ B.Nodup := by
  grind
theorem jt_nd1 {A B : List Nat} {p : Nat} (h : (A ++ p :: B).Nodup) : p ∉ A ∧ p ∉ B ∧ A.Nodup ∧ B.Nodup ∧ (∀ j, j ∈ A → j ∉ B) ∧ (∀ j, j ∈ B → j ∉ A) := by
  grind
theorem jt_ln3 {A B C : List Nat} {k : Nat} (h : (A ++ (B ++ C)).length ≤ k) : A.length + B.length + C.length ≤ k := by
  simp only [List.length_append] at h <;> omega

variable {fc we lo hi ex : Int32} {a1 a2 a3 a4 a5 a6 a7 a8 a9 a10 a11 a12 a13 : Nat → Int32}

theorem jt_up {post : Int32 → St1 → Prop} {w : Nat} (st : List (Nat × Bool × List Nat)) : ∀ (n : Nat) (x : Int32) (cur : List Nat) (a1 a2 a4 : Nat → Int32), st.length < n → jt_TR a1 a2 a4 x cur → jt_cx a1 a2 a4 st → jt_ws a7 a8 w st →
    (jt_pre st ++ (cur ++ jt_pst st)).Nodup → (jt_pre st ++ (cur ++ jt_pst st)).length ≤ 99 → w + st.length ≤ 64 →
    (∀ r b1 b2 b4, jt_TR b1 b2 b4 r (jt_pre st ++ (cur ++ jt_pst st)) → jt_OFF (jt_pre st ++ (cur ++ jt_pst st)) a1 a2 a4 b1 b2 b4 → post r (fc, nI w, lo, hi, ex, b1, b2, a3, b4, a5, a6, a7, a8, a9, a10, a11, a12, a13)) →
    wX_join_161 post (nI w) n x fc (nI (w + st.length)) lo hi ex a1 a2 a3 a4 a5 a6 a7 a8 a9 a10 a11 a12 a13 := by
  induction st with
  | nil =>
    intro n x cur a1 a2 a4 hn ht hc hw nd hl hb H
    obtain ⟨n, rfl⟩ : ∃ m, n = m + 1 := ⟨n - 1, by simp only [List.length_nil] at hn; omega⟩
    refine pk_le (w + 0) w (fun _ => ?_) (fun g => absurd g (by omega))
    have e : jt_pre [] ++ (cur ++ jt_pst []) = cur := by simp only [jt_pre, jt_pst, List.nil_append, List.append_nil]
    rw [e] at H
    exact H x a1 a2 a4 ht (jt_or (jt_n0 ht))
  | cons q t ih =>
    obtain ⟨p, b, s⟩ := q
    intro n x cur a1 a2 a4 hn ht hc hw nd hl hb H
    obtain ⟨n, rfl⟩ : ∃ m, n = m + 1 := ⟨n - 1, by omega⟩
    obtain ⟨w1, w2, w3⟩ := hw
    obtain ⟨k, rfl, hk, _⟩ := jt_ix ht
    simp only [List.length_cons] at hn hb
    refine pk_le (w + (t.length + 1)) w (fun g => absurd g (by omega)) (fun _ => ?_)
    refine nm_r (nI_pred (w + t.length)) ?_
    rw [nI_clamp (show w + t.length < 2 ^ 31 by omega), w1, w2]
    refine ⟨pk_in (w + t.length) 64 (by omega), nm_e ⟨pk_in (w + t.length) 64 (by omega), ?_⟩⟩
    cases b with
    | false =>
      obtain ⟨⟨hp0, hp, hs⟩, hc'⟩ := hc
      have e : jt_pre ((p, false, s) :: t) ++ (cur ++ jt_pst ((p, false, s) :: t)) = jt_pre t ++ ((cur ++ p :: s) ++ jt_pst t) := by simp only [jt_pre, jt_pst, List.append_assoc, List.cons_append]
      rw [e] at nd hl H
      obtain ⟨n1, n2, n3⟩ := jt_nd3 nd
      obtain ⟨m1, m2, _⟩ := jt_nd1 n3
      have l1 := jt_ln3 hl
      rw [jt_len] at l1
      refine br_t (by rfl) ?_
      rw [nI_clamp (jt_p31 hp), jt_n16 k hk]
      refine ⟨pk_in p 256 hp, nm_e ?_⟩
      unfold wX_join_226
      have o1 : jt_OFF [p] a1 a2 a4 (upd a1 p (nI k)) a2 a4 := jt_uL hp0
      try rw [jt_bal2]
      refine jt_bal hp0 hp (ls := cur) (rs := s) (by rw [pk_us]; exact jt_off1 ht o1 m1) (jt_off1 hs o1 m2) n3 (by omega) (fun r b1 b2 b4 t1 o => ?_)
      have o2 : jt_OFF (cur ++ p :: s) a1 a2 a4 b1 b2 b4 := jt_ot o1 o (jt_n0 t1) (by intro j hj; simp at hj; simp [hj]) (fun _ h => h)
      refine ih n r (cur ++ p :: s) b1 b2 b4 (by omega) t1 (jt_cxF hc' o2 n1 n2) w3 nd hl (by omega) (fun r c1 c2 c4 t2 o3 => H r c1 c2 c4 t2 ?_)
      exact jt_ot o2 o3 (jt_n0 t2) (fun j hj => List.mem_append_right _ (List.mem_append_left _ hj)) (fun _ h => h)
    | true =>
      obtain ⟨⟨hp0, hp, hs⟩, hc'⟩ := hc
      have e : jt_pre ((p, true, s) :: t) ++ (cur ++ jt_pst ((p, true, s) :: t)) = jt_pre t ++ ((s ++ p :: cur) ++ jt_pst t) := by simp only [jt_pre, jt_pst, List.append_assoc, List.cons_append, List.nil_append]
      rw [e] at nd hl H
      obtain ⟨n1, n2, n3⟩ := jt_nd3 nd
      obtain ⟨m1, m2, _⟩ := jt_nd1 n3
      have l1 := jt_ln3 hl
      rw [jt_len] at l1
      refine br_f (by decide) ?_
      rw [nI_clamp (jt_p31 hp), jt_n16 k hk]
      refine ⟨pk_in p 256 hp, nm_e ?_⟩
      unfold wX_join_226
      have o1 : jt_OFF [p] a1 a2 a4 a1 (upd a2 p (nI k)) a4 := jt_uR hp0
      try rw [jt_bal2]
      refine jt_bal hp0 hp (ls := s) (rs := cur) (jt_off1 hs o1 m1) (by rw [pk_us]; exact jt_off1 ht o1 m2) n3 (by omega) (fun r b1 b2 b4 t1 o => ?_)
      have o2 : jt_OFF (s ++ p :: cur) a1 a2 a4 b1 b2 b4 := jt_ot o1 o (jt_n0 t1) (by intro j hj; simp at hj; simp [hj]) (fun _ h => h)
      refine ih n r (s ++ p :: cur) b1 b2 b4 (by omega) t1 (jt_cxF hc' o2 n1 n2) w3 nd hl (by omega) (fun r c1 c2 c4 t2 o3 => H r c1 c2 c4 t2 ?_)
      exact jt_ot o2 o3 (jt_n0 t2) (fun j hj => List.mem_append_right _ (List.mem_append_left _ hj)) (fun _ h => h)

theorem jt_136 {post : Int32 → St1 → Prop} {w m : Nat} {x y : Int32} {xs ys : List Nat} {st : List (Nat × Bool × List Nat)} (hm0 : 0 < m) (hm : m < 256) (hx : jt_TR a1 a2 a4 x xs) (hy : jt_TR a1 a2 a4 y ys) (hc : jt_cx a1 a2 a4 st) (hw : jt_ws a7 a8 w st)
    (nd : (jt_pre st ++ ((xs ++ m :: ys) ++ jt_pst st)).Nodup) (hl : (jt_pre st ++ ((xs ++ m :: ys) ++ jt_pst st)).length ≤ 99) (hb : w + st.length ≤ 64)
    (H : ∀ r b1 b2 b4, jt_TR b1 b2 b4 r (jt_pre st ++ ((xs ++ m :: ys) ++ jt_pst st)) → jt_OFF (jt_pre st ++ ((xs ++ m :: ys) ++ jt_pst st)) a1 a2 a4 b1 b2 b4 → post r (fc, nI w, lo, hi, ex, b1, b2, a3, b4, a5, a6, a7, a8, a9, a10, a11, a12, a13)) :
    wX_join_136 post (nI m) x y (nI w) fc (nI (w + st.length)) lo hi ex a1 a2 a3 a4 a5 a6 a7 a8 a9 a10 a11 a12 a13 := by
  obtain ⟨i, rfl, hi', _⟩ := jt_ix hx
  obtain ⟨j, rfl, hj', _⟩ := jt_ix hy
  obtain ⟨n1, n2, n3⟩ := jt_nd3 nd
  obtain ⟨m1, m2, _⟩ := jt_nd1 n3
  have l1 := jt_ln3 hl
  rw [jt_len] at l1
  unfold wX_join_136
  rw [nI_clamp (jt_p31 hm), jt_n16 i hi', jt_n16 j hj']
  refine ⟨pk_in m 256 hm, nm_e ⟨pk_in m 256 hm, nm_e ?_⟩⟩
  have o1 : jt_OFF [m] a1 a2 a4 (upd a1 m (nI i)) a2 a4 := jt_uL hm0
  have o2 : jt_OFF [m] (upd a1 m (nI i)) a2 a4 (upd a1 m (nI i)) (upd a2 m (nI j)) a4 := jt_uR hm0
  try rw [jt_bal2]
  refine jt_bal hm0 hm (ls := xs) (rs := ys) (by rw [pk_us]; exact jt_off1 (jt_off1 hx o1 m1) o2 m1) (by rw [pk_us]; exact jt_off1 (jt_off1 hy o1 m2) o2 m2) n3 (by omega) (fun r b1 b2 b4 t1 o => ?_)
  have hT := jt_n0 t1
  have o3 : jt_OFF (xs ++ m :: ys) a1 a2 a4 b1 b2 b4 := jt_ot (jt_ot o1 o2 hT (by intro j hj; simp at hj; simp [hj]) (by intro j hj; simp at hj; simp [hj])) o hT (fun _ h => h) (fun _ h => h)
  refine ⟨st.length + 1, jt_up st _ r (xs ++ m :: ys) b1 b2 b4 (by omega) t1 (jt_cxF hc o3 n1 n2) hw nd hl hb (fun r c1 c2 c4 t2 o4 => H r c1 c2 c4 t2 ?_)⟩
  exact jt_ot o3 o4 (jt_n0 t2) (fun j hj => List.mem_append_right _ (List.mem_append_left _ hj)) (fun _ h => h)

theorem jt_96 {post : Int32 → St1 → Prop} {w m : Nat} {x x1 x8 : Int32} {xs as TOT : List Nat} {c7 c8 : Nat → Int32} (hm0 : 0 < m) (hm : m < 256) (hx : jt_TR a1 a2 a4 x xs) (ha : jt_TR a1 a2 a4 x1 as) (hla : as.length ≤ 99) (nd : TOT.Nodup) (hl : w + TOT.length ≤ 64)
    (H : ∀ r b1 b2 b4 b7 b8, jt_TR b1 b2 b4 r TOT → jt_OFF TOT a1 a2 a4 b1 b2 b4 → (∀ j, j < w → b7 j = c7 j ∧ b8 j = c8 j) → post r (fc, nI w, lo, hi, ex, b1, b2, a3, b4, a5, a6, b7, b8, a9, a10, a11, a12, a13)) :
    ∀ (n : Nat) (st : List (Nat × Bool × List Nat)) (y : Int32) (ys : List Nat) (a7 a8 : Nat → Int32), ys.length < n → jt_TR a1 a2 a4 y ys → jt_cx a1 a2 a4 st → jt_ws a7 a8 w st → TOT = jt_pre st ++ ((xs ++ m :: ys) ++ jt_pst st) → (∀ j, j < w → a7 j = c7 j ∧ a8 j = c8 j) →
    wX_join_96 post x1 (nI m) x (nI w) x8 n y fc (nI (w + st.length)) lo hi ex a1 a2 a3 a4 a5 a6 a7 a8 a9 a10 a11 a12 a13 := by
  intro n
  induction n with
  | zero => intro st y ys a7 a8 hn; exact absurd hn (by omega)
  | succ n ih =>
    intro st y ys a7 a8 hn hy hc hw hT hag
    have l1 : (jt_pre st).length + (xs ++ m :: ys).length + (jt_pst st).length ≤ TOT.length := jt_ln3 (by rw [hT]; exact Nat.le_refl _)
    rw [jt_len] at l1
    have l2 := jt_stl st
    have J : wX_join_136 post (nI m) x y (nI w) fc (nI (w + st.length)) lo hi ex a1 a2 a3 a4 a5 a6 a7 a8 a9 a10 a11 a12 a13 := by
      refine jt_136 hm0 hm hx hy hc hw (hT ▸ nd) (by rw [← hT]; omega) (by omega) (fun r b1 b2 b4 t o => ?_)
      rw [← hT] at t o
      exact H r b1 b2 b4 a7 a8 t o hag
    refine br_c (fun _ => J) (fun _ => jt_weight hy (jt_weight ha ?_))
    refine pk_le (ys.length + 1) (3 * (as.length + 1)) (fun _ => J) (fun g => ?_) rfl (pk_mul 3 _) (by omega) (by omega)
    rcases jt_cs hy with ⟨_, e, _⟩ | ⟨p, ls, rs, e, hp0, hp, e1, _, hl1, hr1⟩
    · rw [e] at g; exact absurd g (by simp <;> omega)
    · subst e
      subst e1
      rw [jt_len] at hn l1
      try rw [jt_push2]
      refine jt_push (by omega) hp jt_v0 ?_
      dsimp only
      rw [nI_clamp (jt_p31 hp)]
      refine ⟨pk_in p 256 hp, nm_e ?_⟩
      refine ih ((p, false, rs) :: st) (a1 p) ls _ _ (by omega) hl1 ⟨⟨hp0, hp, hr1⟩, hc⟩ (jt_wsP hw rfl) ?_ (fun j hj => ?_)
      · rw [hT]
        simp only [jt_pre, jt_pst, List.append_assoc, List.cons_append]
      · rw [pk_un (by omega), pk_un (by omega)]
        exact hag j hj

theorem jt_56 {post : Int32 → St1 → Prop} {w m : Nat} {y x1 x7 x8 : Int32} {ys as TOT : List Nat} {c7 c8 : Nat → Int32} (hm0 : 0 < m) (hm : m < 256) (hy : jt_TR a1 a2 a4 y ys) (ha : jt_TR a1 a2 a4 x1 as) (hla : as.length ≤ 99) (nd : TOT.Nodup) (hl : w + TOT.length ≤ 64)
    (H : ∀ r b1 b2 b4 b7 b8, jt_TR b1 b2 b4 r TOT → jt_OFF TOT a1 a2 a4 b1 b2 b4 → (∀ j, j < w → b7 j = c7 j ∧ b8 j = c8 j) → post r (fc, nI w, lo, hi, ex, b1, b2, a3, b4, a5, a6, b7, b8, a9, a10, a11, a12, a13)) :
    ∀ (n : Nat) (st : List (Nat × Bool × List Nat)) (x : Int32) (xs : List Nat) (a7 a8 : Nat → Int32), xs.length < n → jt_TR a1 a2 a4 x xs → jt_cx a1 a2 a4 st → jt_ws a7 a8 w st → TOT = jt_pre st ++ ((xs ++ m :: ys) ++ jt_pst st) → (∀ j, j < w → a7 j = c7 j ∧ a8 j = c8 j) →
    wX_join_56 post x1 (nI m) y y (nI w) x7 x8 n x fc (nI (w + st.length)) lo hi ex a1 a2 a3 a4 a5 a6 a7 a8 a9 a10 a11 a12 a13 := by
  intro n
  induction n with
  | zero => intro st x xs a7 a8 hn; exact absurd hn (by omega)
  | succ n ih =>
    intro st x xs a7 a8 hn hx hc hw hT hag
    have l1 : (jt_pre st).length + (xs ++ m :: ys).length + (jt_pst st).length ≤ TOT.length := jt_ln3 (by rw [hT]; exact Nat.le_refl _)
    rw [jt_len] at l1
    have l2 := jt_stl st
    have J : ∃ fu96 : Nat, wX_join_96 post x1 (nI m) x (nI w) x8 fu96 y fc (nI (w + st.length)) lo hi ex a1 a2 a3 a4 a5 a6 a7 a8 a9 a10 a11 a12 a13 :=
      ⟨ys.length + 1, jt_96 hm0 hm hx ha hla nd hl H (ys.length + 1) st y ys a7 a8 (by omega) hy hc hw hT hag⟩
    refine br_c (fun _ => J) (fun _ => jt_weight hx (jt_weight hy ?_))
    refine pk_le (xs.length + 1) (3 * (ys.length + 1)) (fun _ => J) (fun g => ?_) rfl (pk_mul 3 _) (by omega) (by omega)
    rcases jt_cs hx with ⟨_, e, _⟩ | ⟨p, ls, rs, e, hp0, hp, e1, _, hl1, hr1⟩
    · rw [e] at g; exact absurd g (by simp <;> omega)
    · subst e
      subst e1
      rw [jt_len] at hn l1
      try rw [jt_push2]
      refine jt_push (by omega) hp jt_v1 ?_
      dsimp only
      rw [nI_clamp (jt_p31 hp)]
      refine ⟨pk_in p 256 hp, nm_e ?_⟩
      refine ih ((p, true, ls) :: st) (a2 p) rs _ _ (by omega) hr1 ⟨⟨hp0, hp, hl1⟩, hc⟩ (jt_wsP hw rfl) ?_ (fun j hj => ?_)
      · rw [hT]
        simp only [jt_pre, jt_pst, List.append_assoc, List.cons_append, List.nil_append]
      · rw [pk_un (by omega), pk_un (by omega)]
        exact hag j hj

/-- two trees and a node between them -/
theorem jt_join {post : Int32 → St1 → Prop} {w m : Nat} {a b : Int32} {as bs : List Nat} (ha : jt_TR a1 a2 a4 a as) (hb : jt_TR a1 a2 a4 b bs) (hm0 : 0 < m) (hm : m < 256) (nd : (as ++ m :: bs).Nodup) (hl : w + (as ++ m :: bs).length ≤ 64)
    (H : ∀ r b1 b2 b4 b7 b8, jt_TR b1 b2 b4 r (as ++ m :: bs) → jt_OFF (as ++ m :: bs) a1 a2 a4 b1 b2 b4 → (∀ j, j < w → b7 j = a7 j ∧ b8 j = a8 j) → post r (fc, nI w, lo, hi, ex, b1, b2, a3, b4, a5, a6, b7, b8, a9, a10, a11, a12, a13)) :
    wpX_join post (fc, nI w, lo, hi, ex, a1, a2, a3, a4, a5, a6, a7, a8, a9, a10, a11, a12, a13) a (nI m) b := by
  have l1 : as.length ≤ 99 := by rw [jt_len] at hl; omega
  have J : ∀ x7 x8, ∃ fu56 : Nat, wX_join_56 post a (nI m) b b (nI w) x7 x8 fu56 a fc (nI w) lo hi ex a1 a2 a3 a4 a5 a6 a7 a8 a9 a10 a11 a12 a13 := fun x7 x8 =>
    ⟨as.length + 1, jt_56 hm0 hm hb ha l1 nd hl H (as.length + 1) [] a as a7 a8 (by omega) ha trivial trivial (by simp only [jt_pre, jt_pst, List.nil_append, List.append_nil]) (fun j _ => ⟨rfl, rfl⟩)⟩
  have J2 : ∀ z, wX_join_32 post a (nI m) b a b (nI w) z fc (nI w) lo hi ex a1 a2 a3 a4 a5 a6 a7 a8 a9 a10 a11 a12 a13 := fun z => by
    unfold wX_join_32
    exact jt_weight hb (jt_weight ha (br_c (fun _ => J _ _) (fun _ => J _ _)))
  unfold wpX_join
  exact jt_weight ha (jt_weight hb (br_c (fun _ => J2 _) (fun _ => J2 _)))
theorem jt_up_2 {post : Int32 → St1 → Prop} {w : Nat} (st : List (Nat × Bool × List Nat)) : ∀ (n : Nat) (x : Int32) (cur : List Nat) (a1 a2 a4 : Nat → Int32), st.length < n → jt_TR a1 a2 a4 x cur → jt_cx a1 a2 a4 st → jt_ws a7 a8 w st →
    (jt_pre st ++ (cur ++ jt_pst st)).Nodup → (jt_pre st ++ (cur ++ jt_pst st)).length ≤ 99 → w + st.length ≤ 64 →
    (∀ r b1 b2 b4, jt_TR b1 b2 b4 r (jt_pre st ++ (cur ++ jt_pst st)) → jt_OFF (jt_pre st ++ (cur ++ jt_pst st)) a1 a2 a4 b1 b2 b4 → post r (fc, nI w, lo, hi, ex, b1, b2, a3, b4, a5, a6, a7, a8, a9, a10, a11, a12, a13)) →
    wX_join_2_161 post (nI w) n x fc (nI (w + st.length)) lo hi ex a1 a2 a3 a4 a5 a6 a7 a8 a9 a10 a11 a12 a13 := by
  induction st with
  | nil =>
    intro n x cur a1 a2 a4 hn ht hc hw nd hl hb H
    obtain ⟨n, rfl⟩ : ∃ m, n = m + 1 := ⟨n - 1, by simp only [List.length_nil] at hn; omega⟩
    refine pk_le (w + 0) w (fun _ => ?_) (fun g => absurd g (by omega))
    have e : jt_pre [] ++ (cur ++ jt_pst []) = cur := by simp only [jt_pre, jt_pst, List.nil_append, List.append_nil]
    rw [e] at H
    exact H x a1 a2 a4 ht (jt_or (jt_n0 ht))
  | cons q t ih =>
    obtain ⟨p, b, s⟩ := q
    intro n x cur a1 a2 a4 hn ht hc hw nd hl hb H
    obtain ⟨n, rfl⟩ : ∃ m, n = m + 1 := ⟨n - 1, by omega⟩
    obtain ⟨w1, w2, w3⟩ := hw
    obtain ⟨k, rfl, hk, _⟩ := jt_ix ht
    simp only [List.length_cons] at hn hb
    refine pk_le (w + (t.length + 1)) w (fun g => absurd g (by omega)) (fun _ => ?_)
    refine nm_r (nI_pred (w + t.length)) ?_
    rw [nI_clamp (show w + t.length < 2 ^ 31 by omega), w1, w2]
    refine ⟨pk_in (w + t.length) 64 (by omega), nm_e ⟨pk_in (w + t.length) 64 (by omega), ?_⟩⟩
    cases b with
    | false =>
      obtain ⟨⟨hp0, hp, hs⟩, hc'⟩ := hc
      have e : jt_pre ((p, false, s) :: t) ++ (cur ++ jt_pst ((p, false, s) :: t)) = jt_pre t ++ ((cur ++ p :: s) ++ jt_pst t) := by simp only [jt_pre, jt_pst, List.append_assoc, List.cons_append]
      rw [e] at nd hl H
      obtain ⟨n1, n2, n3⟩ := jt_nd3 nd
      obtain ⟨m1, m2, _⟩ := jt_nd1 n3
      have l1 := jt_ln3 hl
      rw [jt_len] at l1
      refine br_t (by rfl) ?_
      rw [nI_clamp (jt_p31 hp), jt_n16 k hk]
      refine ⟨pk_in p 256 hp, nm_e ?_⟩
      unfold wX_join_2_226
      have o1 : jt_OFF [p] a1 a2 a4 (upd a1 p (nI k)) a2 a4 := jt_uL hp0
      try rw [jt_bal2]
      refine jt_bal hp0 hp (ls := cur) (rs := s) (by rw [pk_us]; exact jt_off1 ht o1 m1) (jt_off1 hs o1 m2) n3 (by omega) (fun r b1 b2 b4 t1 o => ?_)
      have o2 : jt_OFF (cur ++ p :: s) a1 a2 a4 b1 b2 b4 := jt_ot o1 o (jt_n0 t1) (by intro j hj; simp at hj; simp [hj]) (fun _ h => h)
      refine ih n r (cur ++ p :: s) b1 b2 b4 (by omega) t1 (jt_cxF hc' o2 n1 n2) w3 nd hl (by omega) (fun r c1 c2 c4 t2 o3 => H r c1 c2 c4 t2 ?_)
      exact jt_ot o2 o3 (jt_n0 t2) (fun j hj => List.mem_append_right _ (List.mem_append_left _ hj)) (fun _ h => h)
    | true =>
      obtain ⟨⟨hp0, hp, hs⟩, hc'⟩ := hc
      have e : jt_pre ((p, true, s) :: t) ++ (cur ++ jt_pst ((p, true, s) :: t)) = jt_pre t ++ ((s ++ p :: cur) ++ jt_pst t) := by simp only [jt_pre, jt_pst, List.append_assoc, List.cons_append, List.nil_append]
      rw [e] at nd hl H
      obtain ⟨n1, n2, n3⟩ := jt_nd3 nd
      obtain ⟨m1, m2, _⟩ := jt_nd1 n3
      have l1 := jt_ln3 hl
      rw [jt_len] at l1
      refine br_f (by decide) ?_
      rw [nI_clamp (jt_p31 hp), jt_n16 k hk]
      refine ⟨pk_in p 256 hp, nm_e ?_⟩
      unfold wX_join_2_226
      have o1 : jt_OFF [p] a1 a2 a4 a1 (upd a2 p (nI k)) a4 := jt_uR hp0
      try rw [jt_bal2]
      refine jt_bal hp0 hp (ls := s) (rs := cur) (jt_off1 hs o1 m1) (by rw [pk_us]; exact jt_off1 ht o1 m2) n3 (by omega) (fun r b1 b2 b4 t1 o => ?_)
      have o2 : jt_OFF (s ++ p :: cur) a1 a2 a4 b1 b2 b4 := jt_ot o1 o (jt_n0 t1) (by intro j hj; simp at hj; simp [hj]) (fun _ h => h)
      refine ih n r (s ++ p :: cur) b1 b2 b4 (by omega) t1 (jt_cxF hc' o2 n1 n2) w3 nd hl (by omega) (fun r c1 c2 c4 t2 o3 => H r c1 c2 c4 t2 ?_)
      exact jt_ot o2 o3 (jt_n0 t2) (fun j hj => List.mem_append_right _ (List.mem_append_left _ hj)) (fun _ h => h)

theorem jt_136_2 {post : Int32 → St1 → Prop} {w m : Nat} {x y : Int32} {xs ys : List Nat} {st : List (Nat × Bool × List Nat)} (hm0 : 0 < m) (hm : m < 256) (hx : jt_TR a1 a2 a4 x xs) (hy : jt_TR a1 a2 a4 y ys) (hc : jt_cx a1 a2 a4 st) (hw : jt_ws a7 a8 w st)
    (nd : (jt_pre st ++ ((xs ++ m :: ys) ++ jt_pst st)).Nodup) (hl : (jt_pre st ++ ((xs ++ m :: ys) ++ jt_pst st)).length ≤ 99) (hb : w + st.length ≤ 64)
    (H : ∀ r b1 b2 b4, jt_TR b1 b2 b4 r (jt_pre st ++ ((xs ++ m :: ys) ++ jt_pst st)) → jt_OFF (jt_pre st ++ ((xs ++ m :: ys) ++ jt_pst st)) a1 a2 a4 b1 b2 b4 → post r (fc, nI w, lo, hi, ex, b1, b2, a3, b4, a5, a6, a7, a8, a9, a10, a11, a12, a13)) :
    wX_join_2_136 post (nI m) x y (nI w) fc (nI (w + st.length)) lo hi ex a1 a2 a3 a4 a5 a6 a7 a8 a9 a10 a11 a12 a13 := by
  obtain ⟨i, rfl, hi', _⟩ := jt_ix hx
  obtain ⟨j, rfl, hj', _⟩ := jt_ix hy
  obtain ⟨n1, n2, n3⟩ := jt_nd3 nd
  obtain ⟨m1, m2, _⟩ := jt_nd1 n3
  have l1 := jt_ln3 hl
  rw [jt_len] at l1
  unfold wX_join_2_136
  rw [nI_clamp (jt_p31 hm), jt_n16 i hi', jt_n16 j hj']
  refine ⟨pk_in m 256 hm, nm_e ⟨pk_in m 256 hm, nm_e ?_⟩⟩
  have o1 : jt_OFF [m] a1 a2 a4 (upd a1 m (nI i)) a2 a4 := jt_uL hm0
  have o2 : jt_OFF [m] (upd a1 m (nI i)) a2 a4 (upd a1 m (nI i)) (upd a2 m (nI j)) a4 := jt_uR hm0
  try rw [jt_bal2]
  refine jt_bal hm0 hm (ls := xs) (rs := ys) (by rw [pk_us]; exact jt_off1 (jt_off1 hx o1 m1) o2 m1) (by rw [pk_us]; exact jt_off1 (jt_off1 hy o1 m2) o2 m2) n3 (by omega) (fun r b1 b2 b4 t1 o => ?_)
  have hT := jt_n0 t1
  have o3 : jt_OFF (xs ++ m :: ys) a1 a2 a4 b1 b2 b4 := jt_ot (jt_ot o1 o2 hT (by intro j hj; simp at hj; simp [hj]) (by intro j hj; simp at hj; simp [hj])) o hT (fun _ h => h) (fun _ h => h)
  refine ⟨st.length + 1, jt_up_2 st _ r (xs ++ m :: ys) b1 b2 b4 (by omega) t1 (jt_cxF hc o3 n1 n2) hw nd hl hb (fun r c1 c2 c4 t2 o4 => H r c1 c2 c4 t2 ?_)⟩
  exact jt_ot o3 o4 (jt_n0 t2) (fun j hj => List.mem_append_right _ (List.mem_append_left _ hj)) (fun _ h => h)

theorem jt_96_2 {post : Int32 → St1 → Prop} {w m : Nat} {x x1 x8 : Int32} {xs as TOT : List Nat} {c7 c8 : Nat → Int32} (hm0 : 0 < m) (hm : m < 256) (hx : jt_TR a1 a2 a4 x xs) (ha : jt_TR a1 a2 a4 x1 as) (hla : as.length ≤ 99) (nd : TOT.Nodup) (hl : w + TOT.length ≤ 64)
    (H : ∀ r b1 b2 b4 b7 b8, jt_TR b1 b2 b4 r TOT → jt_OFF TOT a1 a2 a4 b1 b2 b4 → (∀ j, j < w → b7 j = c7 j ∧ b8 j = c8 j) → post r (fc, nI w, lo, hi, ex, b1, b2, a3, b4, a5, a6, b7, b8, a9, a10, a11, a12, a13)) :
    ∀ (n : Nat) (st : List (Nat × Bool × List Nat)) (y : Int32) (ys : List Nat) (a7 a8 : Nat → Int32), ys.length < n → jt_TR a1 a2 a4 y ys → jt_cx a1 a2 a4 st → jt_ws a7 a8 w st → TOT = jt_pre st ++ ((xs ++ m :: ys) ++ jt_pst st) → (∀ j, j < w → a7 j = c7 j ∧ a8 j = c8 j) →
    wX_join_2_96 post x1 (nI m) x (nI w) x8 n y fc (nI (w + st.length)) lo hi ex a1 a2 a3 a4 a5 a6 a7 a8 a9 a10 a11 a12 a13 := by
  intro n
  induction n with
  | zero => intro st y ys a7 a8 hn; exact absurd hn (by omega)
  | succ n ih =>
    intro st y ys a7 a8 hn hy hc hw hT hag
    have l1 : (jt_pre st).length + (xs ++ m :: ys).length + (jt_pst st).length ≤ TOT.length := jt_ln3 (by rw [hT]; exact Nat.le_refl _)
    rw [jt_len] at l1
    have l2 := jt_stl st
    have J : wX_join_2_136 post (nI m) x y (nI w) fc (nI (w + st.length)) lo hi ex a1 a2 a3 a4 a5 a6 a7 a8 a9 a10 a11 a12 a13 := by
      refine jt_136_2 hm0 hm hx hy hc hw (hT ▸ nd) (by rw [← hT]; omega) (by omega) (fun r b1 b2 b4 t o => ?_)
      rw [← hT] at t o
      exact H r b1 b2 b4 a7 a8 t o hag
    refine br_c (fun _ => J) (fun _ => jt_weight hy (jt_weight ha ?_))
    refine pk_le (ys.length + 1) (3 * (as.length + 1)) (fun _ => J) (fun g => ?_) rfl (pk_mul 3 _) (by omega) (by omega)
    rcases jt_cs hy with ⟨_, e, _⟩ | ⟨p, ls, rs, e, hp0, hp, e1, _, hl1, hr1⟩
    · rw [e] at g; exact absurd g (by simp <;> omega)
    · subst e
      subst e1
      rw [jt_len] at hn l1
      try rw [jt_push2]
      refine jt_push (by omega) hp jt_v0 ?_
      dsimp only
      rw [nI_clamp (jt_p31 hp)]
      refine ⟨pk_in p 256 hp, nm_e ?_⟩
      refine ih ((p, false, rs) :: st) (a1 p) ls _ _ (by omega) hl1 ⟨⟨hp0, hp, hr1⟩, hc⟩ (jt_wsP hw rfl) ?_ (fun j hj => ?_)
      · rw [hT]
        simp only [jt_pre, jt_pst, List.append_assoc, List.cons_append]
      · rw [pk_un (by omega), pk_un (by omega)]
        exact hag j hj

theorem jt_56_2 {post : Int32 → St1 → Prop} {w m : Nat} {y x1 x7 x8 : Int32} {ys as TOT : List Nat} {c7 c8 : Nat → Int32} (hm0 : 0 < m) (hm : m < 256) (hy : jt_TR a1 a2 a4 y ys) (ha : jt_TR a1 a2 a4 x1 as) (hla : as.length ≤ 99) (nd : TOT.Nodup) (hl : w + TOT.length ≤ 64)
    (H : ∀ r b1 b2 b4 b7 b8, jt_TR b1 b2 b4 r TOT → jt_OFF TOT a1 a2 a4 b1 b2 b4 → (∀ j, j < w → b7 j = c7 j ∧ b8 j = c8 j) → post r (fc, nI w, lo, hi, ex, b1, b2, a3, b4, a5, a6, b7, b8, a9, a10, a11, a12, a13)) :
    ∀ (n : Nat) (st : List (Nat × Bool × List Nat)) (x : Int32) (xs : List Nat) (a7 a8 : Nat → Int32), xs.length < n → jt_TR a1 a2 a4 x xs → jt_cx a1 a2 a4 st → jt_ws a7 a8 w st → TOT = jt_pre st ++ ((xs ++ m :: ys) ++ jt_pst st) → (∀ j, j < w → a7 j = c7 j ∧ a8 j = c8 j) →
    wX_join_2_56 post x1 (nI m) y y (nI w) x7 x8 n x fc (nI (w + st.length)) lo hi ex a1 a2 a3 a4 a5 a6 a7 a8 a9 a10 a11 a12 a13 := by
  intro n
  induction n with
  | zero => intro st x xs a7 a8 hn; exact absurd hn (by omega)
  | succ n ih =>
    intro st x xs a7 a8 hn hx hc hw hT hag
    have l1 : (jt_pre st).length + (xs ++ m :: ys).length + (jt_pst st).length ≤ TOT.length := jt_ln3 (by rw [hT]; exact Nat.le_refl _)
    rw [jt_len] at l1
    have l2 := jt_stl st
    have J : ∃ fu96 : Nat, wX_join_2_96 post x1 (nI m) x (nI w) x8 fu96 y fc (nI (w + st.length)) lo hi ex a1 a2 a3 a4 a5 a6 a7 a8 a9 a10 a11 a12 a13 :=
      ⟨ys.length + 1, jt_96_2 hm0 hm hx ha hla nd hl H (ys.length + 1) st y ys a7 a8 (by omega) hy hc hw hT hag⟩
    refine br_c (fun _ => J) (fun _ => jt_weight hx (jt_weight hy ?_))
    refine pk_le (xs.length + 1) (3 * (ys.length + 1)) (fun _ => J) (fun g => ?_) rfl (pk_mul 3 _) (by omega) (by omega)
    rcases jt_cs hx with ⟨_, e, _⟩ | ⟨p, ls, rs, e, hp0, hp, e1, _, hl1, hr1⟩
    · rw [e] at g; exact absurd g (by simp <;> omega)
    · subst e
      subst e1
      rw [jt_len] at hn l1
      try rw [jt_push2]
      refine jt_push (by omega) hp jt_v1 ?_
      dsimp only
      rw [nI_clamp (jt_p31 hp)]
      refine ⟨pk_in p 256 hp, nm_e ?_⟩
      refine ih ((p, true, ls) :: st) (a2 p) rs _ _ (by omega) hr1 ⟨⟨hp0, hp, hl1⟩, hc⟩ (jt_wsP hw rfl) ?_ (fun j hj => ?_)
      · rw [hT]
        simp only [jt_pre, jt_pst, List.append_assoc, List.cons_append, List.nil_append]
      · rw [pk_un (by omega), pk_un (by omega)]
        exact hag j hj

/-- two trees and a node between them -/
theorem jt_join_2 {post : Int32 → St1 → Prop} {w m : Nat} {a b : Int32} {as bs : List Nat} (ha : jt_TR a1 a2 a4 a as) (hb : jt_TR a1 a2 a4 b bs) (hm0 : 0 < m) (hm : m < 256) (nd : (as ++ m :: bs).Nodup) (hl : w + (as ++ m :: bs).length ≤ 64)
    (H : ∀ r b1 b2 b4 b7 b8, jt_TR b1 b2 b4 r (as ++ m :: bs) → jt_OFF (as ++ m :: bs) a1 a2 a4 b1 b2 b4 → (∀ j, j < w → b7 j = a7 j ∧ b8 j = a8 j) → post r (fc, nI w, lo, hi, ex, b1, b2, a3, b4, a5, a6, b7, b8, a9, a10, a11, a12, a13)) :
    wpX_join_2 post (fc, nI w, lo, hi, ex, a1, a2, a3, a4, a5, a6, a7, a8, a9, a10, a11, a12, a13) a (nI m) b := by
  have l1 : as.length ≤ 99 := by rw [jt_len] at hl; omega
  have J : ∀ x7 x8, ∃ fu56 : Nat, wX_join_2_56 post a (nI m) b b (nI w) x7 x8 fu56 a fc (nI w) lo hi ex a1 a2 a3 a4 a5 a6 a7 a8 a9 a10 a11 a12 a13 := fun x7 x8 =>
    ⟨as.length + 1, jt_56_2 hm0 hm hb ha l1 nd hl H (as.length + 1) [] a as a7 a8 (by omega) ha trivial trivial (by simp only [jt_pre, jt_pst, List.nil_append, List.append_nil]) (fun j _ => ⟨rfl, rfl⟩)⟩
  have J2 : ∀ z, wX_join_2_32 post a (nI m) b a b (nI w) z fc (nI w) lo hi ex a1 a2 a3 a4 a5 a6 a7 a8 a9 a10 a11 a12 a13 := fun z => by
    unfold wX_join_2_32
    exact jt_weight hb (jt_weight ha (br_c (fun _ => J _ _) (fun _ => J _ _)))
  unfold wpX_join_2
  exact jt_weight ha (jt_weight hb (br_c (fun _ => J2 _) (fun _ => J2 _)))
end
end
section
section
theorem jt_lt1 {a b c : Int32} (h : a < b) (h' : b < c) : a < c := by
  rw [Int32.lt_iff_toInt_lt] at *
  omega
theorem jt_lt2 {a b : Int32} (h : ¬ a ≤ b) : b < a := by
  rw [Int32.le_iff_toInt_le] at h
  rw [Int32.lt_iff_toInt_lt]
  omega
theorem jt_lt3 {a b : Int32} (h : a ≤ b) (h' : ¬ b = a) : a < b := by
  rw [← Int32.toInt_inj] at h'
  rw [Int32.le_iff_toInt_le] at h
  rw [Int32.lt_iff_toInt_lt]
  omega
theorem jt_lt4 {a : Int32} (h : a < a) : False := by
  rw [Int32.lt_iff_toInt_lt] at h
  omega
theorem jt_nd5 {A B E D F : List Nat} (h : ((A ++ B) ++ (E ++ (D ++ F))).Nodup) : D.Nodup ∧ (∀ j, j ∈ A → j ∉ D) ∧ (∀ j, j ∈ B → j ∉ D) ∧ (∀ j, j ∈ F → j ∉ D) := by
  grind
theorem jt_nd6 {A B E D F : List Nat} (h : ((A ++ D) ++ (E ++ (B ++ F))).Nodup) : D.Nodup ∧ (∀ j, j ∈ A → j ∉ D) ∧ (∀ j, j ∈ B → j ∉ D) ∧ (∀ j, j ∈ F → j ∉ D) := by
  grind
theorem jt_nd7 {A B : List Nat} {e : Nat} (h : (A ++ ([e] ++ B)).Nodup) : e ∉ A ∧ e ∉ B := by
  grind
theorem jt_ln5 {A B E D F : List Nat} {k : Nat} (h : ((A ++ B) ++ (E ++ (D ++ F))).length ≤ k) : A.length + B.length + E.length + D.length + F.length ≤ k := by
  simp only [List.length_append] at h <;> omega
theorem jt_sr3 {K : Nat → Int32} {A B C : List Nat} (h : ((A ++ (B ++ C)).map K).Pairwise (· < ·)) : (B.map K).Pairwise (· < ·) := by
  simp only [List.map_append, List.pairwise_append] at h
  exact h.2.1.1
theorem jt_sr1 {K : Nat → Int32} {A B : List Nat} {p : Nat} (h : ((A ++ p :: B).map K).Pairwise (· < ·)) : (∀ j, j ∈ A → K j < K p) ∧ (∀ j, j ∈ B → K p < K j) ∧ (A.map K).Pairwise (· < ·) ∧ (B.map K).Pairwise (· < ·) ∧ (∀ j, j ∈ A → ∀ i, i ∈ B → K j < K i) := by
  simp only [List.map_append, List.map_cons, List.pairwise_append, List.pairwise_cons] at h
  obtain ⟨h1, ⟨h2, h3⟩, h4⟩ := h
  refine ⟨fun j hj => h4 _ (List.mem_map_of_mem hj) _ List.mem_cons_self, fun j hj => h2 _ (List.mem_map_of_mem hj), h1, h3, fun j hj i hi => h4 _ (List.mem_map_of_mem hj) _ (List.mem_cons_of_mem _ (List.mem_map_of_mem hi))⟩

variable {fc we lo hi ex : Int32} {a1 a2 a3 a4 a5 a6 a7 a8 a9 a10 a11 a12 a13 : Nat → Int32}

/-- a tree of at most one node -/
theorem jt_one {L R C : Nat → Int32} {x : Int32} {E : List Nat} (h : jt_TR L R C x E) (h1 : E.length ≤ 1) : (x = nI 0 ∧ E = []) ∨ ∃ e, x = nI e ∧ E = [e] ∧ 0 < e ∧ e < 256 := by
  rcases jt_cs h with ⟨e, e1, _⟩ | ⟨n, ls, rs, e, h0, h2, e1, _, _, _⟩
  · exact Or.inl ⟨e, e1⟩
  · rw [e1, jt_len] at h1
    have z1 : ls = [] := List.eq_nil_of_length_eq_zero (by omega)
    have z2 : rs = [] := List.eq_nil_of_length_eq_zero (by omega)
    subst z1; subst z2
    exact Or.inr ⟨n, e, e1, h0, h2⟩

theorem jt_101 {post : St1 → Prop} {x3 : Int32} {EX : List Nat} (hE : (x3 = nI 0 ∧ EX = []) ∨ ∃ e, x3 = nI e ∧ EX = [e] ∧ 0 < e ∧ e < 256) (st : List (Nat × Bool × List Nat)) :
    ∀ (n : Nat) (low high : Int32) (lows his : List Nat) (a1 a2 a4 a7 a8 : Nat → Int32), st.length < n → jt_TR a1 a2 a4 low lows → jt_TR a1 a2 a4 high his → jt_cx a1 a2 a4 st → jt_ws a7 a8 0 st →
    ((jt_pre st ++ lows) ++ (EX ++ (his ++ jt_pst st))).Nodup → ((jt_pre st ++ lows) ++ (EX ++ (his ++ jt_pst st))).length ≤ 64 →
    (∀ lo' hi' b1 b2 b4 b7 b8, jt_TR b1 b2 b4 lo' (jt_pre st ++ lows) → jt_TR b1 b2 b4 hi' (his ++ jt_pst st) → jt_TR b1 b2 b4 x3 EX → jt_OFF ((jt_pre st ++ lows) ++ (EX ++ (his ++ jt_pst st))) a1 a2 a4 b1 b2 b4 → post (fc, nI 0, lo', hi', x3, b1, b2, a3, b4, a5, a6, b7, b8, a9, a10, a11, a12, a13)) →
    wX_splitTree_101 post x3 n low high fc (nI st.length) lo hi ex a1 a2 a3 a4 a5 a6 a7 a8 a9 a10 a11 a12 a13 := by
  induction st with
  | nil =>
    intro n low high lows his a1 a2 a4 a7 a8 hn hlo hhi hc hw nd hl H
    obtain ⟨n, rfl⟩ : ∃ m, n = m + 1 := ⟨n - 1, by simp only [List.length_nil] at hn; omega⟩
    simp only [jt_pre, jt_pst, List.nil_append, List.append_nil] at H nd
    have c0 := jt_c0 hlo
    refine pk_le 0 0 (fun _ => ?_) (fun g => absurd g (by omega))
    rcases hE with ⟨rfl, rfl⟩ | ⟨e, rfl, rfl, he0, he⟩
    · refine br_t rfl (H low high a1 a2 a4 a7 a8 hlo hhi (jt_nil c0) (jt_or ?_))
      have q1 := jt_n0 hlo
      have q2 := jt_n0 hhi
      simp [q1, q2]
    · have hd := jt_nd7 nd
      refine br_f (nI_ne0 he0 (jt_p31 he)) ?_
      rw [nI_clamp (jt_p31 he)]
      refine ⟨pk_in e 256 he, nm_e ⟨pk_in e 256 he, nm_e ⟨pk_in e 256 he, nm_e ?_⟩⟩⟩
      have o : jt_OFF [e] a1 a2 a4 (upd a1 e 0) (upd a2 e 0) (upd a4 e 1) := jt_ou he0 (fun j hj => ⟨pk_un hj, pk_un hj, pk_un hj⟩)
      have c1 : upd a4 e 1 0 = nI 0 := by rw [pk_un (by omega)]; exact c0
      have t : jt_TR (upd a1 e 0) (upd a2 e 0) (upd a4 e 1) (nI e) ([] ++ e :: []) :=
        jt_node he0 he pk_us (by rw [pk_us]; exact jt_nil c1) (by rw [pk_us]; exact jt_nil c1)
      have q1 := jt_n0 hlo
      have q2 := jt_n0 hhi
      have q3 : (0 : Nat) ≠ e := by omega
      exact H low high _ _ _ a7 a8 (jt_off1 hlo o hd.1) (jt_off1 hhi o hd.2) t (jt_om o (by simp [q1, q2, q3]) (by intro j hj; simp at hj; simp [hj]))
  | cons q t ih =>
    obtain ⟨p, b, s⟩ := q
    intro n low high lows his a1 a2 a4 a7 a8 hn hlo hhi hc hw nd hl H
    obtain ⟨n, rfl⟩ : ∃ m, n = m + 1 := ⟨n - 1, by omega⟩
    obtain ⟨w1, w2, w3⟩ := hw
    rw [Nat.zero_add] at w1 w2
    simp only [List.length_cons] at hn
    have l2 := jt_stl t
    have l3 : t.length + 1 ≤ 64 := by
      have l4 := jt_stl ((p, b, s) :: t)
      have l5 := jt_ln5 hl
      rw [List.length_cons] at l4
      omega
    refine pk_le (t.length + 1) 0 (fun g => absurd g (by omega)) (fun _ => ?_)
    rw [show nI ((p, b, s) :: t).length - 1 = nI t.length from nI_pred t.length]
    cases b with
    | false =>
      obtain ⟨⟨hp0, hp, hs⟩, hc'⟩ := hc
      have e : (jt_pre ((p, false, s) :: t) ++ lows) ++ (EX ++ (his ++ jt_pst ((p, false, s) :: t))) = (jt_pre t ++ lows) ++ (EX ++ ((his ++ p :: s) ++ jt_pst t)) := by simp only [jt_pre, jt_pst, List.append_assoc, List.cons_append]
      have e2 : his ++ jt_pst ((p, false, s) :: t) = (his ++ p :: s) ++ jt_pst t := by simp only [jt_pst, List.append_assoc, List.cons_append]
      have e3 : jt_pre ((p, false, s) :: t) ++ lows = jt_pre t ++ lows := by simp only [jt_pre]
      rw [e] at nd hl
      obtain ⟨n1, n2, n3, n4⟩ := jt_nd5 nd
      have l1 := jt_ln5 hl
      rw [nI_clamp (show t.length < 2 ^ 31 by omega), w1, w2]
      refine ⟨pk_in t.length 64 (by omega), nm_e ⟨pk_in t.length 64 (by omega), nm_e (nm_e (br_t (by rfl) ⟨pk_in p 256 hp, ?_⟩))⟩⟩
      rw [nI_clamp (jt_p31 hp)]
      refine jt_join hhi hs hp0 hp n1 (by omega) (fun r b1 b2 b4 b7 b8 t1 o hag => ?_)
      refine ih n low r lows (his ++ p :: s) b1 b2 b4 b7 b8 (by omega) (jt_off hlo o n3) t1 (jt_cxF hc' o n2 n4) (jt_wsF w3 (fun j hj => hag j (by omega))) nd hl (fun lo' hi' c1 c2 c4 c7 c8 u1 u2 u3 o2 => ?_)
      refine H lo' hi' c1 c2 c4 c7 c8 (by rw [e3]; exact u1) (by rw [e2]; exact u2) u3 ?_
      rw [e]
      exact jt_ot o o2 o2.1 (fun j hj => List.mem_append_right _ (List.mem_append_right _ (List.mem_append_left _ hj))) (fun _ h => h)
    | true =>
      obtain ⟨⟨hp0, hp, hs⟩, hc'⟩ := hc
      have e : (jt_pre ((p, true, s) :: t) ++ lows) ++ (EX ++ (his ++ jt_pst ((p, true, s) :: t))) = (jt_pre t ++ (s ++ p :: lows)) ++ (EX ++ (his ++ jt_pst t)) := by simp only [jt_pre, jt_pst, List.append_assoc, List.cons_append, List.nil_append]
      have e2 : his ++ jt_pst ((p, true, s) :: t) = his ++ jt_pst t := by simp only [jt_pst]
      have e3 : jt_pre ((p, true, s) :: t) ++ lows = jt_pre t ++ (s ++ p :: lows) := by simp only [jt_pre, List.append_assoc, List.cons_append, List.nil_append]
      rw [e] at nd hl
      obtain ⟨n1, n2, n3, n4⟩ := jt_nd6 nd
      have l1 := jt_ln5 hl
      rw [nI_clamp (show t.length < 2 ^ 31 by omega), w1, w2]
      refine ⟨pk_in t.length 64 (by omega), nm_e ⟨pk_in t.length 64 (by omega), nm_e (nm_e (br_f (by decide) ⟨pk_in p 256 hp, ?_⟩))⟩⟩
      rw [nI_clamp (jt_p31 hp)]
      refine jt_join hs hlo hp0 hp n1 (by omega) (fun r b1 b2 b4 b7 b8 t1 o hag => ?_)
      refine ih n r high (s ++ p :: lows) his b1 b2 b4 b7 b8 (by omega) t1 (jt_off hhi o n3) (jt_cxF hc' o n2 n4) (jt_wsF w3 (fun j hj => hag j (by omega))) nd hl (fun lo' hi' c1 c2 c4 c7 c8 u1 u2 u3 o2 => ?_)
      refine H lo' hi' c1 c2 c4 c7 c8 (by rw [e3]; exact u1) (by rw [e2]; exact u2) u3 ?_
      rw [e]
      exact jt_ot o o2 o2.1 (fun j hj => List.mem_append_left _ (List.mem_append_right _ hj)) (fun _ h => h)

theorem jt_69 {post : St1 → Prop} {x3 : Int32} {EX lows his : List Nat} {st : List (Nat × Bool × List Nat)} (hx : (x3 = nI 0 ∧ EX = [] ∧ lows = [] ∧ his = [] ∧ a4 0 = nI 0) ∨ ∃ e, x3 = nI e ∧ EX = [e] ∧ 0 < e ∧ e < 256 ∧ jt_TR a1 a2 a4 (a1 e) lows ∧ jt_TR a1 a2 a4 (a2 e) his)
    (hc : jt_cx a1 a2 a4 st) (hw : jt_ws a7 a8 0 st) (nd : ((jt_pre st ++ lows) ++ (EX ++ (his ++ jt_pst st))).Nodup) (hl : ((jt_pre st ++ lows) ++ (EX ++ (his ++ jt_pst st))).length ≤ 64)
    (H : ∀ lo' hi' b1 b2 b4 b7 b8, jt_TR b1 b2 b4 lo' (jt_pre st ++ lows) → jt_TR b1 b2 b4 hi' (his ++ jt_pst st) → jt_TR b1 b2 b4 x3 EX → jt_OFF ((jt_pre st ++ lows) ++ (EX ++ (his ++ jt_pst st))) a1 a2 a4 b1 b2 b4 → post (fc, nI 0, lo', hi', x3, b1, b2, a3, b4, a5, a6, b7, b8, a9, a10, a11, a12, a13)) :
    wX_splitTree_69 post x3 fc (nI st.length) lo hi ex a1 a2 a3 a4 a5 a6 a7 a8 a9 a10 a11 a12 a13 := by
  unfold wX_splitTree_69 wX_splitTree_83
  rcases hx with ⟨rfl, rfl, rfl, rfl, c0⟩ | ⟨e, rfl, rfl, he0, he, h1, h2⟩
  · exact br_t rfl (br_t rfl ⟨st.length + 1, jt_101 (Or.inl ⟨rfl, rfl⟩) st _ (nI 0) (nI 0) [] [] a1 a2 a4 a7 a8 (by omega) (jt_nil c0) (jt_nil c0) hc hw nd hl H⟩)
  · rw [nI_clamp (jt_p31 he)]
    exact br_f (nI_ne0 he0 (jt_p31 he)) ⟨pk_in e 256 he, br_f (nI_ne0 he0 (jt_p31 he)) ⟨pk_in e 256 he, nm_e ⟨st.length + 1, jt_101 (Or.inr ⟨e, rfl, rfl, he0, he⟩) st _ (a1 e) (a2 e) lows his a1 a2 a4 a7 a8 (by omega) h1 h2 hc hw nd hl H⟩⟩⟩

theorem jt_7 {post : St1 → Prop} {x : Int32} {ns : List Nat} (sn : (ns.map a3).Pairwise (· < ·)) (nd : ns.Nodup) (hl : ns.length ≤ 64)
    (H : ∀ lo' hi' ex' LS EX RS b1 b2 b4 b7 b8, ns = LS ++ (EX ++ RS) → jt_TR b1 b2 b4 lo' LS → jt_TR b1 b2 b4 hi' RS → jt_TR b1 b2 b4 ex' EX → EX.length ≤ 1 → (∀ j, j ∈ EX → a3 j = x) → (∀ j, j ∈ LS → a3 j < x) → (∀ j, j ∈ RS → x < a3 j) → jt_OFF ns a1 a2 a4 b1 b2 b4 → post (fc, nI 0, lo', hi', ex', b1, b2, a3, b4, a5, a6, b7, b8, a9, a10, a11, a12, a13)) :
    ∀ (n : Nat) (st : List (Nat × Bool × List Nat)) (y : Int32) (cur : List Nat) (a7 a8 : Nat → Int32), cur.length < n → jt_TR a1 a2 a4 y cur → jt_cx a1 a2 a4 st → jt_ws a7 a8 0 st → ns = jt_pre st ++ (cur ++ jt_pst st) → (∀ j, j ∈ jt_pre st → a3 j < x) → (∀ j, j ∈ jt_pst st → x < a3 j) →
    wX_splitTree_7 post x n y fc (nI st.length) lo hi ex a1 a2 a3 a4 a5 a6 a7 a8 a9 a10 a11 a12 a13 := by
  intro n
  induction n with
  | zero => intro st y cur a7 a8 hn; exact absurd hn (by omega)
  | succ n ih =>
    intro st y cur a7 a8 hn hy hc hw hT k1 k2
    have l1 : (jt_pre st).length + cur.length + (jt_pst st).length ≤ 64 := jt_ln3 (by rw [← hT]; exact hl)
    have l2 := jt_stl st
    rcases jt_cs hy with ⟨rfl, e, c0⟩ | ⟨p, ls, rs, rfl, hp0, hp, e1, _, hl1, hr1⟩
    · refine br_t rfl ?_
      subst e
      have eT : ns = (jt_pre st ++ []) ++ ([] ++ ([] ++ jt_pst st)) := by rw [hT]; simp only [List.append_nil, List.nil_append]
      refine jt_69 (EX := []) (lows := []) (his := []) (Or.inl ⟨rfl, rfl, rfl, rfl, c0⟩) hc hw (eT ▸ nd) (by rw [← eT]; exact hl) (fun lo' hi' b1 b2 b4 b7 b8 t1 t2 t3 o => ?_)
      rw [← eT] at o
      refine H lo' hi' _ (jt_pre st ++ []) [] ([] ++ jt_pst st) b1 b2 b4 b7 b8 (by rw [eT]) t1 t2 t3 (by simp) (by simp) (by simpa using k1) (by simpa using k2) o
    · subst e1
      have sc := jt_sr1 (jt_sr3 (hT ▸ sn))
      have hmid := jt_nd3 (hT ▸ nd)
      refine br_f (nI_ne0 hp0 (jt_p31 hp)) ⟨pk_in p 256 hp, ?_⟩
      rw [nI_clamp (jt_p31 hp)]
      rw [jt_len] at hn l1
      refine br_c (fun g => ?_) (fun g => ⟨pk_in p 256 hp, br_c (fun g2 => ?_) (fun g2 => ?_)⟩)
      · have eT : ns = (jt_pre st ++ ls) ++ ([p] ++ (rs ++ jt_pst st)) := by rw [hT]; simp only [List.append_assoc, List.cons_append, List.nil_append]
        refine jt_69 (EX := [p]) (lows := ls) (his := rs) (Or.inr ⟨p, rfl, rfl, hp0, hp, hl1, hr1⟩) hc hw (eT ▸ nd) (by rw [← eT]; exact hl) (fun lo' hi' b1 b2 b4 b7 b8 t1 t2 t3 o => ?_)
        rw [← eT] at o
        refine H lo' hi' _ (jt_pre st ++ ls) [p] (rs ++ jt_pst st) b1 b2 b4 b7 b8 eT t1 t2 t3 (by simp) (by intro j hj; simp at hj; rw [hj]; exact g) (fun j hj => ?_) (fun j hj => ?_) o
        · rcases List.mem_append.mp hj with hj | hj
          · exact k1 j hj
          · rw [← g]; exact sc.1 j hj
        · rcases List.mem_append.mp hj with hj | hj
          · rw [← g]; exact sc.2.1 j hj
          · exact k2 j hj
      · unfold wX_splitTree_36
        try rw [jt_push2]
        refine jt_push (by omega) hp jt_v0 ?_
        refine br_t rfl ?_
        rw [nI_clamp (jt_p31 hp)]
        refine ⟨pk_in p 256 hp, nm_e ?_⟩
        have hx : x < a3 p := jt_lt3 g2 g
        have hw' := jt_wsP (p := p) (b := false) (s := rs) hw (v := 0) rfl
        rw [Nat.zero_add] at hw'
        refine ih ((p, false, rs) :: st) (a1 p) ls _ _ (by omega) hl1 ⟨⟨hp0, hp, hr1⟩, hc⟩ hw' ?_ (fun j hj => k1 j hj) (fun j hj => ?_)
        · rw [hT]
          simp only [jt_pre, jt_pst, List.append_assoc, List.cons_append]
        · simp only [jt_pst, List.mem_append, List.mem_cons] at hj
          rcases hj with (hj | hj) | hj
          · rw [hj]; exact hx
          · exact jt_lt1 hx (sc.2.1 j hj)
          · exact k2 j hj
      · unfold wX_splitTree_36
        try rw [jt_push2]
        refine jt_push (by omega) hp jt_v1 ?_
        refine br_f (by decide) ?_
        rw [nI_clamp (jt_p31 hp)]
        refine ⟨pk_in p 256 hp, nm_e ?_⟩
        have hx : a3 p < x := jt_lt2 g2
        have hw' := jt_wsP (p := p) (b := true) (s := ls) hw (v := 1) rfl
        rw [Nat.zero_add] at hw'
        refine ih ((p, true, ls) :: st) (a2 p) rs _ _ (by omega) hr1 ⟨⟨hp0, hp, hl1⟩, hc⟩ hw' ?_ (fun j hj => ?_) (fun j hj => k2 j hj)
        · rw [hT]
          simp only [jt_pre, jt_pst, List.append_assoc, List.cons_append, List.nil_append]
        · simp only [jt_pre, List.mem_append, List.mem_singleton] at hj
          rcases hj with hj | hj | hj
          · exact k1 j hj
          · exact jt_lt1 (sc.1 j hj) hx
          · rw [hj]; exact hx

theorem jt_split {post : St1 → Prop} {x y : Int32} {ns : List Nat} (hy : jt_TR a1 a2 a4 y ns) (sn : (ns.map a3).Pairwise (· < ·)) (nd : ns.Nodup) (hl : ns.length ≤ 64)
    (H : ∀ lo' hi' ex' LS EX RS b1 b2 b4 b7 b8, ns = LS ++ (EX ++ RS) → jt_TR b1 b2 b4 lo' LS → jt_TR b1 b2 b4 hi' RS → jt_TR b1 b2 b4 ex' EX → EX.length ≤ 1 → (∀ j, j ∈ EX → a3 j = x) → (∀ j, j ∈ LS → a3 j < x) → (∀ j, j ∈ RS → x < a3 j) → jt_OFF ns a1 a2 a4 b1 b2 b4 → post (fc, nI 0, lo', hi', ex', b1, b2, a3, b4, a5, a6, b7, b8, a9, a10, a11, a12, a13)) :
    wpX_splitTree post (fc, we, lo, hi, ex, a1, a2, a3, a4, a5, a6, a7, a8, a9, a10, a11, a12, a13) y x := by
  unfold wpX_splitTree
  exact ⟨ns.length + 1, jt_7 sn nd hl H _ [] y ns a7 a8 (by omega) hy trivial trivial (by simp only [jt_pre, jt_pst, List.nil_append, List.append_nil]) (by simp [jt_pre]) (by simp [jt_pst])⟩

theorem jt_j8 {post : Int32 → St1 → Prop} {a b : Int32} {as bs : List Nat} (ha : jt_TR a1 a2 a4 a as) (hb : jt_TR a1 a2 a4 b bs) (sn : (as.map a3).Pairwise (· < ·)) (nd : (as ++ bs).Nodup) (hl : (as ++ bs).length ≤ 64)
    (H : ∀ r we lo hi ex b1 b2 b4 b7 b8, jt_TR b1 b2 b4 r (as ++ bs) → jt_OFF (as ++ bs) a1 a2 a4 b1 b2 b4 → post r (fc, we, lo, hi, ex, b1, b2, a3, b4, a5, a6, b7, b8, a9, a10, a11, a12, a13)) :
    ∀ (n : Nat) (x : Int32) (pr cur : List Nat), cur.length ≤ n → 1 ≤ cur.length → jt_TR a1 a2 a4 x cur → as = pr ++ cur → wX_joinTwo_8 post a b fc we lo hi ex a1 a2 a3 a4 a5 a6 a7 a8 a9 a10 a11 a12 a13 n x := by
  intro n
  induction n with
  | zero => intro x pr cur h1 h2; exact absurd h2 (by omega)
  | succ n ih =>
    intro x pr cur h1 h2 hx hT
    rcases jt_cs hx with ⟨_, e, _⟩ | ⟨p, ls, rs, rfl, hp0, hp, e1, _, hl1, hr1⟩
    · rw [e] at h2; exact absurd h2 (by simp)
    · subst e1
      unfold wX_joinTwo_8
      rw [nI_clamp (jt_p31 hp)]
      refine ⟨pk_in p 256 hp, br_c (fun g => ⟨pk_in p 256 hp, ?_⟩) (fun g => ⟨pk_in p 256 hp, nm_e ?_⟩)⟩
      · have r0 : rs = [] := by
          rcases jt_cs hr1 with ⟨_, e, _⟩ | ⟨q, _, _, e, q0, q1, _⟩
          · exact e
          · rw [e] at g; exact absurd g (nI_ne0 q0 (jt_p31 q1))
        subst r0
        have eA : as = (pr ++ ls) ++ p :: [] := by rw [hT]; simp only [List.append_assoc]
        have sA := jt_sr1 (eA ▸ sn)
        have nd1 : as.Nodup ∧ bs.Nodup ∧ (∀ j, j ∈ as → j ∉ bs) ∧ (∀ j, j ∈ bs → j ∉ as) := by grind
        have hl2 : as.length + bs.length ≤ 64 := by simpa only [List.length_append] using hl
        refine jt_split ha sn nd1.1 (by omega) (fun lo' hi' ex' LS EX RS b1 b2 b4 b7 b8 e t1 t2 t3 hE k0 k1 k2 o => ?_)
        have hmax : ∀ j, j ∈ as → ¬ a3 p < a3 j := by
          intro j hj hlt
          rw [eA] at hj
          rcases List.mem_append.mp hj with hj | hj
          · exact jt_lt4 (jt_lt1 hlt (sA.1 j hj))
          · simp at hj; rw [hj] at hlt; exact jt_lt4 hlt
        have rs0 : RS = [] := by
          cases RS with
          | nil => rfl
          | cons j t => exact absurd (k2 j (by simp)) (hmax j (by rw [e]; simp))
        subst rs0
        have pin : p ∈ LS ++ (EX ++ []) := by rw [← e, eA]; simp
        have pE : p ∈ EX := by
          rcases List.mem_append.mp pin with z | z
          · exact absurd (k1 p z) (fun z => jt_lt4 z)
          · simpa using z
        rcases jt_one t3 hE with ⟨_, z⟩ | ⟨q, rfl, rfl, q0, q1⟩
        · rw [z] at pE; exact absurd pE (by simp)
        · have e' : as ++ bs = LS ++ q :: bs := by rw [e]; simp only [List.append_assoc, List.cons_append, List.nil_append, List.append_nil]
          have hb2 := jt_off hb o nd1.2.2.2
          rw [e'] at H nd hl
          refine jt_join t1 hb2 q0 q1 nd (by omega) (fun r c1 c2 c4 c7 c8 t4 o4 _ => ?_)
          refine H r _ _ _ _ c1 c2 c4 c7 c8 t4 (jt_ot o o4 (jt_n0 t4) (fun j hj => ?_) (fun _ h => h))
          rw [← e']
          exact List.mem_append_left _ hj
      · have r1 : 1 ≤ rs.length := by
          rcases jt_cs hr1 with ⟨e, _, _⟩ | ⟨q, l1, l2, _, _, _, e, _⟩
          · exact absurd e g
          · rw [e, jt_len]; omega
        rw [jt_len] at h1
        exact ih (a2 p) (pr ++ (ls ++ [p])) rs (by omega) r1 hr1 (by rw [hT]; simp only [List.append_assoc, List.cons_append, List.nil_append])

theorem jt_join0 {post : Int32 → St1 → Prop} {a b : Int32} {as bs : List Nat} (ha : jt_TR a1 a2 a4 a as) (hb : jt_TR a1 a2 a4 b bs) (sn : (as.map a3).Pairwise (· < ·)) (nd : (as ++ bs).Nodup) (hl : (as ++ bs).length ≤ 64)
    (H : ∀ r we lo hi ex b1 b2 b4 b7 b8, jt_TR b1 b2 b4 r (as ++ bs) → jt_OFF (as ++ bs) a1 a2 a4 b1 b2 b4 → post r (fc, we, lo, hi, ex, b1, b2, a3, b4, a5, a6, b7, b8, a9, a10, a11, a12, a13)) :
    wpX_joinTwo post (fc, we, lo, hi, ex, a1, a2, a3, a4, a5, a6, a7, a8, a9, a10, a11, a12, a13) a b := by
  unfold wpX_joinTwo
  rcases jt_cs ha with ⟨rfl, e, _⟩ | ⟨p, ls, rs, rfl, hp0, hp, e1, _, hl1, hr1⟩
  · subst e
    exact br_t rfl (H b _ _ _ _ a1 a2 a4 a7 a8 hb (jt_or (jt_n0 hb)))
  · exact br_f (nI_ne0 hp0 (jt_p31 hp)) ⟨as.length, jt_j8 ha hb sn nd hl H as.length (nI p) [] as (Nat.le_refl _) (by rw [e1, jt_len]; omega) ha rfl⟩
theorem jt_101_2 {post : St1 → Prop} {x3 : Int32} {EX : List Nat} (hE : (x3 = nI 0 ∧ EX = []) ∨ ∃ e, x3 = nI e ∧ EX = [e] ∧ 0 < e ∧ e < 256) (st : List (Nat × Bool × List Nat)) :
    ∀ (n : Nat) (low high : Int32) (lows his : List Nat) (a1 a2 a4 a7 a8 : Nat → Int32), st.length < n → jt_TR a1 a2 a4 low lows → jt_TR a1 a2 a4 high his → jt_cx a1 a2 a4 st → jt_ws a7 a8 0 st →
    ((jt_pre st ++ lows) ++ (EX ++ (his ++ jt_pst st))).Nodup → ((jt_pre st ++ lows) ++ (EX ++ (his ++ jt_pst st))).length ≤ 64 →
    (∀ lo' hi' b1 b2 b4 b7 b8, jt_TR b1 b2 b4 lo' (jt_pre st ++ lows) → jt_TR b1 b2 b4 hi' (his ++ jt_pst st) → jt_TR b1 b2 b4 x3 EX → jt_OFF ((jt_pre st ++ lows) ++ (EX ++ (his ++ jt_pst st))) a1 a2 a4 b1 b2 b4 → post (fc, nI 0, lo', hi', x3, b1, b2, a3, b4, a5, a6, b7, b8, a9, a10, a11, a12, a13)) →
    wX_splitTree_2_101 post x3 n low high fc (nI st.length) lo hi ex a1 a2 a3 a4 a5 a6 a7 a8 a9 a10 a11 a12 a13 := by
  induction st with
  | nil =>
    intro n low high lows his a1 a2 a4 a7 a8 hn hlo hhi hc hw nd hl H
    obtain ⟨n, rfl⟩ : ∃ m, n = m + 1 := ⟨n - 1, by simp only [List.length_nil] at hn; omega⟩
    simp only [jt_pre, jt_pst, List.nil_append, List.append_nil] at H nd
    have c0 := jt_c0 hlo
    refine pk_le 0 0 (fun _ => ?_) (fun g => absurd g (by omega))
    rcases hE with ⟨rfl, rfl⟩ | ⟨e, rfl, rfl, he0, he⟩
    · refine br_t rfl (H low high a1 a2 a4 a7 a8 hlo hhi (jt_nil c0) (jt_or ?_))
      have q1 := jt_n0 hlo
      have q2 := jt_n0 hhi
      simp [q1, q2]
    · have hd := jt_nd7 nd
      refine br_f (nI_ne0 he0 (jt_p31 he)) ?_
      rw [nI_clamp (jt_p31 he)]
      refine ⟨pk_in e 256 he, nm_e ⟨pk_in e 256 he, nm_e ⟨pk_in e 256 he, nm_e ?_⟩⟩⟩
      have o : jt_OFF [e] a1 a2 a4 (upd a1 e 0) (upd a2 e 0) (upd a4 e 1) := jt_ou he0 (fun j hj => ⟨pk_un hj, pk_un hj, pk_un hj⟩)
      have c1 : upd a4 e 1 0 = nI 0 := by rw [pk_un (by omega)]; exact c0
      have t : jt_TR (upd a1 e 0) (upd a2 e 0) (upd a4 e 1) (nI e) ([] ++ e :: []) :=
        jt_node he0 he pk_us (by rw [pk_us]; exact jt_nil c1) (by rw [pk_us]; exact jt_nil c1)
      have q1 := jt_n0 hlo
      have q2 := jt_n0 hhi
      have q3 : (0 : Nat) ≠ e := by omega
      exact H low high _ _ _ a7 a8 (jt_off1 hlo o hd.1) (jt_off1 hhi o hd.2) t (jt_om o (by simp [q1, q2, q3]) (by intro j hj; simp at hj; simp [hj]))
  | cons q t ih =>
    obtain ⟨p, b, s⟩ := q
    intro n low high lows his a1 a2 a4 a7 a8 hn hlo hhi hc hw nd hl H
    obtain ⟨n, rfl⟩ : ∃ m, n = m + 1 := ⟨n - 1, by omega⟩
    obtain ⟨w1, w2, w3⟩ := hw
    rw [Nat.zero_add] at w1 w2
    simp only [List.length_cons] at hn
    have l2 := jt_stl t
    have l3 : t.length + 1 ≤ 64 := by
      have l4 := jt_stl ((p, b, s) :: t)
      have l5 := jt_ln5 hl
      rw [List.length_cons] at l4
      omega
    refine pk_le (t.length + 1) 0 (fun g => absurd g (by omega)) (fun _ => ?_)
    rw [show nI ((p, b, s) :: t).length - 1 = nI t.length from nI_pred t.length]
    cases b with
    | false =>
      obtain ⟨⟨hp0, hp, hs⟩, hc'⟩ := hc
      have e : (jt_pre ((p, false, s) :: t) ++ lows) ++ (EX ++ (his ++ jt_pst ((p, false, s) :: t))) = (jt_pre t ++ lows) ++ (EX ++ ((his ++ p :: s) ++ jt_pst t)) := by simp only [jt_pre, jt_pst, List.append_assoc, List.cons_append]
      have e2 : his ++ jt_pst ((p, false, s) :: t) = (his ++ p :: s) ++ jt_pst t := by simp only [jt_pst, List.append_assoc, List.cons_append]
      have e3 : jt_pre ((p, false, s) :: t) ++ lows = jt_pre t ++ lows := by simp only [jt_pre]
      rw [e] at nd hl
      obtain ⟨n1, n2, n3, n4⟩ := jt_nd5 nd
      have l1 := jt_ln5 hl
      rw [nI_clamp (show t.length < 2 ^ 31 by omega), w1, w2]
      refine ⟨pk_in t.length 64 (by omega), nm_e ⟨pk_in t.length 64 (by omega), nm_e (nm_e (br_t (by rfl) ⟨pk_in p 256 hp, ?_⟩))⟩⟩
      rw [nI_clamp (jt_p31 hp)]
      refine jt_join_2 hhi hs hp0 hp n1 (by omega) (fun r b1 b2 b4 b7 b8 t1 o hag => ?_)
      refine ih n low r lows (his ++ p :: s) b1 b2 b4 b7 b8 (by omega) (jt_off hlo o n3) t1 (jt_cxF hc' o n2 n4) (jt_wsF w3 (fun j hj => hag j (by omega))) nd hl (fun lo' hi' c1 c2 c4 c7 c8 u1 u2 u3 o2 => ?_)
      refine H lo' hi' c1 c2 c4 c7 c8 (by rw [e3]; exact u1) (by rw [e2]; exact u2) u3 ?_
      rw [e]
      exact jt_ot o o2 o2.1 (fun j hj => List.mem_append_right _ (List.mem_append_right _ (List.mem_append_left _ hj))) (fun _ h => h)
    | true =>
      obtain ⟨⟨hp0, hp, hs⟩, hc'⟩ := hc
      have e : (jt_pre ((p, true, s) :: t) ++ lows) ++ (EX ++ (his ++ jt_pst ((p, true, s) :: t))) = (jt_pre t ++ (s ++ p :: lows)) ++ (EX ++ (his ++ jt_pst t)) := by simp only [jt_pre, jt_pst, List.append_assoc, List.cons_append, List.nil_append]
      have e2 : his ++ jt_pst ((p, true, s) :: t) = his ++ jt_pst t := by simp only [jt_pst]
      have e3 : jt_pre ((p, true, s) :: t) ++ lows = jt_pre t ++ (s ++ p :: lows) := by simp only [jt_pre, List.append_assoc, List.cons_append, List.nil_append]
      rw [e] at nd hl
      obtain ⟨n1, n2, n3, n4⟩ := jt_nd6 nd
      have l1 := jt_ln5 hl
      rw [nI_clamp (show t.length < 2 ^ 31 by omega), w1, w2]
      refine ⟨pk_in t.length 64 (by omega), nm_e ⟨pk_in t.length 64 (by omega), nm_e (nm_e (br_f (by decide) ⟨pk_in p 256 hp, ?_⟩))⟩⟩
      rw [nI_clamp (jt_p31 hp)]
      refine jt_join_2 hs hlo hp0 hp n1 (by omega) (fun r b1 b2 b4 b7 b8 t1 o hag => ?_)
      refine ih n r high (s ++ p :: lows) his b1 b2 b4 b7 b8 (by omega) t1 (jt_off hhi o n3) (jt_cxF hc' o n2 n4) (jt_wsF w3 (fun j hj => hag j (by omega))) nd hl (fun lo' hi' c1 c2 c4 c7 c8 u1 u2 u3 o2 => ?_)
      refine H lo' hi' c1 c2 c4 c7 c8 (by rw [e3]; exact u1) (by rw [e2]; exact u2) u3 ?_
      rw [e]
      exact jt_ot o o2 o2.1 (fun j hj => List.mem_append_left _ (List.mem_append_right _ hj)) (fun _ h => h)

theorem jt_69_2 {post : St1 → Prop} {x3 : Int32} {EX lows his : List Nat} {st : List (Nat × Bool × List Nat)} (hx : (x3 = nI 0 ∧ EX = [] ∧ lows = [] ∧ his = [] ∧ a4 0 = nI 0) ∨ ∃ e, x3 = nI e ∧ EX = [e] ∧ 0 < e ∧ e < 256 ∧ jt_TR a1 a2 a4 (a1 e) lows ∧ jt_TR a1 a2 a4 (a2 e) his)
    (hc : jt_cx a1 a2 a4 st) (hw : jt_ws a7 a8 0 st) (nd : ((jt_pre st ++ lows) ++ (EX ++ (his ++ jt_pst st))).Nodup) (hl : ((jt_pre st ++ lows) ++ (EX ++ (his ++ jt_pst st))).length ≤ 64)
    (H : ∀ lo' hi' b1 b2 b4 b7 b8, jt_TR b1 b2 b4 lo' (jt_pre st ++ lows) → jt_TR b1 b2 b4 hi' (his ++ jt_pst st) → jt_TR b1 b2 b4 x3 EX → jt_OFF ((jt_pre st ++ lows) ++ (EX ++ (his ++ jt_pst st))) a1 a2 a4 b1 b2 b4 → post (fc, nI 0, lo', hi', x3, b1, b2, a3, b4, a5, a6, b7, b8, a9, a10, a11, a12, a13)) :
    wX_splitTree_2_69 post x3 fc (nI st.length) lo hi ex a1 a2 a3 a4 a5 a6 a7 a8 a9 a10 a11 a12 a13 := by
  unfold wX_splitTree_2_69 wX_splitTree_2_83
  rcases hx with ⟨rfl, rfl, rfl, rfl, c0⟩ | ⟨e, rfl, rfl, he0, he, h1, h2⟩
  · exact br_t rfl (br_t rfl ⟨st.length + 1, jt_101_2 (Or.inl ⟨rfl, rfl⟩) st _ (nI 0) (nI 0) [] [] a1 a2 a4 a7 a8 (by omega) (jt_nil c0) (jt_nil c0) hc hw nd hl H⟩)
  · rw [nI_clamp (jt_p31 he)]
    exact br_f (nI_ne0 he0 (jt_p31 he)) ⟨pk_in e 256 he, br_f (nI_ne0 he0 (jt_p31 he)) ⟨pk_in e 256 he, nm_e ⟨st.length + 1, jt_101_2 (Or.inr ⟨e, rfl, rfl, he0, he⟩) st _ (a1 e) (a2 e) lows his a1 a2 a4 a7 a8 (by omega) h1 h2 hc hw nd hl H⟩⟩⟩

theorem jt_7_2 {post : St1 → Prop} {x : Int32} {ns : List Nat} (sn : (ns.map a3).Pairwise (· < ·)) (nd : ns.Nodup) (hl : ns.length ≤ 64)
    (H : ∀ lo' hi' ex' LS EX RS b1 b2 b4 b7 b8, ns = LS ++ (EX ++ RS) → jt_TR b1 b2 b4 lo' LS → jt_TR b1 b2 b4 hi' RS → jt_TR b1 b2 b4 ex' EX → EX.length ≤ 1 → (∀ j, j ∈ EX → a3 j = x) → (∀ j, j ∈ LS → a3 j < x) → (∀ j, j ∈ RS → x < a3 j) → jt_OFF ns a1 a2 a4 b1 b2 b4 → post (fc, nI 0, lo', hi', ex', b1, b2, a3, b4, a5, a6, b7, b8, a9, a10, a11, a12, a13)) :
    ∀ (n : Nat) (st : List (Nat × Bool × List Nat)) (y : Int32) (cur : List Nat) (a7 a8 : Nat → Int32), cur.length < n → jt_TR a1 a2 a4 y cur → jt_cx a1 a2 a4 st → jt_ws a7 a8 0 st → ns = jt_pre st ++ (cur ++ jt_pst st) → (∀ j, j ∈ jt_pre st → a3 j < x) → (∀ j, j ∈ jt_pst st → x < a3 j) →
    wX_splitTree_2_7 post x n y fc (nI st.length) lo hi ex a1 a2 a3 a4 a5 a6 a7 a8 a9 a10 a11 a12 a13 := by
  intro n
  induction n with
  | zero => intro st y cur a7 a8 hn; exact absurd hn (by omega)
  | succ n ih =>
    intro st y cur a7 a8 hn hy hc hw hT k1 k2
    have l1 : (jt_pre st).length + cur.length + (jt_pst st).length ≤ 64 := jt_ln3 (by rw [← hT]; exact hl)
    have l2 := jt_stl st
    rcases jt_cs hy with ⟨rfl, e, c0⟩ | ⟨p, ls, rs, rfl, hp0, hp, e1, _, hl1, hr1⟩
    · refine br_t rfl ?_
      subst e
      have eT : ns = (jt_pre st ++ []) ++ ([] ++ ([] ++ jt_pst st)) := by rw [hT]; simp only [List.append_nil, List.nil_append]
      refine jt_69_2 (EX := []) (lows := []) (his := []) (Or.inl ⟨rfl, rfl, rfl, rfl, c0⟩) hc hw (eT ▸ nd) (by rw [← eT]; exact hl) (fun lo' hi' b1 b2 b4 b7 b8 t1 t2 t3 o => ?_)
      rw [← eT] at o
      refine H lo' hi' _ (jt_pre st ++ []) [] ([] ++ jt_pst st) b1 b2 b4 b7 b8 (by rw [eT]) t1 t2 t3 (by simp) (by simp) (by simpa using k1) (by simpa using k2) o
    · subst e1
      have sc := jt_sr1 (jt_sr3 (hT ▸ sn))
      have hmid := jt_nd3 (hT ▸ nd)
      refine br_f (nI_ne0 hp0 (jt_p31 hp)) ⟨pk_in p 256 hp, ?_⟩
      rw [nI_clamp (jt_p31 hp)]
      rw [jt_len] at hn l1
      refine br_c (fun g => ?_) (fun g => ⟨pk_in p 256 hp, br_c (fun g2 => ?_) (fun g2 => ?_)⟩)
      · have eT : ns = (jt_pre st ++ ls) ++ ([p] ++ (rs ++ jt_pst st)) := by rw [hT]; simp only [List.append_assoc, List.cons_append, List.nil_append]
        refine jt_69_2 (EX := [p]) (lows := ls) (his := rs) (Or.inr ⟨p, rfl, rfl, hp0, hp, hl1, hr1⟩) hc hw (eT ▸ nd) (by rw [← eT]; exact hl) (fun lo' hi' b1 b2 b4 b7 b8 t1 t2 t3 o => ?_)
        rw [← eT] at o
        refine H lo' hi' _ (jt_pre st ++ ls) [p] (rs ++ jt_pst st) b1 b2 b4 b7 b8 eT t1 t2 t3 (by simp) (by intro j hj; simp at hj; rw [hj]; exact g) (fun j hj => ?_) (fun j hj => ?_) o
        · rcases List.mem_append.mp hj with hj | hj
          · exact k1 j hj
          · rw [← g]; exact sc.1 j hj
        · rcases List.mem_append.mp hj with hj | hj
          · rw [← g]; exact sc.2.1 j hj
          · exact k2 j hj
      · unfold wX_splitTree_2_36
        try rw [jt_push2]
        refine jt_push (by omega) hp jt_v0 ?_
        refine br_t rfl ?_
        rw [nI_clamp (jt_p31 hp)]
        refine ⟨pk_in p 256 hp, nm_e ?_⟩
        have hx : x < a3 p := jt_lt3 g2 g
        have hw' := jt_wsP (p := p) (b := false) (s := rs) hw (v := 0) rfl
        rw [Nat.zero_add] at hw'
        refine ih ((p, false, rs) :: st) (a1 p) ls _ _ (by omega) hl1 ⟨⟨hp0, hp, hr1⟩, hc⟩ hw' ?_ (fun j hj => k1 j hj) (fun j hj => ?_)
        · rw [hT]
          simp only [jt_pre, jt_pst, List.append_assoc, List.cons_append]
        · simp only [jt_pst, List.mem_append, List.mem_cons] at hj
          rcases hj with (hj | hj) | hj
          · rw [hj]; exact hx
          · exact jt_lt1 hx (sc.2.1 j hj)
          · exact k2 j hj
      · unfold wX_splitTree_2_36
        try rw [jt_push2]
        refine jt_push (by omega) hp jt_v1 ?_
        refine br_f (by decide) ?_
        rw [nI_clamp (jt_p31 hp)]
        refine ⟨pk_in p 256 hp, nm_e ?_⟩
        have hx : a3 p < x := jt_lt2 g2
        have hw' := jt_wsP (p := p) (b := true) (s := ls) hw (v := 1) rfl
        rw [Nat.zero_add] at hw'
        refine ih ((p, true, ls) :: st) (a2 p) rs _ _ (by omega) hr1 ⟨⟨hp0, hp, hl1⟩, hc⟩ hw' ?_ (fun j hj => ?_) (fun j hj => k2 j hj)
        · rw [hT]
          simp only [jt_pre, jt_pst, List.append_assoc, List.cons_append, List.nil_append]
        · simp only [jt_pre, List.mem_append, List.mem_singleton] at hj
          rcases hj with hj | hj | hj
          · exact k1 j hj
          · exact jt_lt1 (sc.1 j hj) hx
          · rw [hj]; exact hx

theorem jt_split_2 {post : St1 → Prop} {x y : Int32} {ns : List Nat} (hy : jt_TR a1 a2 a4 y ns) (sn : (ns.map a3).Pairwise (· < ·)) (nd : ns.Nodup) (hl : ns.length ≤ 64)
    (H : ∀ lo' hi' ex' LS EX RS b1 b2 b4 b7 b8, ns = LS ++ (EX ++ RS) → jt_TR b1 b2 b4 lo' LS → jt_TR b1 b2 b4 hi' RS → jt_TR b1 b2 b4 ex' EX → EX.length ≤ 1 → (∀ j, j ∈ EX → a3 j = x) → (∀ j, j ∈ LS → a3 j < x) → (∀ j, j ∈ RS → x < a3 j) → jt_OFF ns a1 a2 a4 b1 b2 b4 → post (fc, nI 0, lo', hi', ex', b1, b2, a3, b4, a5, a6, b7, b8, a9, a10, a11, a12, a13)) :
    wpX_splitTree_2 post (fc, we, lo, hi, ex, a1, a2, a3, a4, a5, a6, a7, a8, a9, a10, a11, a12, a13) y x := by
  unfold wpX_splitTree_2
  exact ⟨ns.length + 1, jt_7_2 sn nd hl H _ [] y ns a7 a8 (by omega) hy trivial trivial (by simp only [jt_pre, jt_pst, List.nil_append, List.append_nil]) (by simp [jt_pre]) (by simp [jt_pst])⟩

theorem jt_j8_2 {post : Int32 → St1 → Prop} {a b : Int32} {as bs : List Nat} (ha : jt_TR a1 a2 a4 a as) (hb : jt_TR a1 a2 a4 b bs) (sn : (as.map a3).Pairwise (· < ·)) (nd : (as ++ bs).Nodup) (hl : (as ++ bs).length ≤ 64)
    (H : ∀ r we lo hi ex b1 b2 b4 b7 b8, jt_TR b1 b2 b4 r (as ++ bs) → jt_OFF (as ++ bs) a1 a2 a4 b1 b2 b4 → post r (fc, we, lo, hi, ex, b1, b2, a3, b4, a5, a6, b7, b8, a9, a10, a11, a12, a13)) :
    ∀ (n : Nat) (x : Int32) (pr cur : List Nat), cur.length ≤ n → 1 ≤ cur.length → jt_TR a1 a2 a4 x cur → as = pr ++ cur → wX_joinTwo_2_8 post a b fc we lo hi ex a1 a2 a3 a4 a5 a6 a7 a8 a9 a10 a11 a12 a13 n x := by
  intro n
  induction n with
  | zero => intro x pr cur h1 h2; exact absurd h2 (by omega)
  | succ n ih =>
    intro x pr cur h1 h2 hx hT
    rcases jt_cs hx with ⟨_, e, _⟩ | ⟨p, ls, rs, rfl, hp0, hp, e1, _, hl1, hr1⟩
    · rw [e] at h2; exact absurd h2 (by simp)
    · subst e1
      unfold wX_joinTwo_2_8
      rw [nI_clamp (jt_p31 hp)]
      refine ⟨pk_in p 256 hp, br_c (fun g => ⟨pk_in p 256 hp, ?_⟩) (fun g => ⟨pk_in p 256 hp, nm_e ?_⟩)⟩
      · have r0 : rs = [] := by
          rcases jt_cs hr1 with ⟨_, e, _⟩ | ⟨q, _, _, e, q0, q1, _⟩
          · exact e
          · rw [e] at g; exact absurd g (nI_ne0 q0 (jt_p31 q1))
        subst r0
        have eA : as = (pr ++ ls) ++ p :: [] := by rw [hT]; simp only [List.append_assoc]
        have sA := jt_sr1 (eA ▸ sn)
        have nd1 : as.Nodup ∧ bs.Nodup ∧ (∀ j, j ∈ as → j ∉ bs) ∧ (∀ j, j ∈ bs → j ∉ as) := by grind
        have hl2 : as.length + bs.length ≤ 64 := by simpa only [List.length_append] using hl
        refine jt_split_2 ha sn nd1.1 (by omega) (fun lo' hi' ex' LS EX RS b1 b2 b4 b7 b8 e t1 t2 t3 hE k0 k1 k2 o => ?_)
        have hmax : ∀ j, j ∈ as → ¬ a3 p < a3 j := by
          intro j hj hlt
          rw [eA] at hj
          rcases List.mem_append.mp hj with hj | hj
          · exact jt_lt4 (jt_lt1 hlt (sA.1 j hj))
          · simp at hj; rw [hj] at hlt; exact jt_lt4 hlt
        have rs0 : RS = [] := by
          cases RS with
          | nil => rfl
          | cons j t => exact absurd (k2 j (by simp)) (hmax j (by rw [e]; simp))
        subst rs0
        have pin : p ∈ LS ++ (EX ++ []) := by rw [← e, eA]; simp
        have pE : p ∈ EX := by
          rcases List.mem_append.mp pin with z | z
          · exact absurd (k1 p z) (fun z => jt_lt4 z)
          · simpa using z
        rcases jt_one t3 hE with ⟨_, z⟩ | ⟨q, rfl, rfl, q0, q1⟩
        · rw [z] at pE; exact absurd pE (by simp)
        · have e' : as ++ bs = LS ++ q :: bs := by rw [e]; simp only [List.append_assoc, List.cons_append, List.nil_append, List.append_nil]
          have hb2 := jt_off hb o nd1.2.2.2
          rw [e'] at H nd hl
          refine jt_join_2 t1 hb2 q0 q1 nd (by omega) (fun r c1 c2 c4 c7 c8 t4 o4 _ => ?_)
          refine H r _ _ _ _ c1 c2 c4 c7 c8 t4 (jt_ot o o4 (jt_n0 t4) (fun j hj => ?_) (fun _ h => h))
          rw [← e']
          exact List.mem_append_left _ hj
      · have r1 : 1 ≤ rs.length := by
          rcases jt_cs hr1 with ⟨e, _, _⟩ | ⟨q, l1, l2, _, _, _, e, _⟩
          · exact absurd e g
          · rw [e, jt_len]; omega
        rw [jt_len] at h1
        exact ih (a2 p) (pr ++ (ls ++ [p])) rs (by omega) r1 hr1 (by rw [hT]; simp only [List.append_assoc, List.cons_append, List.nil_append])

theorem jt_join0_2 {post : Int32 → St1 → Prop} {a b : Int32} {as bs : List Nat} (ha : jt_TR a1 a2 a4 a as) (hb : jt_TR a1 a2 a4 b bs) (sn : (as.map a3).Pairwise (· < ·)) (nd : (as ++ bs).Nodup) (hl : (as ++ bs).length ≤ 64)
    (H : ∀ r we lo hi ex b1 b2 b4 b7 b8, jt_TR b1 b2 b4 r (as ++ bs) → jt_OFF (as ++ bs) a1 a2 a4 b1 b2 b4 → post r (fc, we, lo, hi, ex, b1, b2, a3, b4, a5, a6, b7, b8, a9, a10, a11, a12, a13)) :
    wpX_joinTwo_2 post (fc, we, lo, hi, ex, a1, a2, a3, a4, a5, a6, a7, a8, a9, a10, a11, a12, a13) a b := by
  unfold wpX_joinTwo_2
  rcases jt_cs ha with ⟨rfl, e, _⟩ | ⟨p, ls, rs, rfl, hp0, hp, e1, _, hl1, hr1⟩
  · subst e
    exact br_t rfl (H b _ _ _ _ a1 a2 a4 a7 a8 hb (jt_or (jt_n0 hb)))
  · exact br_f (nI_ne0 hp0 (jt_p31 hp)) ⟨as.length, jt_j8_2 ha hb sn nd hl H as.length (nI p) [] as (Nat.le_refl _) (by rw [e1, jt_len]; omega) ha rfl⟩
end
end
section
section
theorem jt_pm1 {f2 f1 ls rs fl : List Nat} {p : Nat} (h1 : f2.Perm (ls ++ f1)) (h2 : f1.Perm (rs ++ ([p] ++ fl))) : f2.Perm ((ls ++ p :: rs) ++ fl) := by
  rw [List.perm_iff_count]
  intro a
  have e1 := h1.count_eq a
  have e2 := h2.count_eq a
  simp only [List.count_append, List.count_cons, List.count_nil] at *
  omega

variable {fc we lo hi ex : Int32} {a1 a2 a3 a4 a5 a6 a7 a8 a9 a10 a11 a12 a13 : Nat → Int32}

theorem jt_release {post : St1 → Prop} {x : Int32} {EX fl : List Nat} (hx : (x = nI 0 ∧ EX = []) ∨ ∃ e, x = nI e ∧ EX = [e] ∧ 0 < e ∧ e < 256) (hf : jt_fl a6 fl) (hl : fl.length < 256)
    (H : ∀ b6, jt_fl b6 (EX ++ fl) → post (nI (EX ++ fl).length, we, lo, hi, ex, a1, a2, a3, a4, a5, b6, a7, a8, a9, a10, a11, a12, a13)) : wpX_release post (nI fl.length, we, lo, hi, ex, a1, a2, a3, a4, a5, a6, a7, a8, a9, a10, a11, a12, a13) x := by
  unfold wpX_release
  rcases hx with ⟨rfl, rfl⟩ | ⟨e, rfl, rfl, he0, he⟩
  · exact br_t rfl (H a6 hf)
  · refine br_f (nI_ne0 he0 (jt_p31 he)) ?_
    rw [nI_clamp (show fl.length < 2 ^ 31 by omega), jt_n16 e he]
    exact ⟨pk_in fl.length 256 hl, nm_e (nm_r (nI_1 fl.length) (H _ (jt_flP hf he0 he)))⟩

theorem jt_reln {post : St1 → Prop} {w n : Nat} (h7 : a7 w = nI 0) (hw : w < 64) (H : wX_releaseTree_11 post n fc (nI w) lo hi ex a1 a2 a3 a4 a5 a6 a7 a8 a9 a10 a11 a12 a13) : wX_releaseTree_11 post (n + 1) fc (nI (w + 1)) lo hi ex a1 a2 a3 a4 a5 a6 a7 a8 a9 a10 a11 a12 a13 := by
  refine pk_le (w + 1) 0 (fun g => absurd g (by omega)) (fun _ => nm_r (nI_pred w) ?_)
  rw [nI_clamp (show w < 2 ^ 31 by omega), h7]
  exact ⟨pk_in w 64 hw, nm_e (br_t rfl H)⟩

theorem jt_rel {post : St1 → Prop} : ∀ (k : Nat) (ns : List Nat) (x : Int32) (w : Nat) (fl : List Nat) (a6 a7 a8 : Nat → Int32) (n : Nat), ns.length ≤ k → jt_TR a1 a2 a4 x ns → a7 w = x → jt_fl a6 fl → w + ns.length + 1 ≤ 64 → fl.length + ns.length ≤ 255 →
    (∀ fl' b6 b7 b8, jt_fl b6 fl' → fl'.Perm (ns ++ fl) → (∀ j, j < w → b7 j = a7 j) → wX_releaseTree_11 post n (nI fl'.length) (nI w) lo hi ex a1 a2 a3 a4 a5 b6 b7 b8 a9 a10 a11 a12 a13) →
    wX_releaseTree_11 post (n + (2 * ns.length + 1)) (nI fl.length) (nI (w + 1)) lo hi ex a1 a2 a3 a4 a5 a6 a7 a8 a9 a10 a11 a12 a13 := by
  intro k
  induction k with
  | zero =>
    intro ns x w fl a6 a7 a8 n hk hx h7 hf hw hfl H
    have e : ns = [] := List.eq_nil_of_length_eq_zero (by omega)
    subst e
    rcases jt_cs hx with ⟨rfl, _, _⟩ | ⟨p, ls, rs, _, _, _, e, _⟩
    · exact jt_reln h7 (by omega) (H fl a6 a7 a8 hf (List.Perm.refl _) (fun _ _ => rfl))
    · exact absurd (congrArg List.length e) (by rw [jt_len]; simp)
  | succ k ih =>
    intro ns x w fl a6 a7 a8 n hk hx h7 hf hw hfl H
    rcases jt_cs hx with ⟨rfl, e, _⟩ | ⟨p, ls, rs, rfl, hp0, hp, e1, _, hl1, hr1⟩
    · subst e
      exact jt_reln h7 (by simp only [List.length_nil] at hw; omega) (H fl a6 a7 a8 hf (List.Perm.refl _) (fun _ _ => rfl))
    · subst e1
      rw [show n + (2 * (ls ++ p :: rs).length + 1) = ((n + (2 * ls.length + 1)) + (2 * rs.length + 1)) + 1 from by rw [jt_len]; omega]
      rw [jt_len] at hk hw hfl
      obtain ⟨i, ei, hi', _⟩ := jt_ix hl1
      obtain ⟨j, ej, hj', _⟩ := jt_ix hr1
      refine pk_le (w + 1) 0 (fun g => absurd g (by omega)) (fun _ => nm_r (nI_pred w) ?_)
      rw [nI_clamp (show w < 2 ^ 31 by omega), h7]
      refine ⟨pk_in w 64 (by omega), nm_e (br_f (nI_ne0 hp0 (jt_p31 hp)) ?_)⟩
      refine jt_release (EX := [p]) (Or.inr ⟨p, rfl, rfl, hp0, hp⟩) hf (by omega) (fun b6 hb6 => ?_)
      dsimp only
      rw [nI_clamp (jt_p31 hp), ei]
      refine ⟨pk_in p 256 hp, jt_push (by omega) hi' jt_v0 ?_⟩
      dsimp only
      rw [ej]
      refine ⟨pk_in p 256 hp, jt_push (by omega) hj' jt_v0 ?_⟩
      dsimp only
      refine ih rs (nI j) (w + 1) ([p] ++ fl) b6 _ _ (n + (2 * ls.length + 1)) (by omega) (ej ▸ hr1) pk_us hb6 (by omega) (by simp only [List.length_append, List.length_cons, List.length_nil]; omega) (fun f1 c6 c7 c8 hc6 pm1 ag1 => ?_)
      have pl := pm1.length_eq
      simp only [List.length_append, List.length_cons, List.length_nil] at pl
      refine ih ls (nI i) w f1 c6 c7 c8 n (by omega) (ei ▸ hl1) ?_ hc6 (by omega) (by omega) (fun f2 d6 d7 d8 hd6 pm2 ag2 => H f2 d6 d7 d8 hd6 (jt_pm1 pm2 pm1) (fun q hq => ?_))
      · rw [ag1 w (by omega), pk_un (by omega), pk_us]
      · rw [ag2 q hq, ag1 q (by omega), pk_un (by omega), pk_un (by omega)]

/-- a whole tree is given back -/
theorem jt_relT {post : St1 → Prop} {x : Int32} {ns fl : List Nat} (hx : jt_TR a1 a2 a4 x ns) (hf : jt_fl a6 fl) (hw : ns.length ≤ 63) (hfl : fl.length + ns.length ≤ 255)
    (H : ∀ fl' we b6 b7 b8, jt_fl b6 fl' → fl'.Perm (ns ++ fl) → post (nI fl'.length, we, lo, hi, ex, a1, a2, a3, a4, a5, b6, b7, b8, a9, a10, a11, a12, a13)) : wpX_releaseTree post (nI fl.length, we, lo, hi, ex, a1, a2, a3, a4, a5, a6, a7, a8, a9, a10, a11, a12, a13) x := by
  obtain ⟨k, rfl, hk, _⟩ := jt_ix hx
  unfold wpX_releaseTree
  refine jt_push (w := 0) (by omega) hk jt_v0 ?_
  refine ⟨1 + (2 * ns.length + 1), ?_⟩
  refine jt_rel ns.length ns (nI k) 0 fl a6 _ _ 1 (Nat.le_refl _) hx pk_us hf (by omega) hfl (fun f1 c6 c7 c8 hc6 pm1 _ => ?_)
  exact pk_le 0 0 (fun _ => H f1 _ c6 c7 c8 hc6 pm1) (fun g => absurd g (by omega))

theorem jt_new {post : Int32 → St1 → Prop} {c : Nat} {t : List Nat} {x : Int32} (hf : jt_fl a6 (c :: t)) (hl : t.length < 256)
    (H : post (nI c) (nI t.length, we, lo, hi, ex, upd a1 c 0, upd a2 c 0, upd a3 c x, upd a4 c 1, a5, a6, a7, a8, a9, a10, a11, a12, a13)) : wpX_newNode post (nI (c :: t).length, we, lo, hi, ex, a1, a2, a3, a4, a5, a6, a7, a8, a9, a10, a11, a12, a13) x := by
  obtain ⟨h1, h2, h3, h4⟩ := hf
  unfold wpX_newNode
  refine nm_r (nI_pred t.length) ?_
  rw [nI_clamp (show t.length < 2 ^ 31 by omega), h1]
  refine ⟨pk_in t.length 256 hl, nm_e ?_⟩
  rw [nI_clamp (jt_p31 h3)]
  exact ⟨pk_in c 256 h3, nm_e ⟨pk_in c 256 h3, nm_e ⟨pk_in c 256 h3, nm_e ⟨pk_in c 256 h3, nm_e H⟩⟩⟩⟩

theorem jt_twin {post : Int32 → St1 → Prop} {c n l r q : Nat} {t : List Nat} (hf : jt_fl a6 (c :: t)) (hl : t.length < 256) (hn : n < 256) (hne : n ≠ c) (e1 : a1 n = nI l) (h1 : l < 256) (e2 : a2 n = nI r) (h2 : r < 256) (e4 : a4 n = nI q) (h4 : q < 128)
    (H : post (nI c) (nI t.length, we, lo, hi, ex, upd a1 c (nI l), upd a2 c (nI r), upd a3 c (a3 n), upd a4 c (nI q), a5, a6, a7, a8, a9, a10, a11, a12, a13)) : wpX_twin post (nI (c :: t).length, we, lo, hi, ex, a1, a2, a3, a4, a5, a6, a7, a8, a9, a10, a11, a12, a13) (nI n) := by
  have hc := hf.2.2.1
  unfold wpX_twin
  dsimp only
  rw [nI_clamp (jt_p31 hn)]
  refine ⟨pk_in n 256 hn, jt_new hf hl ?_⟩
  dsimp only
  rw [nI_clamp (jt_p31 hc)]
  refine ⟨pk_in n 256 hn, pk_in c 256 hc, nm_r (e' := upd a1 c (nI l)) (by rw [pk_un hne, e1, jt_vs h1, jt_uu]) ⟨pk_in n 256 hn, pk_in c 256 hc, nm_r (e' := upd a2 c (nI r)) (by rw [pk_un hne, e2, jt_vs h2, jt_uu]) ⟨pk_in n 256 hn, pk_in c 256 hc, nm_r (e' := upd a4 c (nI q)) (by rw [pk_un hne, e4, jt_vb h4, jt_uu]) H⟩⟩⟩
theorem jt_tw2 : wpX_twin_2 = wpX_twin := rfl
theorem jt_tw3 : wpX_twin_3 = wpX_twin := rfl
end
end
section
section
/-- a copy that is still to be finished (on the way at w), or nothing: x its root, dl its node, ks its keys; og: the nodes that are copied -/
def jt_PD (L R K C W : Nat → Int32) (og : List Nat) (w w' : Nat) (x : Int32) (dl : List Nat) (ks : List Int32) : Prop :=
  (ks = [] ∧ x = nI 0 ∧ w' = w ∧ dl = []) ∨ ∃ d l1 l2, x = nI d ∧ dl = [d] ∧ 0 < d ∧ d < 256 ∧ w' = w + 1 ∧ W w = nI d ∧ jt_TR L R C (L d) l1 ∧ jt_TR L R C (R d) l2 ∧ C d = nI (l1.length + l2.length + 1) ∧ ks = l1.map K ++ K d :: l2.map K ∧ (∀ j, j ∈ l1 → j ∈ og) ∧ (∀ j, j ∈ l2 → j ∈ og)
theorem jt_PDF {L R K C W L' R' K' C' W' : Nat → Int32} {og S : List Nat} {w w' : Nat} {x : Int32} {dl : List Nat} {ks : List Int32} (h : jt_PD L R K C W og w w' x dl ks) (o : jt_OFF S L R C L' R' C') (s1 : ∀ j, j ∈ S → j ∉ og) (s2 : ∀ j, j ∈ dl → j ∉ S)
    (k1 : ∀ j, j ∈ og → K' j = K j) (k2 : ∀ j, j ∈ dl → K' j = K j) (ag : ∀ j, j < w' → W' j = W j) : jt_PD L' R' K' C' W' og w w' x dl ks := by
  rcases h with h | ⟨d, l1, l2, rfl, rfl, h0, h1, e1, e2, t1, t2, e3, e4, g1, g2⟩
  · exact Or.inl h
  · have od := o.2 d (s2 d (by simp))
    refine Or.inr ⟨d, l1, l2, rfl, rfl, h0, h1, e1, (ag w (by omega)).trans e2, ?_, ?_, od.2.2.trans e3, ?_, g1, g2⟩
    · rw [od.1]
      exact jt_off t1 o (fun j hj z => s1 j z (g1 j hj))
    · rw [od.2.1]
      exact jt_off t2 o (fun j hj z => s1 j z (g2 j hj))
    · rw [e4, k2 d (by simp), List.map_congr_left (fun j hj => k1 j (g1 j hj)), List.map_congr_left (fun j hj => k1 j (g2 j hj))]
theorem jt_PDl {L R K C W : Nat → Int32} {og : List Nat} {w w' : Nat} {x : Int32} {dl : List Nat} {ks : List Int32} (h : jt_PD L R K C W og w w' x dl ks) : w' = w + dl.length ∧ dl.length ≤ ks.length ∧ dl.length ≤ 1 := by
  rcases h with ⟨rfl, _, rfl, rfl⟩ | ⟨d, l1, l2, rfl, rfl, h0, h1, rfl, e2, t1, t2, e3, e4, g1, g2⟩
  · exact ⟨rfl, Nat.le_refl _, by simp⟩
  · refine ⟨rfl, ?_, by simp⟩
    rw [e4]
    simp only [List.length_append, List.length_cons, List.length_nil]
    omega

variable {fc we lo hi ex : Int32} {a1 a2 a3 a4 a5 a6 a7 a8 a9 a10 a11 a12 a13 : Nat → Int32}

/-- the pure side of a child's twin -/
theorem jt_tp {L R K C W : Nat → Int32} {og l1 m1 m2 : List Nat} {c d p w l r : Nat} (hc0 : 0 < c) (hc : c < 256) (hcd : c ≠ d) (hco : c ∉ og) (hdo : d ∉ og) (e1 : l1 = m1 ++ p :: m2) (g : ∀ j, j ∈ l1 → j ∈ og)
    (t1 : jt_TR L R C (L p) m1) (t2 : jt_TR L R C (R p) m2) (el : L p = nI l) (er : R p = nI r) {L' R' C' : Nat → Int32} (o : jt_OFF [d] (upd L c (nI l)) (upd R c (nI r)) (upd C c (nI l1.length)) L' R' C') :
    jt_PD L' R' (upd K c (K p)) C' (upd W w (nI c)) og w (w + 1) (nI c) [c] (l1.map K) := by
  have gp : p ∈ og := g p (by rw [e1]; simp)
  have hpc : p ≠ c := fun z => hco (z ▸ gp)
  have g1 : ∀ j, j ∈ m1 → j ∈ og := fun j hj => g j (by rw [e1]; simp [hj])
  have g2 : ∀ j, j ∈ m2 → j ∈ og := fun j hj => g j (by rw [e1]; simp [hj])
  have o1 : jt_OFF [c] L R C (upd L c (nI l)) (upd R c (nI r)) (upd C c (nI l1.length)) := jt_ou hc0 (fun j hj => ⟨pk_un hj, pk_un hj, pk_un hj⟩)
  have oc := o.2 c (by simpa using hcd)
  rw [pk_us, pk_us, pk_us] at oc
  have f1 := jt_off1 (jt_off1 t1 o1 (fun z => hco (g1 c z))) o (fun z => hdo (g1 d z))
  have f2 := jt_off1 (jt_off1 t2 o1 (fun z => hco (g2 c z))) o (fun z => hdo (g2 d z))
  refine Or.inr ⟨c, m1, m2, rfl, rfl, hc0, hc, rfl, pk_us, ?_, ?_, ?_, ?_, g1, g2⟩
  · rw [oc.1, ← el]; exact f1
  · rw [oc.2.1, ← er]; exact f2
  · rw [oc.2.2, e1, jt_len]
  · rw [e1, pk_us, List.map_append, List.map_cons]
    rw [List.map_congr_left (f := upd K c (K p)) (g := K) (fun j hj => pk_un (fun z => hco (z ▸ g1 j hj))), List.map_congr_left (f := upd K c (K p)) (g := K) (fun j hj => pk_un (fun z => hco (z ▸ g2 j hj)))]

/-- the right child of d -/
theorem jt_cR {post : Int32 → St1 → Prop} {J : Int32 → Int32 → Int32 → Int32 → Int32 → (Nat → Int32) → (Nat → Int32) → (Nat → Int32) → (Nat → Int32) → (Nat → Int32) → (Nat → Int32) → (Nat → Int32) → (Nat → Int32) → (Nat → Int32) → (Nat → Int32) → (Nat → Int32) → (Nat → Int32) → (Nat → Int32) → Prop}
    {x2 : Int32} {d w : Nat} {l2 og fl : List Nat} (hd0 : 0 < d) (hd : d < 256) (t2 : jt_TR a1 a2 a4 (a2 d) l2) (g : ∀ j, j ∈ l2 → j ∈ og) (hdo : d ∉ og) (hdf : d ∉ fl) (hfo : ∀ j, j ∈ fl → j ∉ og) (hf : jt_fl a6 fl) (hfl : fl.length ≤ 255) (hl : l2.length ≤ fl.length) (hl2 : l2.length ≤ 100) (hw : w + l2.length ≤ 64)
    (H : ∀ fl' dl w' b1 b2 b3 b4 b7 b8, fl = dl ++ fl' → jt_fl a6 fl' → jt_PD b1 b2 b3 b4 b7 og w w' (b2 d) dl (l2.map a3) → jt_OFF (d :: dl) a1 a2 a4 b1 b2 b4 → (∀ j, j ∉ dl → b3 j = a3 j) → b1 d = a1 d → b4 d = a4 d → (∀ j, j < w → b7 j = a7 j) → J (nI fl'.length) (nI w') lo hi ex b1 b2 b3 b4 a5 a6 b7 b8 a9 a10 a11 a12 a13) :
    wX_copyOf_87 post J x2 (nI d) (nI fl.length) (nI w) lo hi ex a1 a2 a3 a4 a5 a6 a7 a8 a9 a10 a11 a12 a13 := by
  unfold wX_copyOf_87
  rw [nI_clamp (jt_p31 hd)]
  refine ⟨pk_in d 256 hd, ?_⟩
  rcases jt_cs t2 with ⟨e, e1, _⟩ | ⟨p, m1, m2, e, hp0, hp, e1, hcp, tl, tr⟩
  · subst e1
    exact br_t e (H fl [] w a1 a2 a3 a4 a7 a8 rfl hf (Or.inl ⟨rfl, e, rfl, rfl⟩) (jt_or (by simp <;> omega)) (fun _ _ => rfl) rfl rfl (fun _ _ => rfl))
  · have hlen : 1 ≤ l2.length := by rw [e1, jt_len]; omega
    obtain ⟨l, el, hl1, _⟩ := jt_ix tl
    obtain ⟨r, er, hr1, _⟩ := jt_ix tr
    cases fl with
    | nil => exact absurd hl (by simp only [List.length_nil]; omega)
    | cons c t =>
      obtain ⟨hc1, hc0, hc, hft⟩ := hf
      have hco : c ∉ og := hfo c (by simp)
      have hcd : c ≠ d := fun z => hdf (by rw [z]; simp)
      have gp : p ∈ og := g p (by rw [e1]; simp)
      have hpc : p ≠ c := fun z => hco (z ▸ gp)
      simp only [List.length_cons] at hfl
      rw [e, jt_tw2]
      refine br_f (nI_ne0 hp0 (jt_p31 hp)) ⟨pk_in d 256 hd, ?_⟩
      refine jt_twin ⟨hc1, hc0, hc, hft⟩ (by omega) hp hpc el hl1 er hr1 hcp (by omega) ?_
      dsimp only
      rw [jt_n16 c hc]
      refine ⟨pk_in d 256 hd, nm_e ?_⟩
      rw [pk_us]
      refine ⟨pk_in d 256 hd, jt_push (by omega) hc jt_v0 ?_⟩
      dsimp only
      have o : jt_OFF [d] (upd a1 c (nI l)) (upd a2 c (nI r)) (upd a4 c (nI l2.length)) (upd a1 c (nI l)) (upd (upd a2 c (nI r)) d (nI c)) (upd a4 c (nI l2.length)) := jt_uR hd0
      have hdc : d ≠ c := fun z => hcd z.symm
      refine H t [c] (w + 1) _ _ _ _ _ _ rfl hft ?_ ?_ (fun j hj => pk_un (by simpa using hj)) (pk_un hdc) (pk_un hdc) (fun j hj => pk_un (by omega))
      · rw [pk_us]
        exact jt_tp hc0 hc hcd hco hdo e1 g tl tr el er o
      · refine ⟨by simp; omega, fun j hj => ?_⟩
        simp only [List.mem_cons, List.not_mem_nil, or_false, not_or] at hj
        rw [pk_un hj.2, pk_un hj.1, pk_un hj.2, pk_un hj.2]
        exact ⟨rfl, rfl, rfl⟩

theorem jt_cp {post : Int32 → St1 → Prop} {x2 : Int32} {og : List Nat} : ∀ (k : Nat) (ks : List Int32) (w w' : Nat) (x : Int32) (dl fl : List Nat) (a1 a2 a3 a4 a7 a8 : Nat → Int32) (n : Nat), ks.length ≤ k → jt_PD a1 a2 a3 a4 a7 og w w' x dl ks → jt_fl a6 fl → (dl ++ fl).Nodup → (∀ j, j ∈ dl ++ fl → j ∉ og) → fl.length ≤ 255 → ks.length ≤ dl.length + fl.length → ks.length ≤ 100 → w + ks.length ≤ 64 → a4 0 = nI 0 →
    (∀ fl' cs b1 b2 b3 b4 b7 b8, jt_fl a6 fl' → jt_TR b1 b2 b4 x cs → cs.map b3 = ks → jt_OFF (dl ++ fl) a1 a2 a4 b1 b2 b4 → (∀ j, j ∉ fl → b3 j = a3 j) → (cs ++ fl').Perm (dl ++ fl) → (∀ j, j < w → b7 j = a7 j) → wX_copyOf_23 post x2 n (nI fl'.length) (nI w) lo hi ex b1 b2 b3 b4 a5 a6 b7 b8 a9 a10 a11 a12 a13) →
    wX_copyOf_23 post x2 (n + ks.length) (nI fl.length) (nI w') lo hi ex a1 a2 a3 a4 a5 a6 a7 a8 a9 a10 a11 a12 a13 := by
  intro k
  induction k with
  | zero =>
    intro ks w w' x dl fl a1 a2 a3 a4 a7 a8 n hk pd hf nd hog hfl hl hk2 hw c0 H
    rcases pd with ⟨rfl, rfl, rfl, rfl⟩ | ⟨d, l1, l2, rfl, rfl, h0, h1, rfl, e2, t1, t2, e3, e4, g1, g2⟩
    · exact H fl [] a1 a2 a3 a4 a7 a8 hf (jt_nil c0) rfl (jt_or (jt_fl0 hf)) (fun _ _ => rfl) (List.Perm.refl _) (fun _ _ => rfl)
    · exact absurd hk (by rw [e4]; simp)
  | succ k ih =>
    intro ks w w' x dl fl a1 a2 a3 a4 a7 a8 n hk pd hf nd hog hfl hl hk2 hw c0 H
    rcases pd with ⟨rfl, rfl, rfl, rfl⟩ | ⟨d, l1, l2, rfl, rfl, h0, h1, rfl, e2, t1, t2, e3, e4, g1, g2⟩
    · exact H fl [] a1 a2 a3 a4 a7 a8 hf (jt_nil c0) rfl (jt_or (jt_fl0 hf)) (fun _ _ => rfl) (List.Perm.refl _) (fun _ _ => rfl)
    · have ekl : ks.length = l1.length + l2.length + 1 := by rw [e4]; simp only [List.length_append, List.length_cons, List.length_map]; omega
      rw [ekl] at hk hl hk2 hw
      simp only [List.length_cons, List.length_nil] at hl
      rw [show n + ks.length = ((n + l1.length) + l2.length) + 1 from by omega]
      have hdo : d ∉ og := hog d (by simp)
      have hdf : d ∉ fl := by simp only [List.cons_append, List.nil_append, List.nodup_cons] at nd; exact nd.1
      have ndf : fl.Nodup := by simp only [List.cons_append, List.nil_append, List.nodup_cons] at nd; exact nd.2
      have hfo : ∀ j, j ∈ fl → j ∉ og := fun j hj => hog j (by simp [hj])
      -- what is left when the left child stands on the way
      have key : ∀ fl' dl1 w1 b1 b2 b3 b4 b7 b8, fl = dl1 ++ fl' → jt_fl a6 fl' → jt_PD b1 b2 b3 b4 b7 og w w1 (b1 d) dl1 (l1.map a3) → jt_OFF (d :: dl1) a1 a2 a4 b1 b2 b4 → (∀ j, j ∉ dl1 → b3 j = a3 j) → b2 d = a2 d → b4 d = a4 d → (∀ j, j < w → b7 j = a7 j) → wX_copyOf_87 post (wX_copyOf_23 post x2 ((n + l1.length) + l2.length)) x2 (nI d) (nI fl'.length) (nI w1) lo hi ex b1 b2 b3 b4 a5 a6 b7 b8 a9 a10 a11 a12 a13 := by
        intro f1 dl1 w1 b1 b2 b3 b4 b7 b8 ef hf1 pd1 o1 k1 eb2 eb4 ag1
        obtain ⟨ew1, ed1, ed1'⟩ := jt_PDl pd1
        simp only [List.length_map] at ed1
        have efl : fl.length = dl1.length + f1.length := by rw [ef, List.length_append]
        have sub1 : ∀ j, j ∈ dl1 → j ∈ fl := fun j hj => by rw [ef]; simp [hj]
        have sub2 : ∀ j, j ∈ f1 → j ∈ fl := fun j hj => by rw [ef]; simp [hj]
        have dis : ∀ j, j ∈ dl1 → j ∉ f1 := by
          intro j hj hj2
          rw [ef, List.nodup_append] at ndf
          exact ndf.2.2 j hj j hj2 rfl
        have nd1 : f1.Nodup := by rw [ef, List.nodup_append] at ndf; exact ndf.2.1
        have t2' : jt_TR b1 b2 b4 (b2 d) l2 := by
          rw [eb2]
          refine jt_off t2 o1 (fun j hj z => ?_)
          rcases List.mem_cons.mp z with z | z
          · exact hdo (z ▸ g2 j hj)
          · exact hfo j (sub1 j z) (g2 j hj)
        have kl2 : l2.map b3 = l2.map a3 := List.map_congr_left (fun j hj => k1 j (fun z => hfo j (sub1 j z) (g2 j hj)))
        refine jt_cR h0 h1 t2' g2 hdo (fun z => hdf (sub2 d z)) (fun j hj => hfo j (sub2 j hj)) hf1 (by omega) (by omega) (by omega) (by omega) (fun f2 dl2 w2 c1 c2 c3 c4 c7 c8 ef2 hf2 pd2 o2 k2 ec1 ec4 ag2 => ?_)
        obtain ⟨ew2, ed2, ed2'⟩ := jt_PDl pd2
        simp only [List.length_map] at ed2
        have efl2 : f1.length = dl2.length + f2.length := by rw [ef2, List.length_append]
        have sub3 : ∀ j, j ∈ dl2 → j ∈ f1 := fun j hj => by rw [ef2]; simp [hj]
        have sub4 : ∀ j, j ∈ f2 → j ∈ f1 := fun j hj => by rw [ef2]; simp [hj]
        -- the left one, over the new state
        have pd1' : jt_PD c1 c2 c3 c4 c7 og w w1 (b1 d) dl1 (l1.map a3) := by
          refine jt_PDF pd1 o2 (fun j hj => ?_) (fun j hj z => ?_) (fun j hj => k2 j (fun z => hfo j (sub2 j (sub3 j z)) hj)) (fun j hj => k2 j (fun z => dis j hj (sub3 j z))) (fun j hj => ag2 j hj)
          · rcases List.mem_cons.mp hj with z | z
            · rw [z]; exact hdo
            · exact hfo j (sub2 j (sub3 j z))
          · rcases List.mem_cons.mp z with z | z
            · exact hdf (z ▸ sub1 j hj)
            · exact dis j hj (sub3 j z)
        have c40 : c4 0 = nI 0 := by rw [(o2.2 0 o2.1).2.2, (o1.2 0 o1.1).2.2]; exact c0
        refine ih (l2.map b3) w1 w2 (c2 d) dl2 f2 c1 c2 c3 c4 c7 c8 (n + l1.length) (by simp only [List.length_map]; omega) pd2 hf2 (by rw [← ef2]; exact nd1) (fun j hj => hfo j (sub2 j (by rw [ef2]; exact hj))) (by omega) (by simp only [List.length_map]; omega) (by simp only [List.length_map]; omega) (by simp only [List.length_map]; omega) c40 (fun f3 cs2 e1 e2' e3' e4' e7 e8 hf3 u2 kk2 o3 k3 pm3 ag3 => ?_) |> fun z => by simpa only [List.length_map] using z
        rw [← ef2] at o3 pm3
        have pl3 := pm3.length_eq
        have lk2 : cs2.length = l2.length := by have := congrArg List.length kk2; simpa only [List.length_map] using this
        simp only [List.length_append] at pl3
        have sub5 : ∀ j, j ∈ f3 → j ∈ f1 := fun j hj => pm3.subset (List.mem_append_right _ hj)
        have sub6 : ∀ j, j ∈ cs2 → j ∈ f1 := fun j hj => pm3.subset (List.mem_append_left _ hj)
        have nd3 : (cs2 ++ f3).Nodup := pm3.symm.nodup nd1
        rw [List.nodup_append] at nd3
        have ed : e1 d = b1 d ∧ e2' d = c2 d ∧ e4' d = a4 d := by
          have z := o3.2 d (fun z => hdf (sub2 d z))
          exact ⟨z.1.trans ec1, z.2.1, z.2.2.trans (ec4.trans eb4)⟩
        have pd1'' : jt_PD e1 e2' e3' e4' e7 og w w1 (b1 d) dl1 (l1.map a3) :=
          jt_PDF pd1' o3 (fun j hj => hfo j (sub2 j hj)) (fun j hj z => dis j hj z) (fun j hj => k3 j (fun z => hfo j (sub2 j (sub4 j z)) hj)) (fun j hj => k3 j (fun z => dis j hj (sub4 j z))) (fun j hj => ag3 j hj)
        have nd4 : (dl1 ++ f3).Nodup := by
          rw [List.nodup_append]
          rw [ef, List.nodup_append] at ndf
          exact ⟨ndf.1, nd3.2.1, fun a ha b hb z => dis a ha (sub5 a (z ▸ hb))⟩
        have e40 : e4' 0 = nI 0 := by rw [(o3.2 0 o3.1).2.2]; exact c40
        refine ih (l1.map a3) w w1 (b1 d) dl1 f3 e1 e2' e3' e4' e7 e8 n (by simp only [List.length_map]; omega) pd1'' hf3 nd4 (fun j hj => ?_) (by omega) (by simp only [List.length_map]; omega) (by simp only [List.length_map]; omega) (by simp only [List.length_map]; omega) e40 (fun f4 cs1 g1' g2' g3' g4' g7 g8 hf4 u1 kk1 o4 k4 pm4 ag4 => ?_) |> fun z => by simpa only [List.length_map] using z
        · rcases List.mem_append.mp hj with hj | hj
          · exact hfo j (sub1 j hj)
          · exact hfo j (sub2 j (sub5 j hj))
        have lk1 : cs1.length = l1.length := by have := congrArg List.length kk1; simpa only [List.length_map] using this
        have dd : d ∉ dl1 ++ f3 := by
          intro z
          rcases List.mem_append.mp z with z | z
          · exact hdf (sub1 d z)
          · exact hdf (sub2 d (sub5 d z))
        have od := o4.2 d dd
        have u2' : jt_TR g1' g2' g4' (c2 d) cs2 := by
          refine jt_off u2 o4 (fun j hj z => ?_)
          rcases List.mem_append.mp z with z | z
          · exact dis j z (sub6 j hj)
          · exact nd3.2.2 j hj j z rfl
        have tfin : jt_TR g1' g2' g4' (nI d) (cs1 ++ d :: cs2) :=
          jt_node h0 h1 (by rw [od.2.2, ed.2.2, e3, lk1, lk2]) (by rw [od.1, ed.1]; exact u1) (by rw [od.2.1, ed.2.1]; exact u2')
        refine H f4 (cs1 ++ d :: cs2) g1' g2' g3' g4' g7 g8 hf4 tfin ?_ ?_ ?_ ?_ (fun j hj => ?_)
        · have kd : g3' d = a3 d := by rw [k4 d (fun z => hdf (sub2 d (sub5 d z))), k3 d (fun z => hdf (sub2 d (sub4 d z))), k2 d (fun z => hdf (sub2 d (sub3 d z))), k1 d (fun z => hdf (sub1 d z))]
          have kc : cs2.map g3' = cs2.map e3' := List.map_congr_left (fun j hj => k4 j (fun z => nd3.2.2 j hj j z rfl))
          rw [List.map_append, List.map_cons, kk1, kd, kc, kk2, kl2, e4]
        · refine ⟨fun z => (List.mem_append.mp z).elim (fun z => absurd (List.mem_singleton.mp z) (by omega)) (fun z => jt_fl0 hf z), fun j hj => ?_⟩
          have j1 : j ≠ d := fun z => hj (by rw [z]; simp)
          have j2 : j ∉ fl := fun z => hj (by simp [z])
          have q1 := o1.2 j (fun z => (List.mem_cons.mp z).elim j1 (fun z => j2 (sub1 j z)))
          have q2 := o2.2 j (fun z => (List.mem_cons.mp z).elim j1 (fun z => j2 (sub2 j (sub3 j z))))
          have q3 := o3.2 j (fun z => j2 (sub2 j z))
          have q4 := o4.2 j (fun z => (List.mem_append.mp z).elim (fun z => j2 (sub1 j z)) (fun z => j2 (sub2 j (sub5 j z))))
          exact ⟨by rw [q4.1, q3.1, q2.1, q1.1], by rw [q4.2.1, q3.2.1, q2.2.1, q1.2.1], by rw [q4.2.2, q3.2.2, q2.2.2, q1.2.2]⟩
        · intro j hj
          rw [k4 j (fun z => hj (sub2 j (sub5 j z))), k3 j (fun z => hj (sub2 j (sub4 j z))), k2 j (fun z => hj (sub2 j (sub3 j z))), k1 j (fun z => hj (sub1 j z))]
        · rw [List.perm_iff_count]
          intro a
          have y1 := pm3.count_eq a
          have y2 := pm4.count_eq a
          rw [ef]
          simp only [List.count_append, List.count_cons, List.count_nil] at *
          omega
        · rw [ag4 j hj, ag3 j (by omega), ag2 j (by omega), ag1 j hj]
      refine pk_le (w + 1) 0 (fun g => absurd g (by omega)) (fun _ => nm_r (nI_pred w) ?_)
      rw [nI_clamp (show w < 2 ^ 31 by omega), e2]
      refine ⟨pk_in w 64 (by omega), nm_e ?_⟩
      rw [nI_clamp (jt_p31 h1)]
      refine ⟨pk_in d 256 h1, ?_⟩
      rcases jt_cs t1 with ⟨e, e1, _⟩ | ⟨p, m1, m2, e, hp0, hp, e1, hcp, tl, tr⟩
      · subst e1
        exact br_t e (key fl [] w a1 a2 a3 a4 a7 a8 rfl hf (Or.inl ⟨rfl, e, rfl, rfl⟩) (jt_or (by simp <;> omega)) (fun _ _ => rfl) rfl rfl (fun _ _ => rfl))
      · have hlen : 1 ≤ l1.length := by rw [e1, jt_len]; omega
        obtain ⟨l, el, hl1, _⟩ := jt_ix tl
        obtain ⟨r, er, hr1, _⟩ := jt_ix tr
        cases fl with
        | nil => exact absurd hl (by simp only [List.length_nil]; omega)
        | cons c t =>
          obtain ⟨hc1, hc0, hc, hft⟩ := hf
          have hco : c ∉ og := hfo c (by simp)
          have hcd : c ≠ d := fun z => hdf (by rw [z]; simp)
          have gp : p ∈ og := g1 p (by rw [e1]; simp)
          have hpc : p ≠ c := fun z => hco (z ▸ gp)
          have hdc : d ≠ c := fun z => hcd z.symm
          simp only [List.length_cons] at hfl
          rw [e, jt_tw3]
          refine br_f (nI_ne0 hp0 (jt_p31 hp)) ⟨pk_in d 256 h1, ?_⟩
          refine jt_twin ⟨hc1, hc0, hc, hft⟩ (by omega) hp hpc el hl1 er hr1 hcp (by omega) ?_
          dsimp only
          rw [jt_n16 c hc]
          refine ⟨pk_in d 256 h1, nm_e ?_⟩
          rw [pk_us]
          refine ⟨pk_in d 256 h1, jt_push (by omega) hc jt_v0 ?_⟩
          dsimp only
          have o : jt_OFF [d] (upd a1 c (nI l)) (upd a2 c (nI r)) (upd a4 c (nI l1.length)) (upd (upd a1 c (nI l)) d (nI c)) (upd a2 c (nI r)) (upd a4 c (nI l1.length)) := jt_uL h0
          refine key t [c] (w + 1) _ _ _ _ _ _ rfl hft ?_ ?_ (fun j hj => pk_un (by simpa using hj)) (pk_un hdc) (pk_un hdc) (fun j hj => pk_un (by omega))
          · rw [pk_us]
            exact jt_tp hc0 hc hcd hco hdo e1 g1 tl tr el er o
          · refine ⟨by simp; omega, fun j hj => ?_⟩
            simp only [List.mem_cons, List.not_mem_nil, or_false, not_or] at hj
            rw [pk_un hj.1, pk_un hj.2, pk_un hj.2, pk_un hj.2]
            exact ⟨rfl, rfl, rfl⟩

/-- a tree's copy, on nodes that were free -/
theorem jt_copy {post : Int32 → St1 → Prop} {x : Int32} {ns fl : List Nat} (hx : jt_TR a1 a2 a4 x ns) (hf : jt_fl a6 fl) (nd : fl.Nodup) (dis : ∀ j, j ∈ fl → j ∉ ns) (hfl : fl.length ≤ 255) (hl : ns.length ≤ fl.length) (hw : ns.length ≤ 60)
    (H : ∀ r fl' cs we b1 b2 b3 b4 b7 b8, jt_TR b1 b2 b4 r cs → jt_fl a6 fl' → (cs ++ fl').Perm fl → cs.map b3 = ns.map a3 → jt_OFF fl a1 a2 a4 b1 b2 b4 → (∀ j, j ∉ fl → b3 j = a3 j) → post r (nI fl'.length, we, lo, hi, ex, b1, b2, b3, b4, a5, a6, b7, b8, a9, a10, a11, a12, a13)) :
    wpX_copyOf post (nI fl.length, we, lo, hi, ex, a1, a2, a3, a4, a5, a6, a7, a8, a9, a10, a11, a12, a13) x := by
  unfold wpX_copyOf
  have c0 := jt_c0 hx
  rcases jt_cs hx with ⟨rfl, e, _⟩ | ⟨p, l1, l2, rfl, hp0, hp, e1, hcp, tl, tr⟩
  · subst e
    exact br_t rfl (H (nI 0) fl [] we a1 a2 a3 a4 a7 a8 hx hf (List.Perm.refl _) rfl (jt_or (jt_fl0 hf)) (fun _ _ => rfl))
  · have hlen : 1 ≤ ns.length := by rw [e1, jt_len]; omega
    obtain ⟨l, el, hl1, _⟩ := jt_ix tl
    obtain ⟨r, er, hr1, _⟩ := jt_ix tr
    cases fl with
    | nil => exact absurd hl (by simp only [List.length_nil]; omega)
    | cons c t =>
      have hf' := hf
      obtain ⟨hc1, hc0, hc, hft⟩ := hf
      have hco : c ∉ ns := dis c (by simp)
      have gp : p ∈ ns := by rw [e1]; simp
      have hpc : p ≠ c := fun z => hco (z ▸ gp)
      simp only [List.length_cons] at hfl hl
      refine br_f (nI_ne0 hp0 (jt_p31 hp)) ?_
      refine jt_twin hf' (by omega) hp hpc el hl1 er hr1 hcp (by omega) ?_
      dsimp only
      refine jt_push (w := 0) (by omega) hc jt_v0 ?_
      have o0 : jt_OFF [c] a1 a2 a4 (upd a1 c (nI l)) (upd a2 c (nI r)) (upd a4 c (nI ns.length)) := jt_ou hc0 (fun j hj => ⟨pk_un hj, pk_un hj, pk_un hj⟩)
      have g1 : ∀ j, j ∈ l1 → j ∈ ns := fun j hj => by rw [e1]; simp [hj]
      have g2 : ∀ j, j ∈ l2 → j ∈ ns := fun j hj => by rw [e1]; simp [hj]
      have pd : jt_PD (upd a1 c (nI l)) (upd a2 c (nI r)) (upd a3 c (a3 p)) (upd a4 c (nI ns.length)) (upd a7 0 (nI c)) ns 0 (0 + 1) (nI c) [c] (ns.map a3) := by
        refine Or.inr ⟨c, l1, l2, rfl, rfl, hc0, hc, rfl, pk_us, ?_, ?_, ?_, ?_, g1, g2⟩
        · have f1 := jt_off1 tl o0 (fun z => hco (g1 c z))
          rw [el] at f1
          rw [pk_us]; exact f1
        · have f1 := jt_off1 tr o0 (fun z => hco (g2 c z))
          rw [er] at f1
          rw [pk_us]; exact f1
        · rw [pk_us, e1, jt_len]
        · rw [pk_us, e1, List.map_append, List.map_cons]
          rw [List.map_congr_left (f := upd a3 c (a3 p)) (g := a3) (fun j hj => pk_un (fun z => hco (z ▸ g1 j hj))), List.map_congr_left (f := upd a3 c (a3 p)) (g := a3) (fun j hj => pk_un (fun z => hco (z ▸ g2 j hj)))]
      have c1 : upd a4 c (nI ns.length) 0 = nI 0 := by rw [pk_un (by omega)]; exact c0
      dsimp only
      refine ⟨1 + (ns.map a3).length, ?_⟩
      refine jt_cp (og := ns) (ns.map a3).length (ns.map a3) 0 (0 + 1) (nI c) [c] t _ _ _ _ _ _ 1 (Nat.le_refl _) pd hft nd (fun j hj => dis j hj) (by omega) (by simp only [List.length_map, List.length_cons, List.length_nil]; omega) (by simp only [List.length_map]; omega) (by simp only [List.length_map]; omega) c1 (fun f1 cs b1 b2 b3 b4 b7 b8 hf1 u1 kk o1 k1 pm ag => ?_)
      refine pk_le 0 0 (fun _ => ?_) (fun g => absurd g (by omega))
      refine H (nI c) f1 cs _ b1 b2 b3 b4 b7 b8 u1 hf1 pm kk ?_ (fun j hj => ?_)
      · exact jt_ot o0 o1 (jt_fl0 hf') (by intro j hj; simp at hj; simp [hj]) (fun j hj => hj)
      · rw [k1 j (fun z => hj (by simp [z])), pk_un (fun z => hj (by simp [z]))]
end
end
section
section
def jt_op (h : Nat) (P Q : Prop) : Prop := (h = 0 ∧ (P ∨ Q)) ∨ (h = 1 ∧ P ∧ Q) ∨ (h = 2 ∧ P ∧ ¬ Q)
def jt_st (h : Nat) (b : Bool) : Bool := if h = 0 then true else if h = 1 then b else !b
theorem jt_opo {h : Nat} {P Q : Prop} (o : jt_op h P Q) : P ∨ Q := by
  rcases o with ⟨_, o⟩ | ⟨_, o, _⟩ | ⟨_, o, _⟩
  · exact o
  · exact Or.inl o
  · exact Or.inl o
theorem jt_dj {A B : List Nat} (h : ∀ a, A.count a + B.count a ≤ 1) : ∀ j, j ∈ A → j ∉ B := by
  intro j hj hj2
  have h1 := h j
  have h2 := List.count_pos_iff.mpr hj
  have h3 := List.count_pos_iff.mpr hj2
  omega
theorem jt_opx {h : Nat} {A1 A2 B1 B2 E : Prop} {bo : Bool} (hh : h < 3) (x1 : A1 → ¬ E) (x2 : A1 → ¬ A2) (x3 : A1 → ¬ B2) (x4 : A2 → ¬ E) (x5 : A2 → ¬ B1) (x6 : B1 → ¬ E) (x7 : B1 → ¬ B2) (x8 : B2 → ¬ E) :
    (jt_op h A1 B1 ∨ (jt_st h bo = true ∧ E) ∨ jt_op h A2 B2) ↔ jt_op h (A1 ∨ E ∨ A2) (B1 ∨ (bo = true ∧ E) ∨ B2) := by
  rcases (by omega : h = 0 ∨ h = 1 ∨ h = 2) with rfl | rfl | rfl
  · simp only [jt_op, jt_st]; cases bo <;> simp <;> grind
  · simp only [jt_op, jt_st]; cases bo <;> simp <;> grind
  · simp only [jt_op, jt_st]; cases bo <;> simp <;> grind

theorem jt_cbp {K : Nat → Int32} {h p : Nat} {al ar LS EX RS ls us : List Nat} {bo : Bool} (hh : h < 3) (sa : ((al ++ p :: ar).map K).Pairwise (· < ·))
    (k0 : ∀ j, j ∈ EX → K j = K p) (k1 : ∀ j, j ∈ LS → K j < K p) (k2 : ∀ j, j ∈ RS → K p < K j) (hb : bo = true ↔ EX ≠ []) (s1 : (ls.map K).Pairwise (· < ·)) (m1 : ∀ z, z ∈ ls.map K ↔ jt_op h (z ∈ al.map K) (z ∈ LS.map K)) (s2 : (us.map K).Pairwise (· < ·)) (m2 : ∀ z, z ∈ us.map K ↔ jt_op h (z ∈ ar.map K) (z ∈ RS.map K)) :
    ((ls ++ ((if jt_st h bo = true then [p] else []) ++ us)).map K).Pairwise (· < ·) ∧ ∀ z, z ∈ (ls ++ ((if jt_st h bo = true then [p] else []) ++ us)).map K ↔ jt_op h (z ∈ (al ++ p :: ar).map K) (z ∈ (LS ++ (EX ++ RS)).map K) := by
  obtain ⟨a1, a2, _, _, _⟩ := jt_sr1 sa
  have A1 : ∀ z, z ∈ al.map K → z < K p := by intro z hz; obtain ⟨j, hj, rfl⟩ := List.mem_map.mp hz; exact a1 j hj
  have A2 : ∀ z, z ∈ ar.map K → K p < z := by intro z hz; obtain ⟨j, hj, rfl⟩ := List.mem_map.mp hz; exact a2 j hj
  have B1 : ∀ z, z ∈ LS.map K → z < K p := by intro z hz; obtain ⟨j, hj, rfl⟩ := List.mem_map.mp hz; exact k1 j hj
  have B2 : ∀ z, z ∈ RS.map K → K p < z := by intro z hz; obtain ⟨j, hj, rfl⟩ := List.mem_map.mp hz; exact k2 j hj
  have L1 : ∀ z, z ∈ ls.map K → z < K p := fun z hz => (jt_opo ((m1 z).mp hz)).elim (A1 z) (B1 z)
  have U1 : ∀ z, z ∈ us.map K → K p < z := fun z hz => (jt_opo ((m2 z).mp hz)).elim (A2 z) (B2 z)
  have BE : ∀ z, z ∈ EX.map K ↔ (bo = true ∧ z = K p) := by
    intro z
    constructor
    · intro hz
      obtain ⟨j, hj, rfl⟩ := List.mem_map.mp hz
      exact ⟨hb.mpr (List.ne_nil_of_mem hj), k0 j hj⟩
    · rintro ⟨h1, rfl⟩
      have h2 := hb.mp h1
      obtain ⟨j, hj⟩ := List.exists_mem_of_ne_nil _ h2
      exact List.mem_map.mpr ⟨j, hj, k0 j hj⟩
  have nn : ∀ z : Int32, z < K p → ¬ z = K p := fun z h1 h2 => jt_lt4 (h2 ▸ h1)
  have nm : ∀ z : Int32, K p < z → ¬ z = K p := fun z h1 h2 => by rw [h2] at h1; exact jt_lt4 h1
  have nc : ∀ z : Int32, z < K p → ¬ K p < z := fun z h1 h2 => jt_lt4 (jt_lt1 h1 h2)
  constructor
  · by_cases hs : jt_st h bo = true
    · rw [if_pos hs]
      simp only [List.map_append, List.map_cons, List.map_nil, List.pairwise_append, List.pairwise_cons, List.Pairwise.nil, List.mem_append, List.mem_cons, List.not_mem_nil, or_false, false_implies, implies_true, and_true, true_and]
      refine ⟨s1, ⟨s2, fun a ha b hb => ?_⟩, fun a ha b hb => ?_⟩
      · rw [ha]; exact U1 b hb
      · rcases hb with hb | hb
        · rw [hb]; exact L1 a ha
        · exact jt_lt1 (L1 a ha) (U1 b hb)
    · rw [if_neg hs]
      simp only [List.nil_append, List.map_append, List.pairwise_append]
      exact ⟨s1, s2, fun a ha b hb => jt_lt1 (L1 a ha) (U1 b hb)⟩
  · intro z
    have e : z ∈ (ls ++ ((if jt_st h bo = true then [p] else []) ++ us)).map K ↔ (z ∈ ls.map K ∨ (jt_st h bo = true ∧ z = K p) ∨ z ∈ us.map K) := by
      by_cases hs : jt_st h bo = true
      · rw [if_pos hs]
        simp only [List.map_append, List.map_cons, List.map_nil, List.mem_append, List.mem_cons, List.not_mem_nil, or_false, hs, true_and]
      · rw [if_neg hs]
        simp only [List.map_append, List.map_nil, List.mem_append, List.not_mem_nil, false_or, hs, Bool.false_eq_true, false_and]
    rw [e, m1, m2, jt_opx hh (fun q => nn z (A1 z q)) (fun q q2 => nc z (A1 z q) (A2 z q2)) (fun q q2 => nc z (A1 z q) (B2 z q2)) (fun q => nm z (A2 z q)) (fun q q2 => nc z (B1 z q2) (A2 z q)) (fun q => nn z (B1 z q)) (fun q q2 => nc z (B1 z q) (B2 z q2)) (fun q => nm z (B2 z q)), ← BE]
    simp only [List.map_append, List.map_cons, List.mem_append, List.mem_cons]

variable {fc we lo hi ex : Int32} {a1 a2 a3 a4 a5 a6 a7 a8 a9 a10 a11 a12 a13 : Nat → Int32}

theorem jt_none {post : Int32 → St1 → Prop} {h : Nat} {x y : Int32} {as bs fl : List Nat} (hh : h < 3) (hx : jt_TR a1 a2 a4 x as) (hy : jt_TR a1 a2 a4 y bs) (h0 : as = [] ∨ bs = []) (hf : jt_fl a6 fl) (hl : as.length + bs.length ≤ 60) (hfl : as.length + bs.length + fl.length ≤ 255)
    (H : ∀ r rs fl' we b6 b7 b8, jt_TR a1 a2 a4 r rs → jt_fl b6 fl' → (rs ++ fl').Perm (as ++ (bs ++ fl)) → (h = 0 → rs = as ++ bs) → (h = 1 → rs = []) → (h = 2 → rs = as) → post r (nI fl'.length, we, lo, hi, ex, a1, a2, a3, a4, a5, b6, b7, b8, a9, a10, a11, a12, a13)) :
    wpX_withNothing post (nI fl.length, we, lo, hi, ex, a1, a2, a3, a4, a5, a6, a7, a8, a9, a10, a11, a12, a13) (nI h) x y := by
  unfold wpX_withNothing
  have c0 := jt_c0 hx
  refine pk_eq h 0 (fun e => ?_) (fun e => ?_)
  · rcases jt_cs hx with ⟨rfl, e1, _⟩ | ⟨p, l1, l2, rfl, hp0, hp, e1, _⟩
    · refine br_t rfl (H y bs fl _ a6 a7 a8 hy hf (by rw [e1]; exact List.Perm.refl _) (fun _ => by rw [e1]; rfl) (fun z => absurd z (by omega)) (fun z => absurd z (by omega)))
    · have e2 : bs = [] := by
        rcases h0 with z | z
        · exact absurd z (by rw [e1]; simp)
        · exact z
      refine br_f (nI_ne0 hp0 (jt_p31 hp)) (H _ as fl _ a6 a7 a8 hx hf (by rw [e2]; exact List.Perm.refl _) (fun _ => by rw [e2, List.append_nil]) (fun z => absurd z (by omega)) (fun z => absurd z (by omega)))
  · refine jt_relT hy hf (by omega) (by omega) (fun f1 we b6 b7 b8 hf1 pm1 => ?_)
    have pl := pm1.length_eq
    rw [List.length_append] at pl
    refine pk_eq h 2 (fun e2 => ?_) (fun e2 => ?_)
    · exact H x as f1 _ b6 b7 b8 hx hf1 (List.Perm.append_left as pm1) (fun z => absurd z (by omega)) (fun z => absurd z (by omega)) (fun _ => rfl)
    · refine jt_relT hx hf1 (by omega) (by omega) (fun f2 we b6 b7 b8 hf2 pm2 => ?_)
      exact H (nI 0) [] f2 _ b6 b7 b8 (jt_nil c0) hf2 (pm2.trans (List.Perm.append_left as pm1)) (fun z => absurd z (by omega)) (fun _ => rfl) (fun z => absurd z (by omega))

theorem jt_fin {post : Int32 → St1 → Prop} {h t p : Nat} {r1 r2 : Int32} {ls us fl : List Nat} {bo : Bool} (hh : h < 3) (ht : t < 32) (hp0 : 0 < p) (hp : p < 256) (e9 : a9 t = nI p) (e11 : a11 t = r1) (e12 : a12 t = if bo = true then 1 else 0) (h1 : jt_TR a1 a2 a4 r1 ls) (h2 : jt_TR a1 a2 a4 r2 us) (sl : (ls.map a3).Pairwise (· < ·)) (nd : (ls ++ p :: us).Nodup) (hl : (ls ++ p :: us).length ≤ 64) (hf : jt_fl a6 fl) (hfl : fl.length < 256)
    (H : ∀ r fl' we lo hi ex b1 b2 b4 b6 b7 b8, jt_TR b1 b2 b4 r (ls ++ ((if jt_st h bo = true then [p] else []) ++ us)) → jt_OFF (ls ++ p :: us) a1 a2 a4 b1 b2 b4 → jt_fl b6 fl' → fl' = (if jt_st h bo = true then [] else [p]) ++ fl → post r (nI fl'.length, we, lo, hi, ex, b1, b2, a3, b4, a5, b6, b7, b8, a9, a10, a11, a12, a13)) :
    wpX_finished post (nI fl.length, we, lo, hi, ex, a1, a2, a3, a4, a5, a6, a7, a8, a9, a10, a11, a12, a13) (nI h) (nI t) r2 := by
  have T1 : jt_st h bo = true → wX_finished_31 post (nI t) r2 (nI p) (nI fl.length) we lo hi ex a1 a2 a3 a4 a5 a6 a7 a8 a9 a10 a11 a12 a13 := by
    intro hs
    rw [if_pos hs, if_pos hs] at H
    unfold wX_finished_31 wX_finished_36
    rw [nI_clamp (show t < 2 ^ 31 by omega), e11]
    refine br_f (by decide) ⟨pk_in t 32 ht, jt_join (w := 0) h1 h2 hp0 hp nd (by omega) (fun r b1 b2 b4 b7 b8 u o _ => ?_)⟩
    exact H r fl _ _ _ _ b1 b2 b4 a6 b7 b8 u o hf rfl
  have T0 : jt_st h bo = false → wX_finished_36 post (nI t) r2 (nI p) 0 (nI fl.length) we lo hi ex a1 a2 a3 a4 a5 a6 a7 a8 a9 a10 a11 a12 a13 := by
    intro hs
    have hs' : ¬ jt_st h bo = true := by rw [hs]; decide
    rw [if_neg hs', if_neg hs'] at H
    unfold wX_finished_36
    rw [nI_clamp (show t < 2 ^ 31 by omega), e11]
    have nd2 : (ls ++ us).Nodup := by grind
    have hl2 : (ls ++ us).length ≤ 64 := by rw [jt_len] at hl; rw [List.length_append]; omega
    refine br_t rfl (jt_release (EX := [p]) (Or.inr ⟨p, rfl, rfl, hp0, hp⟩) hf hfl (fun b6 hb6 => ⟨pk_in t 32 ht, jt_join0 (by rw [e11]; exact h1) h2 sl nd2 hl2 (fun r we lo hi ex b1 b2 b4 b7 b8 u o => ?_)⟩))
    refine H r ([p] ++ fl) _ _ _ _ b1 b2 b4 b6 b7 b8 u (jt_om o ?_ ?_) hb6 rfl
    · have q1 := jt_n0 h1
      have q2 := jt_n0 h2
      have q3 : (0 : Nat) ≠ p := by omega
      simp [q1, q2, q3]
    · intro j hj
      rcases List.mem_append.mp hj with hj | hj
      · simp [hj]
      · simp [hj]
  unfold wpX_finished
  dsimp only
  rw [nI_clamp (show t < 2 ^ 31 by omega), e9, e12]
  refine ⟨pk_in t 32 ht, nm_e ?_⟩
  refine pk_eq h 0 (fun e => T1 (by rw [e]; rfl)) (fun e => ⟨pk_in t 32 ht, ?_⟩)
  unfold wX_finished_28
  refine pk_eq h 1 (fun e1 => ?_) (fun e1 => ?_)
  · cases bo with
    | true => exact br_t rfl (T1 (by rw [e1]; rfl))
    | false => exact br_f (by decide) (T0 (by rw [e1]; rfl))
  · have e2 : h = 2 := by omega
    cases bo with
    | true => exact br_f (by decide) (T0 (by rw [e2]; rfl))
    | false => exact br_t rfl (T1 (by rw [e2]; rfl))
end
end
section
section
/-- all nodes of a step of the combination, each once -/
theorem jt_cn {al ar LS EX RS fl : List Nat} {p : Nat} (nd : ((al ++ p :: ar) ++ ((LS ++ (EX ++ RS)) ++ fl)).Nodup) : ∀ a, al.count a + (if (p == a) = true then 1 else 0) + ar.count a + LS.count a + EX.count a + RS.count a + fl.count a ≤ 1 := by
  intro a
  have h := List.nodup_iff_count.mp nd a
  simp only [List.count_append, List.count_cons] at h
  omega
theorem jt_cpm {al ar LS EX RS fl ls us f2 f3 M Mc : List Nat} {p : Nat} (p1 : (ls ++ f2).Perm (al ++ (LS ++ (EX ++ fl)))) (p2 : (us ++ f3).Perm (ar ++ (RS ++ f2))) (hM : ∀ a, M.count a + Mc.count a = if (p == a) = true then 1 else 0) : ((ls ++ (M ++ us)) ++ (Mc ++ f3)).Perm ((al ++ p :: ar) ++ ((LS ++ (EX ++ RS)) ++ fl)) := by
  rw [List.perm_iff_count]
  intro a
  have e1 := p1.count_eq a
  have e2 := p2.count_eq a
  have e3 := hM a
  simp only [List.count_append, List.count_cons] at *
  omega

variable {fc we lo hi ex : Int32} {a1 a2 a3 a4 a5 a6 a7 a8 a9 a10 a11 a12 a13 : Nat → Int32}

/-- what a combination of as and bs gives: r with the nodes rs, fl' free -/
def jt_CB (h : Nat) (K a1 a2 a4 : Nat → Int32) (as bs fl : List Nat) (b1 b2 b4 b6 : Nat → Int32) (r : Int32) (rs fl' : List Nat) : Prop :=
  jt_TR b1 b2 b4 r rs ∧ (rs.map K).Pairwise (· < ·) ∧ (∀ z, z ∈ rs.map K ↔ jt_op h (z ∈ as.map K) (z ∈ bs.map K)) ∧ (rs ++ fl').Perm (as ++ (bs ++ fl)) ∧ jt_fl b6 fl' ∧ jt_OFF (as ++ bs) a1 a2 a4 b1 b2 b4 ∧ (∀ j, j ∈ rs → j ∈ as ++ bs) ∧ rs.length ≤ as.length + bs.length

/-- one side is nothing -/
theorem jt_cb0 {post : Int32 → St1 → Prop} {h t : Nat} (hh : h < 3) {as bs fl : List Nat} {x y res : Int32} {n n' : Nat} (hx : jt_TR a1 a2 a4 x as) (hy : jt_TR a1 a2 a4 y bs) (h0 : as = [] ∨ bs = []) (sa : (as.map a3).Pairwise (· < ·)) (sb : (bs.map a3).Pairwise (· < ·)) (hf : jt_fl a6 fl) (hl : as.length + bs.length ≤ 60) (hfl : as.length + bs.length + fl.length ≤ 255) (hn : n ≤ n')
    (H : ∀ r rs fl' x y we lo hi ex b1 b2 b4 b6 b7 b8 b9 b10 b11 b12 b13 m, jt_CB h a3 a1 a2 a4 as bs fl b1 b2 b4 b6 r rs fl' → (∀ j, j < t → b9 j = a9 j ∧ b10 j = a10 j ∧ b11 j = a11 j ∧ b12 j = a12 j ∧ b13 j = a13 j) → n ≤ m → wX_combined_15 post (nI h) m (nI t) x y r 0 (nI fl'.length) we lo hi ex b1 b2 a3 b4 a5 b6 b7 b8 b9 b10 b11 b12 b13) :
    wX_combined_131 post (wX_combined_15 post (nI h) n') (nI h) (nI t) x y res 1 (nI fl.length) we lo hi ex a1 a2 a3 a4 a5 a6 a7 a8 a9 a10 a11 a12 a13 := by
  unfold wX_combined_131
  refine br_f (by decide) (jt_none hh hx hy h0 hf hl hfl (fun r rs fl' we b6 b7 b8 t1 hb6 pm e0 e1 e2 => ?_))
  have q0 : 0 ∉ as ++ bs := by
    have q1 := jt_n0 hx
    have q2 := jt_n0 hy
    simp [q1, q2]
  refine H r rs fl' _ _ _ _ _ _ a1 a2 a4 b6 b7 b8 a9 a10 a11 a12 a13 n' ⟨t1, ?_, ?_, pm, hb6, jt_or q0, ?_, ?_⟩ (fun j _ => ⟨rfl, rfl, rfl, rfl, rfl⟩) hn
  · rcases (by omega : h = 0 ∨ h = 1 ∨ h = 2) with z | z | z
    · rw [e0 z]
      rcases h0 with z | z
      · rw [z, List.nil_append]; exact sb
      · rw [z, List.append_nil]; exact sa
    · rw [e1 z]; exact List.Pairwise.nil
    · rw [e2 z]; exact sa
  · intro z
    rcases (by omega : h = 0 ∨ h = 1 ∨ h = 2) with q | q | q
    · rw [e0 q, q]; simp [jt_op]
    · rw [e1 q, q]
      rcases h0 with z | z
      · rw [z]; simp [jt_op]
      · rw [z]; simp [jt_op]
    · rw [e2 q, q]
      rcases h0 with z | z
      · rw [z]; simp [jt_op]
      · rw [z]; simp [jt_op]
  · intro j hj
    rcases (by omega : h = 0 ∨ h = 1 ∨ h = 2) with z | z | z
    · rw [e0 z] at hj; exact hj
    · rw [e1 z] at hj; exact absurd hj (by simp)
    · rw [e2 z] at hj; exact List.mem_append_left _ hj
  · rcases (by omega : h = 0 ∨ h = 1 ∨ h = 2) with z | z | z
    · rw [e0 z, List.length_append]; exact Nat.le_refl _
    · rw [e1 z]; simp
    · rw [e2 z]; omega

theorem jt_cb {post : Int32 → St1 → Prop} {h : Nat} (hh : h < 3) : ∀ (k : Nat) (as bs fl : List Nat) (t : Nat) (x y res we lo hi ex : Int32) (a1 a2 a4 a6 a7 a8 a9 a10 a11 a12 a13 : Nat → Int32) (n n' : Nat), as.length ≤ k → jt_TR a1 a2 a4 x as → jt_TR a1 a2 a4 y bs → (as.map a3).Pairwise (· < ·) → (bs.map a3).Pairwise (· < ·) → (as ++ (bs ++ fl)).Nodup → jt_fl a6 fl → as.length + bs.length ≤ 60 → as.length + bs.length + fl.length ≤ 255 → t + as.length ≤ 32 → n + (4 * as.length + 1) ≤ n' →
    (∀ r rs fl' x y we lo hi ex b1 b2 b4 b6 b7 b8 b9 b10 b11 b12 b13 m, jt_CB h a3 a1 a2 a4 as bs fl b1 b2 b4 b6 r rs fl' → (∀ j, j < t → b9 j = a9 j ∧ b10 j = a10 j ∧ b11 j = a11 j ∧ b12 j = a12 j ∧ b13 j = a13 j) → n ≤ m → wX_combined_15 post (nI h) m (nI t) x y r 0 (nI fl'.length) we lo hi ex b1 b2 a3 b4 a5 b6 b7 b8 b9 b10 b11 b12 b13) →
    wX_combined_15 post (nI h) n' (nI t) x y res 1 (nI fl.length) we lo hi ex a1 a2 a3 a4 a5 a6 a7 a8 a9 a10 a11 a12 a13 := by
  intro k
  induction k with
  | zero =>
    intro as bs fl t x y res we lo hi ex a1 a2 a4 a6 a7 a8 a9 a10 a11 a12 a13 n n' hk hx hy sa sb nd hf hl hfl ht hn H
    have e : as = [] := List.eq_nil_of_length_eq_zero (by omega)
    obtain ⟨n', rfl⟩ : ∃ m, n' = m + 1 := ⟨n' - 1, by omega⟩
    rcases jt_cs hx with ⟨rfl, _, _⟩ | ⟨p, l1, l2, _, _, _, e1, _⟩
    · refine br_f (by decide) ?_
      unfold wX_combined_25
      exact br_f (by decide) (br_t rfl (jt_cb0 hh hx hy (Or.inl e) sa sb hf hl hfl (by omega) H))
    · exact absurd (congrArg List.length (e.symm.trans e1)) (by rw [jt_len]; simp)
  | succ k ih =>
    intro as bs fl t x y res we lo hi ex a1 a2 a4 a6 a7 a8 a9 a10 a11 a12 a13 n n' hk hx hy sa sb nd hf hl hfl ht hn H
    obtain ⟨n', rfl⟩ : ∃ m, n' = m + 1 := ⟨n' - 1, by omega⟩
    refine br_f (by decide) ?_
    unfold wX_combined_25
    refine br_f (by decide) ?_
    rcases jt_cs hx with ⟨rfl, e, _⟩ | ⟨p, al, ar, rfl, hp0, hp, e, hcp, tl, tr⟩
    · exact br_t rfl (jt_cb0 hh hx hy (Or.inl e) sa sb hf hl hfl (by omega) H)
    refine br_f (nI_ne0 hp0 (jt_p31 hp)) ?_
    rcases jt_cs hy with ⟨rfl, eb, _⟩ | ⟨q, _, _, rfl, hq0, hq, eb, _⟩
    · exact br_t rfl (jt_cb0 hh hx hy (Or.inr eb) sa sb hf hl hfl (by omega) H)
    refine br_f (nI_ne0 hq0 (jt_p31 hq)) ?_
    subst e
    clear eb
    have ndb : bs.Nodup := (List.nodup_append.mp (List.nodup_append.mp nd).2.1).1
    rw [jt_len] at hk hl hfl ht hn
    rw [nI_clamp (jt_p31 hp)]
    refine ⟨pk_in p 256 hp, jt_split hy sb ndb (by omega) (fun lo' hi' ex' LS EX RS b1 b2 b4 b7 b8 eb t1 t2 t3 hE k0 k1 k2 o1 => ?_)⟩
    subst eb
    have sA := jt_sr1 sa
    have sLS : (LS.map a3).Pairwise (· < ·) := by rw [List.map_append, List.pairwise_append] at sb; exact sb.1
    have sRS : (RS.map a3).Pairwise (· < ·) := by
      rw [List.map_append, List.pairwise_append, List.map_append, List.pairwise_append] at sb
      exact sb.2.1.2.1
    have hc := jt_cn nd
    have lb : LS.length + EX.length + RS.length = (LS ++ (EX ++ RS)).length := by simp only [List.length_append]; omega
    have q0 : 0 ∉ (al ++ p :: ar) ++ (LS ++ (EX ++ RS)) := by
      have q1 := jt_n0 hx
      have q2 := jt_n0 hy
      intro z
      exact (List.mem_append.mp z).elim q1 q2
    -- who is apart from whom
    have dal : ∀ j, j ∈ al → j ∉ LS ++ (EX ++ RS) := jt_dj (fun a => by have := hc a; simp only [List.count_append]; omega)
    have dar : ∀ j, j ∈ ar → j ∉ LS ++ (EX ++ RS) := jt_dj (fun a => by have := hc a; simp only [List.count_append]; omega)
    have pc : al.count p = 0 ∧ ar.count p = 0 ∧ LS.count p = 0 ∧ EX.count p = 0 ∧ RS.count p = 0 ∧ fl.count p = 0 := by
      have := hc p
      simp only [beq_self_eq_true, if_true] at this
      omega
    have npb : p ∉ LS ++ (EX ++ RS) := by
      rw [← List.count_eq_zero]
      simp only [List.count_append]
      omega
    have ob := o1.2 p npb
    have tl1 := jt_off tl o1 dal
    have tr1 := jt_off tr o1 dar
    obtain ⟨kh, rfl, hkh, _⟩ := jt_ix t2
    have hEx : (ex' = nI 0 ∧ EX = []) ∨ ∃ e, ex' = nI e ∧ EX = [e] ∧ 0 < e ∧ e < 256 := jt_one t3 hE
    dsimp only
    rw [nI_clamp (show t < 2 ^ 31 by omega), jt_n16 p hp, jt_n16 kh hkh]
    refine ⟨pk_in t 32 (by omega), nm_e ⟨pk_in t 32 (by omega), nm_e ?_⟩⟩
    -- both branches, by the flag
    have main : ∀ (bo : Bool) (v : Int32), (v = if bo = true then 1 else 0) → (bo = true ↔ EX ≠ []) → wX_combined_93 post (wX_combined_15 post (nI h) n') (nI h) (nI t) (nI p) res 1 v (nI t) (nI fl.length) (nI 0) lo' (nI kh) ex' b1 b2 a3 b4 a5 a6 b7 b8 (upd a9 t (nI p)) (upd a10 t (nI kh)) a11 a12 a13 := by
      intro bo v hv hbo
      have hvn : vp_nar .boolean v = v := by
        rw [hv]
        cases bo with
        | true => exact jt_v1
        | false => exact jt_v0
      unfold wX_combined_93
      rw [nI_clamp (show t < 2 ^ 31 by omega), hvn]
      refine ⟨pk_in t 32 (by omega), nm_e ⟨pk_in t 32 (by omega), nm_e ?_⟩⟩
      refine jt_release hEx hf (by omega) (fun b6 hb6 => ?_)
      refine nm_r (nI_1 t) ?_
      rw [nI_clamp (jt_p31 hp)]
      refine ⟨pk_in p 256 hp, nm_e ?_⟩
      rw [ob.1]
      -- the lower parts
      have nd1 : (al ++ (LS ++ (EX ++ fl))).Nodup := by
        rw [List.nodup_iff_count]
        intro a
        have := hc a
        simp only [List.count_append]
        omega
      refine ih al LS (EX ++ fl) (t + 1) (a1 p) lo' res _ lo' (nI kh) ex' b1 b2 b4 b6 b7 b8 _ _ _ _ _ (n + (4 * ar.length + 3)) n' (by omega) tl1 t1 sA.2.2.1 sLS nd1 hb6 (by omega) (by rw [List.length_append]; omega) (by omega) (by omega) (fun r1 ls f2 x y we lo hi ex c1 c2 c4 c6 c7 c8 c9 c10 c11 c12 c13 m1 CB1 ag1 hm1 => ?_)
      obtain ⟨u1, s1, mm1, pm1, hf2, o2, sub1, len1⟩ := CB1
      obtain ⟨m1, rfl⟩ : ∃ m, m1 = m + 1 := ⟨m1 - 1, by omega⟩
      have pl1 := pm1.length_eq
      simp only [List.length_append] at pl1
      have pq1 : ∀ a, ls.count a + f2.count a = al.count a + LS.count a + EX.count a + fl.count a := by
        intro a
        have := pm1.count_eq a
        simp only [List.count_append] at this
        omega
      have dar2 : ∀ j, j ∈ ar → j ∉ al ++ LS := jt_dj (fun a => by have := hc a; simp only [List.count_append]; omega)
      have dRS2 : ∀ j, j ∈ RS → j ∉ al ++ LS := jt_dj (fun a => by have := hc a; simp only [List.count_append]; omega)
      have np2 : p ∉ al ++ LS := by
        rw [← List.count_eq_zero]
        simp only [List.count_append]
        omega
      have oc := o2.2 p np2
      have tr2 := jt_off tr1 o2 dar2
      have tu2 := jt_off t2 o2 dRS2
      obtain ⟨kr, rfl, hkr, _⟩ := jt_ix u1
      have g := ag1 t (by omega)
      rw [pk_us, pk_us, pk_us, pk_us] at g
      refine br_t rfl ?_
      refine br_f (nI_nle (by omega) (by omega)) ?_
      unfold wX_combined_25
      refine br_t rfl ?_
      unfold wX_combined_131
      refine br_t rfl (nm_r (nI_pred t) ?_)
      rw [nI_clamp (show t < 2 ^ 31 by omega), g.1, g.2.1, g.2.2.2.2, nI_clamp (jt_p31 hp), jt_n16 kr hkr, oc.2.1, ob.2.1]
      refine ⟨pk_in t 32 (by omega), br_t rfl ⟨pk_in t 32 (by omega), nm_e ⟨pk_in t 32 (by omega), nm_e ⟨pk_in t 32 (by omega), pk_in p 256 hp, nm_e ⟨pk_in t 32 (by omega), nm_e ?_⟩⟩⟩⟩⟩
      -- the upper parts
      have nd2 : (ar ++ (RS ++ f2)).Nodup := by
        rw [List.nodup_iff_count]
        intro a
        have h1 := hc a
        have h2 := pq1 a
        simp only [List.count_append]
        omega
      refine ih ar RS f2 (t + 1) (a2 p) (nI kh) _ _ _ _ _ c1 c2 c4 c6 c7 c8 _ _ _ _ _ (n + 1) m1 (by omega) tr2 tu2 sA.2.2.2.1 sRS nd2 hf2 (by omega) (by omega) (by omega) (by omega) (fun r2 us f3 x y we lo hi ex d1 d2 d4 d6 d7 d8 d9 d10 d11 d12 d13 m2 CB2 ag2 hm2 => ?_)
      obtain ⟨u2, s2, mm2, pm2, hf3, o3, sub2, len2⟩ := CB2
      obtain ⟨m2, rfl⟩ : ∃ m, m2 = m + 1 := ⟨m2 - 1, by omega⟩
      have pl2 := pm2.length_eq
      simp only [List.length_append] at pl2
      have pq2 : ∀ a, us.count a + f3.count a = ar.count a + RS.count a + f2.count a := by
        intro a
        have := pm2.count_eq a
        simp only [List.count_append] at this
        omega
      have g2 := ag2 t (by omega)
      rw [pk_us, pk_us, g.1, g.2.2.2.1] at g2
      have dls : ∀ j, j ∈ ls → j ∉ ar ++ RS := jt_dj (fun a => by have h1 := hc a; have h2 := pq1 a; simp only [List.count_append]; omega)
      have u1' := jt_off u1 o3 dls
      have nd3 : (ls ++ p :: us).Nodup := by
        rw [List.nodup_iff_count]
        intro a
        have h1 := hc a
        have h2 := pq1 a
        have h3 := pq2 a
        simp only [List.count_append, List.count_cons]
        omega
      refine br_t rfl ?_
      refine br_f (nI_nle (by omega) (by omega)) ?_
      unfold wX_combined_25
      refine br_t rfl ?_
      unfold wX_combined_131
      refine br_t rfl (nm_r (nI_pred t) ?_)
      rw [nI_clamp (show t < 2 ^ 31 by omega), g2.2.2.2.2]
      refine ⟨pk_in t 32 (by omega), br_f (by decide) ?_⟩
      refine jt_fin (bo := bo) hh (by omega) hp0 hp g2.1 g2.2.2.1 (g2.2.2.2.1.trans hv) u1' u2 s1 nd3 (by rw [jt_len]; omega) hf3 (by omega) (fun r f4 we lo hi ex e1 e2 e4 e6 e7 e8 v1 o4 hf4 ef4 => ?_)
      refine nm_r (pk_m1 t) ?_
      have PP := jt_cbp hh sa k0 k1 k2 hbo s1 mm1 s2 mm2
      refine H r _ f4 _ _ _ _ _ _ e1 e2 e4 e6 e7 e8 d9 d10 d11 d12 d13 m2 ⟨v1, PP.1, PP.2, ?_, hf4, ?_, ?_, ?_⟩ (fun j hj => ?_) (by omega)
      · rw [ef4]
        refine jt_cpm pm1 pm2 (fun a => ?_)
        by_cases hs : jt_st h bo = true
        · rw [if_pos hs, if_pos hs]; simp only [List.count_cons, List.count_nil]; omega
        · rw [if_neg hs, if_neg hs]; simp only [List.count_cons, List.count_nil]; omega
      · refine jt_ot (jt_ot (jt_ot o1 o2 q0 ?_ ?_) o3 q0 (fun _ h => h) ?_) o4 q0 (fun _ h => h) ?_
        · intro j hj; exact List.mem_append_right _ hj
        · intro j hj
          rcases List.mem_append.mp hj with hj | hj
          · simp [hj]
          · simp [hj]
        · intro j hj
          rcases List.mem_append.mp hj with hj | hj
          · simp [hj]
          · simp [hj]
        · intro j hj
          rcases List.mem_append.mp hj with hj | hj
          · rcases List.mem_append.mp (sub1 j hj) with hj | hj
            · simp [hj]
            · simp [hj]
          · rcases List.mem_cons.mp hj with hj | hj
            · simp [hj]
            · rcases List.mem_append.mp (sub2 j hj) with hj | hj
              · simp [hj]
              · simp [hj]
      · intro j hj
        rcases List.mem_append.mp hj with hj | hj
        · rcases List.mem_append.mp (sub1 j hj) with hj | hj
          · simp [hj]
          · simp [hj]
        · rcases List.mem_append.mp hj with hj | hj
          · have hj' : j = p := by
              by_cases hs : jt_st h bo = true
              · rw [if_pos hs] at hj; exact List.mem_singleton.mp hj
              · rw [if_neg hs] at hj; exact absurd hj (by simp)
            simp [hj']
          · rcases List.mem_append.mp (sub2 j hj) with hj | hj
            · simp [hj]
            · simp [hj]
      · have lM : (if jt_st h bo = true then [p] else []).length ≤ 1 := by
          by_cases hs : jt_st h bo = true
          · rw [if_pos hs]; simp
          · rw [if_neg hs]; simp
        rw [jt_len, ← lb]
        simp only [List.length_append] at *
        omega
      · have w1 := ag1 j (by omega)
        have w2 := ag2 j (by omega)
        rw [pk_un (show j ≠ t by omega), pk_un (show j ≠ t by omega), pk_un (show j ≠ t by omega), pk_un (show j ≠ t by omega)] at w1
        rw [pk_un (show j ≠ t by omega), pk_un (show j ≠ t by omega)] at w2
        exact ⟨w2.1.trans w1.1, w2.2.1.trans w1.2.1, w2.2.2.1.trans w1.2.2.1, w2.2.2.2.1.trans w1.2.2.2.1, w2.2.2.2.2.trans w1.2.2.2.2⟩
    rcases hEx with ⟨rfl, hE0⟩ | ⟨e, rfl, hE1, he0, he⟩
    · exact br_t rfl (main false 0 rfl (by rw [hE0]; simp))
    · exact br_f (nI_ne0 he0 (jt_p31 he)) (main true 1 rfl (by rw [hE1]; simp))

/-- the combination, whole -/
theorem jt_comb {post : Int32 → St1 → Prop} {h : Nat} {x y : Int32} {as bs fl : List Nat} (hh : h < 3) (hx : jt_TR a1 a2 a4 x as) (hy : jt_TR a1 a2 a4 y bs) (sa : (as.map a3).Pairwise (· < ·)) (sb : (bs.map a3).Pairwise (· < ·)) (nd : (as ++ (bs ++ fl)).Nodup) (hf : jt_fl a6 fl) (hl : as.length + bs.length ≤ 60) (hfl : as.length + bs.length + fl.length ≤ 255) (ha : as.length ≤ 32)
    (H : ∀ r rs fl' we lo hi ex b1 b2 b4 b6 b7 b8 b9 b10 b11 b12 b13, jt_CB h a3 a1 a2 a4 as bs fl b1 b2 b4 b6 r rs fl' → post r (nI fl'.length, we, lo, hi, ex, b1, b2, a3, b4, a5, b6, b7, b8, b9, b10, b11, b12, b13)) :
    wpX_combined post (nI fl.length, we, lo, hi, ex, a1, a2, a3, a4, a5, a6, a7, a8, a9, a10, a11, a12, a13) (nI h) x y := by
  unfold wpX_combined
  refine ⟨1 + (4 * as.length + 1), jt_cb hh as.length as bs fl 0 x y 0 we lo hi ex a1 a2 a4 a6 a7 a8 a9 a10 a11 a12 a13 1 _ (Nat.le_refl _) hx hy sa sb nd hf hl hfl (by omega) (Nat.le_refl _) (fun r rs fl' x y we lo hi ex b1 b2 b4 b6 b7 b8 b9 b10 b11 b12 b13 m CB _ hm => ?_)⟩
  obtain ⟨m, rfl⟩ : ∃ k, m = k + 1 := ⟨m - 1, by omega⟩
  exact br_t rfl (pk_le 0 0 (fun _ => H r rs fl' we lo hi ex b1 b2 b4 b6 b7 b8 b9 b10 b11 b12 b13 CB) (fun g => absurd g (by omega)))
end
end
section
section
/-! sorted lists of keys -/
def jt_srt (q : List Int32) : Prop := q.Pairwise (· < ·) ∧ ∀ z, z ∈ q → -10 ≤ z.toInt ∧ z.toInt ≤ 9
def jt_all : List Int32 := (List.range 20).map (fun k => nI k - nI 10)
theorem jt_allM {z : Int32} (h1 : -10 ≤ z.toInt) (h2 : z.toInt ≤ 9) : z ∈ jt_all := by
  refine List.mem_map.mpr ⟨(z.toInt + 10).toNat, List.mem_range.mpr (by omega), ?_⟩
  rw [← Int32.toInt_inj, pk_sub_toInt (by omega) (by omega)]
  omega
theorem jt_srtN {q : List Int32} (h : q.Pairwise (· < ·)) : q.Nodup := h.imp (fun {a b} hab e => by rw [e] at hab; exact jt_lt4 hab)
theorem jt_srtL {q : List Int32} (h : jt_srt q) : q.length ≤ 20 := by
  have := List.Nodup.length_le_of_subset (jt_srtN h.1) (fun z hz => jt_allM (h.2 z hz).1 (h.2 z hz).2)
  simpa [jt_all] using this
theorem jt_srtL1 {q : List Int32} {x : Int32} (h : jt_srt q) (hx : x ∉ q) (h1 : -10 ≤ x.toInt) (h2 : x.toInt ≤ 9) : q.length ≤ 19 := by
  have := List.Nodup.length_le_of_subset (l₁ := x :: q) (l₂ := jt_all) (List.nodup_cons.mpr ⟨hx, jt_srtN h.1⟩) (by
    intro z hz
    rcases List.mem_cons.mp hz with e | hz
    · rw [e]; exact jt_allM h1 h2
    · exact jt_allM (h.2 z hz).1 (h.2 z hz).2)
  simp [jt_all] at this
  omega
def jt_cnt (x : Int32) (q : List Int32) : Nat := q.countP (fun z => decide (z < x))
theorem jt_cnt0 {x : Int32} {q : List Int32} (h : ∀ z, z ∈ q → ¬ z < x) : jt_cnt x q = 0 := by
  refine List.countP_eq_zero.mpr (fun z hz => ?_)
  simpa using h z hz
theorem jt_cnt1 {x : Int32} {q : List Int32} (h : ∀ z, z ∈ q → z < x) : jt_cnt x q = q.length := by
  refine List.countP_eq_length.mpr (fun z hz => ?_)
  simpa using h z hz
theorem jt_cntA (x : Int32) (q r : List Int32) : jt_cnt x (q ++ r) = jt_cnt x q + jt_cnt x r := List.countP_append
theorem jt_cntL (x : Int32) (q : List Int32) : jt_cnt x q ≤ q.length := List.countP_le_length
/-- a sorted list's element stands behind as many as are smaller -/
theorem jt_rk {q : List Int32} (h : q.Pairwise (· < ·)) : ∀ {k : Nat} {v : Int32}, q[k]? = some v → jt_cnt v q = k := by
  induction q with
  | nil => intro k v e; exact absurd e (by simp)
  | cons a t ih =>
    intro k v e
    rw [List.pairwise_cons] at h
    cases k with
    | zero =>
      simp only [List.getElem?_cons_zero, Option.some.injEq] at e
      subst e
      refine jt_cnt0 (fun z hz hlt => ?_)
      rcases List.mem_cons.mp hz with e | hz
      · rw [e] at hlt; exact jt_lt4 hlt
      · exact jt_lt4 (jt_lt1 hlt (h.1 z hz))
    | succ k =>
      rw [List.getElem?_cons_succ] at e
      have hm : v ∈ t := List.mem_of_getElem? e
      have := ih h.2 e
      have hav := h.1 v hm
      have e1 : jt_cnt v (a :: t) = jt_cnt v ([a] ++ t) := rfl
      rw [e1, jt_cntA, this, jt_cnt1 (q := [a]) (fun z hz => by rw [List.mem_singleton.mp hz]; exact hav)]
      simp only [List.length_cons, List.length_nil]
      omega
theorem jt_nx {q : List Int32} (h : q.Pairwise (· < ·)) {k : Nat} {v w : Int32} (e1 : q[k]? = some v) (e2 : q[k + 1]? = some w) : v < w := by
  induction q generalizing k with
  | nil => exact absurd e1 (by simp)
  | cons a t ih =>
    rw [List.pairwise_cons] at h
    rw [List.getElem?_cons_succ] at e2
    cases k with
    | zero =>
      simp only [List.getElem?_cons_zero, Option.some.injEq] at e1
      rw [← e1]
      exact h.1 w (List.mem_of_getElem? e2)
    | succ k =>
      rw [List.getElem?_cons_succ] at e1
      exact ih h.2 e1 e2

variable {fc we lo hi ex : Int32} {a1 a2 a3 a4 a5 a6 a7 a8 a9 a10 a11 a12 a13 : Nat → Int32}

theorem jt_is {post : Int32 → Prop} {s : Nat} (hs : s < 4) (H : post 1) : wpX_isSet post (fc, we, lo, hi, ex, a1, a2, a3, a4, a5, a6, a7, a8, a9, a10, a11, a12, a13) (nI s) := by
  unfold wpX_isSet
  exact br_f (nI_pos (by omega)) (pk_lt 3 s (fun g => absurd g (by omega)) (fun _ => H))

theorem jt_h17 {post : Int32 → Prop} {z : Int32} : ∀ (n : Nat) (x : Int32) (ns : List Nat), ns.length < n → jt_TR a1 a2 a4 x ns → (ns.map a3).Pairwise (· < ·) → (z ∈ ns.map a3 → post 1) → (z ∉ ns.map a3 → post 0) → wX_has_17 post z fc we lo hi ex a1 a2 a3 a4 a5 a6 a7 a8 a9 a10 a11 a12 a13 n x := by
  intro n
  induction n with
  | zero => intro x ns hn; exact absurd hn (by omega)
  | succ n ih =>
    intro x ns hn hx sn H1 H0
    rcases jt_cs hx with ⟨rfl, e, _⟩ | ⟨p, ls, rs, rfl, hp0, hp, e, _, tl, tr⟩
    · subst e
      exact br_t rfl (br_t rfl (H0 (by simp)))
    · subst e
      have sc := jt_sr1 sn
      rw [jt_len] at hn
      unfold wX_has_17
      rw [nI_clamp (jt_p31 hp)]
      refine br_f (nI_ne0 hp0 (jt_p31 hp)) ⟨pk_in p 256 hp, br_c (fun g => ?_) (fun g => ⟨pk_in p 256 hp, br_c (fun g2 => ⟨pk_in p 256 hp, nm_e ?_⟩) (fun g2 => ⟨pk_in p 256 hp, nm_e ?_⟩)⟩)⟩
      · exact br_f (nI_ne0 hp0 (jt_p31 hp)) (H1 (by rw [← g]; simp))
      · have hlt : a3 p < z := jt_lt3 g2 (fun e => g e.symm)
        refine ih (a2 p) rs (by omega) tr sc.2.2.2.1 (fun h => H1 (by simp only [List.map_append, List.map_cons, List.mem_append, List.mem_cons]; exact Or.inr (Or.inr h))) (fun h => H0 (fun h2 => ?_))
        simp only [List.map_append, List.map_cons, List.mem_append, List.mem_cons] at h2
        rcases h2 with h2 | h2 | h2
        · obtain ⟨j, hj, ej⟩ := List.mem_map.mp h2
          have := sc.1 j hj
          rw [ej] at this
          exact jt_lt4 (jt_lt1 this hlt)
        · exact g h2.symm
        · exact h h2
      · have hlt : z < a3 p := jt_lt2 g2
        refine ih (a1 p) ls (by omega) tl sc.2.2.1 (fun h => H1 (by simp only [List.map_append, List.map_cons, List.mem_append, List.mem_cons]; exact Or.inl h)) (fun h => H0 (fun h2 => ?_))
        simp only [List.map_append, List.map_cons, List.mem_append, List.mem_cons] at h2
        rcases h2 with h2 | h2 | h2
        · exact h h2
        · exact g h2.symm
        · obtain ⟨j, hj, ej⟩ := List.mem_map.mp h2
          have := sc.2.1 j hj
          rw [ej] at this
          exact jt_lt4 (jt_lt1 this hlt)

theorem jt_r20 {post : Int32 → Prop} {z : Int32} : ∀ (n : Nat) (x : Int32) (ns : List Nat) (c : Nat), ns.length < n → jt_TR a1 a2 a4 x ns → (ns.map a3).Pairwise (· < ·) → post (nI (c + jt_cnt z (ns.map a3))) → wX_rank_20 post z fc we lo hi ex a1 a2 a3 a4 a5 a6 a7 a8 a9 a10 a11 a12 a13 n x (nI c) := by
  intro n
  induction n with
  | zero => intro x ns c hn; exact absurd hn (by omega)
  | succ n ih =>
    intro x ns c hn hx sn H
    rcases jt_cs hx with ⟨rfl, e, _⟩ | ⟨p, ls, rs, rfl, hp0, hp, e, _, tl, tr⟩
    · subst e
      exact br_t rfl H
    · subst e
      have sc := jt_sr1 sn
      rw [jt_len] at hn
      have em : (ls ++ p :: rs).map a3 = ls.map a3 ++ ([a3 p] ++ rs.map a3) := by simp only [List.map_append, List.map_cons, List.cons_append, List.nil_append]
      rw [em, jt_cntA, jt_cntA] at H
      obtain ⟨l, el, hl, hcl, _⟩ := jt_ix tl
      unfold wX_rank_20
      rw [nI_clamp (jt_p31 hp)]
      refine br_f (nI_ne0 hp0 (jt_p31 hp)) ⟨pk_in p 256 hp, br_c (fun g => ⟨pk_in p 256 hp, nm_e ?_⟩) (fun g => ⟨pk_in p 256 hp, ?_⟩)⟩
      · refine ih (a1 p) ls c (by omega) tl sc.2.2.1 ?_
        have z1 : jt_cnt z [a3 p] = 0 := jt_cnt0 (fun y hy hlt => by rw [List.mem_singleton.mp hy] at hlt; exact absurd g (fun g => by rw [Int32.le_iff_toInt_le] at g; rw [Int32.lt_iff_toInt_lt] at hlt; omega))
        have z2 : jt_cnt z (rs.map a3) = 0 := jt_cnt0 (fun y hy hlt => by
          obtain ⟨j, hj, rfl⟩ := List.mem_map.mp hy
          have h1 := sc.2.1 j hj
          rw [Int32.le_iff_toInt_le] at g
          rw [Int32.lt_iff_toInt_lt] at hlt h1
          omega)
        rw [z1, z2] at H
        exact H
      · rw [el, nI_clamp (jt_p31 hl), hcl]
        refine ⟨pk_in l 256 hl, nm_r (e' := nI (c + (ls.length + 1))) (by rw [nI_1, nI_add]) ⟨pk_in p 256 hp, nm_e ?_⟩⟩
        refine ih (a2 p) rs _ (by omega) tr sc.2.2.2.1 ?_
        have hlt : a3 p < z := jt_lt2 g
        have z1 : jt_cnt z [a3 p] = 1 := jt_cnt1 (q := [a3 p]) (fun y hy => by rw [List.mem_singleton.mp hy]; exact hlt)
        have z2 : jt_cnt z (ls.map a3) = ls.length := by
          rw [jt_cnt1 (fun y hy => by
            obtain ⟨j, hj, rfl⟩ := List.mem_map.mp hy
            exact jt_lt1 (sc.1 j hj) hlt), List.length_map]
        rw [z1, z2] at H
        rw [show c + (ls.length + 1) + jt_cnt z (rs.map a3) = c + (ls.length + (1 + jt_cnt z (rs.map a3))) from by omega]
        exact H

theorem jt_a39 {post : Int32 → Prop} {v : Int32} (H : post v) : ∀ (n : Nat) (x : Int32) (ns : List Nat) (k : Nat), ns.length ≤ n → ns.length ≤ 100 → jt_TR a1 a2 a4 x ns → (ns.map a3)[k]? = some v → wX_at_39 post fc we lo hi ex a1 a2 a3 a4 a5 a6 a7 a8 a9 a10 a11 a12 a13 n x (nI k) := by
  intro n
  induction n with
  | zero =>
    intro x ns k hn _ hx e
    have e1 : ns = [] := List.eq_nil_of_length_eq_zero (by omega)
    rw [e1] at e
    exact absurd e (by simp)
  | succ n ih =>
    intro x ns k hn hn2 hx e
    rcases jt_cs hx with ⟨rfl, e1, _⟩ | ⟨p, ls, rs, rfl, hp0, hp, e1, _, tl, tr⟩
    · rw [e1] at e
      exact absurd e (by simp)
    · subst e1
      have hk : k < (ls ++ p :: rs).length := by
        have := (List.getElem?_eq_some_iff.mp e).1
        simpa only [List.length_map] using this
      rw [jt_len] at hn hn2 hk
      obtain ⟨l, el, hl, hcl, _⟩ := jt_ix tl
      rw [List.map_append, List.map_cons, List.getElem?_append, List.length_map] at e
      unfold wX_at_39
      rw [nI_clamp (jt_p31 hp), el, nI_clamp (jt_p31 hl), hcl]
      refine ⟨pk_in p 256 hp, pk_in l 256 hl, pk_eq k ls.length (fun g => ⟨pk_in p 256 hp, ?_⟩) (fun g => ⟨pk_in p 256 hp, pk_in l 256 hl, pk_le ls.length k (fun g2 => ?_) (fun g2 => ?_)⟩)⟩
      · rw [if_neg (by omega), g, Nat.sub_self, List.getElem?_cons_zero] at e
        rw [Option.some.inj e]
        exact H
      · refine ⟨pk_in p 256 hp, pk_in l 256 hl, nm_r (e' := nI (k - (ls.length + 1))) (by rw [nI_1, pk_sub (by omega)]) ⟨pk_in p 256 hp, nm_e ?_⟩⟩
        refine ih (a2 p) rs _ (by omega) (by omega) tr ?_
        rw [if_neg (by omega), show k - ls.length = (k - (ls.length + 1)) + 1 from by omega, List.getElem?_cons_succ] at e
        exact e
      · refine ⟨pk_in p 256 hp, nm_r el.symm ?_⟩
        refine ih (a1 p) ls _ (by omega) (by omega) tl ?_
        rw [if_pos g2] at e
        exact e
end
end
section
section
/-- the four sets N (keys Q), other nodes X in use, the free nodes fl: all of them apart -/
def jt_S (a1 a2 a3 a4 a5 a6 : Nat → Int32) (X fl : List Nat) (N : Nat → List Nat) (Q : Nat → List Int32) : Prop :=
  jt_fl a6 fl ∧ (∀ i, i < 4 → jt_TR a1 a2 a4 (a5 i) (N i) ∧ (N i).map a3 = Q i ∧ jt_srt (Q i)) ∧ (∀ x, (N 0).count x + (N 1).count x + (N 2).count x + (N 3).count x + X.count x + fl.count x ≤ 1) ∧ (N 0).length + (N 1).length + (N 2).length + (N 3).length + X.length + fl.length = 255
def jt_fu {α : Type} (f : Nat → α) (k : Nat) (v : α) : Nat → α := fun j => if j = k then v else f j
theorem jt_fus {α : Type} {f : Nat → α} {k : Nat} {v : α} : jt_fu f k v k = v := if_pos rfl
theorem jt_fun {α : Type} {f : Nat → α} {k j : Nat} {v : α} (h : j ≠ k) : jt_fu f k v j = f j := if_neg h
def jt_SET (u : St1) (Q : Nat → List Int32) : Prop := match u with
  | (fc, we, lo, hi, ex, a1, a2, a3, a4, a5, a6, a7, a8, a9, a10, a11, a12, a13) => ∃ N fl, fc = nI fl.length ∧ jt_S a1 a2 a3 a4 a5 a6 [] fl N Q

variable {a1 a2 a3 a4 a5 a6 b1 b2 b3 b4 b6 : Nat → Int32} {X X' fl fl' S rs : List Nat} {N : Nat → List Nat} {Q : Nat → List Int32} {i j d : Nat} {r : Int32}

theorem jt_S1 (h : jt_S a1 a2 a3 a4 a5 a6 X fl N Q) (hi : i < 4) : ∀ x, (N i).count x + X.count x + fl.count x ≤ 1 := by
  intro x
  have := h.2.2.1 x
  rcases (by omega : i = 0 ∨ i = 1 ∨ i = 2 ∨ i = 3) with rfl | rfl | rfl | rfl <;> omega
theorem jt_S2 (h : jt_S a1 a2 a3 a4 a5 a6 X fl N Q) (hi : i < 4) (hj : j < 4) (hne : i ≠ j) : ∀ x, (N i).count x + (N j).count x + X.count x + fl.count x ≤ 1 := by
  intro x
  have := h.2.2.1 x
  rcases (by omega : i = 0 ∨ i = 1 ∨ i = 2 ∨ i = 3) with rfl | rfl | rfl | rfl <;> rcases (by omega : j = 0 ∨ j = 1 ∨ j = 2 ∨ j = 3) with rfl | rfl | rfl | rfl <;> omega
theorem jt_SL (h : jt_S a1 a2 a3 a4 a5 a6 X fl N Q) (hi : i < 4) : (N i).length ≤ 20 := by
  obtain ⟨_, e, s⟩ := h.2.1 i hi
  have := jt_srtL s
  rw [← e, List.length_map] at this
  exact this
theorem jt_Sq (h : jt_S a1 a2 a3 a4 a5 a6 X fl N Q) (hi : i < 4) : (N i).length = (Q i).length := by
  rw [← (h.2.1 i hi).2.1, List.length_map]
theorem jt_Sf (h : jt_S a1 a2 a3 a4 a5 a6 X fl N Q) : 175 ≤ X.length + fl.length ∧ X.length + fl.length ≤ 255 := by
  have h0 := jt_SL h (i := 0) (by omega)
  have h1 := jt_SL h (i := 1) (by omega)
  have h2 := jt_SL h (i := 2) (by omega)
  have h3 := jt_SL h (i := 3) (by omega)
  have := h.2.2.2
  omega
theorem jt_Sl1 (h : jt_S a1 a2 a3 a4 a5 a6 X fl N Q) (hi : i < 4) : (N i).length + X.length + fl.length ≤ 255 := by
  have := h.2.2.2
  rcases (by omega : i = 0 ∨ i = 1 ∨ i = 2 ∨ i = 3) with rfl | rfl | rfl | rfl <;> omega
theorem jt_Sc0 (h : jt_S a1 a2 a3 a4 a5 a6 X fl N Q) : a4 0 = nI 0 := jt_c0 (h.2.1 0 (by omega)).1

theorem jt_Sx (h : jt_S a1 a2 a3 a4 a5 a6 X fl N Q) (p : X'.Perm X) : jt_S a1 a2 a3 a4 a5 a6 X' fl N Q := by
  refine ⟨h.1, h.2.1, fun x => ?_, ?_⟩
  · have := h.2.2.1 x
    have := p.count_eq x
    omega
  · have := h.2.2.2
    have := p.length_eq
    omega

/-- the sets stay, X and the free nodes change -/
theorem jt_Sm (h : jt_S a1 a2 a3 a4 a5 a6 X fl N Q) (o : jt_OFF S a1 a2 a4 b1 b2 b4) (hS : ∀ j, j ∈ S → j ∈ X ++ fl) (k : ∀ j, j ∉ fl → b3 j = a3 j) (hf : jt_fl b6 fl') (p : (X' ++ fl').Perm (X ++ fl)) : jt_S b1 b2 b3 b4 a5 b6 X' fl' N Q := by
  refine ⟨hf, fun i hi => ?_, fun x => ?_, ?_⟩
  · obtain ⟨t, e, s⟩ := h.2.1 i hi
    have dj : ∀ j, j ∈ N i → j ∉ X ++ fl := jt_dj (fun a => by have := jt_S1 h hi a; simp only [List.count_append]; omega)
    refine ⟨jt_off t o (fun j hj z => dj j hj (hS j z)), ?_, s⟩
    rw [← e]
    exact List.map_congr_left (fun j hj => k j (fun z => dj j hj (List.mem_append_right _ z)))
  · have h1 := h.2.2.1 x
    have h2 := p.count_eq x
    simp only [List.count_append] at h2
    omega
  · have h1 := h.2.2.2
    have h2 := p.length_eq
    simp only [List.length_append] at h2
    omega

/-- the set d gets a new tree -/
theorem jt_Sp (h : jt_S a1 a2 a3 a4 a5 a6 X fl N Q) (hd : d < 4) (o : jt_OFF S a1 a2 a4 b1 b2 b4) (hS : ∀ j, j ∈ S → j ∈ N d ++ (X ++ fl)) (k : ∀ j, j ∉ fl → b3 j = a3 j) (hf : jt_fl b6 fl') (t : jt_TR b1 b2 b4 r rs) (s : jt_srt (rs.map b3)) (p : (rs ++ (X' ++ fl')).Perm (N d ++ (X ++ fl))) :
    jt_S b1 b2 b3 b4 (upd a5 d r) b6 X' fl' (jt_fu N d rs) (jt_fu Q d (rs.map b3)) := by
  refine ⟨hf, fun i hi => ?_, fun x => ?_, ?_⟩
  · by_cases e : i = d
    · subst e
      rw [pk_us, jt_fus, jt_fus]
      exact ⟨t, rfl, s⟩
    · rw [pk_un e, jt_fun e, jt_fun e]
      obtain ⟨t, e1, s⟩ := h.2.1 i hi
      have dj : ∀ j, j ∈ N i → j ∉ N d ++ (X ++ fl) := jt_dj (fun a => by have := jt_S2 h hi hd e a; simp only [List.count_append]; omega)
      refine ⟨jt_off t o (fun j hj z => dj j hj (hS j z)), ?_, s⟩
      rw [← e1]
      exact List.map_congr_left (fun j hj => k j (fun z => dj j hj (List.mem_append_right _ (List.mem_append_right _ z))))
  · have h1 := h.2.2.1 x
    have h2 := p.count_eq x
    simp only [List.count_append] at h2
    rcases (by omega : d = 0 ∨ d = 1 ∨ d = 2 ∨ d = 3) with rfl | rfl | rfl | rfl
    · show rs.count x + (N 1).count x + (N 2).count x + (N 3).count x + X'.count x + fl'.count x ≤ 1
      omega
    · show (N 0).count x + rs.count x + (N 2).count x + (N 3).count x + X'.count x + fl'.count x ≤ 1
      omega
    · show (N 0).count x + (N 1).count x + rs.count x + (N 3).count x + X'.count x + fl'.count x ≤ 1
      omega
    · show (N 0).count x + (N 1).count x + (N 2).count x + rs.count x + X'.count x + fl'.count x ≤ 1
      omega
  · have h1 := h.2.2.2
    have h2 := p.length_eq
    simp only [List.length_append] at h2
    rcases (by omega : d = 0 ∨ d = 1 ∨ d = 2 ∨ d = 3) with rfl | rfl | rfl | rfl
    · show rs.length + (N 1).length + (N 2).length + (N 3).length + X'.length + fl'.length = 255
      omega
    · show (N 0).length + rs.length + (N 2).length + (N 3).length + X'.length + fl'.length = 255
      omega
    · show (N 0).length + (N 1).length + rs.length + (N 3).length + X'.length + fl'.length = 255
      omega
    · show (N 0).length + (N 1).length + (N 2).length + rs.length + X'.length + fl'.length = 255
      omega
end
section
variable {fc we lo hi ex : Int32} {a1 a2 a3 a4 a5 a6 a7 a8 a9 a10 a11 a12 a13 : Nat → Int32} {X fl : List Nat} {N : Nat → List Nat} {Q : Nat → List Int32}

theorem jt_Scopy {post : Int32 → St1 → Prop} {i : Nat} (hS : jt_S a1 a2 a3 a4 a5 a6 X fl N Q) (hi4 : i < 4) (hX : X.length ≤ 100)
    (H : ∀ r fl' cs we b1 b2 b3 b4 b7 b8, jt_TR b1 b2 b4 r cs → cs.map b3 = Q i → jt_S b1 b2 b3 b4 a5 a6 (cs ++ X) fl' N Q → jt_OFF fl a1 a2 a4 b1 b2 b4 → (∀ j, j ∉ fl → b3 j = a3 j) → post r (nI fl'.length, we, lo, hi, ex, b1, b2, b3, b4, a5, a6, b7, b8, a9, a10, a11, a12, a13)) :
    wpX_copyOf post (nI fl.length, we, lo, hi, ex, a1, a2, a3, a4, a5, a6, a7, a8, a9, a10, a11, a12, a13) (a5 i) := by
  obtain ⟨t, e, s⟩ := hS.2.1 i hi4
  have hL := jt_SL hS hi4
  have hF := jt_Sf hS
  have h1 := jt_S1 hS hi4
  have nd : fl.Nodup := List.nodup_iff_count.mpr (fun a => by have := h1 a; omega)
  refine jt_copy t hS.1 nd (jt_dj (fun a => by have := h1 a; omega)) (by omega) (by omega) (by omega) (fun r fl' cs we b1 b2 b3 b4 b7 b8 t1 hf1 pm km o k => ?_)
  refine H r fl' cs we b1 b2 b3 b4 b7 b8 t1 (km.trans e) ?_ o k
  refine jt_Sm hS o (fun j hj => List.mem_append_right _ hj) k hf1 ?_
  rw [List.perm_iff_count]
  intro a
  have := pm.count_eq a
  simp only [List.count_append] at *
  omega

theorem jt_Scomb {post : Int32 → St1 → Prop} {h : Nat} {x y : Int32} {as bs : List Nat} (hh : h < 3) (hx : jt_TR a1 a2 a4 x as) (hy : jt_TR a1 a2 a4 y bs) (sa : jt_srt (as.map a3)) (sb : jt_srt (bs.map a3)) (hS : jt_S a1 a2 a3 a4 a5 a6 (as ++ (bs ++ X)) fl N Q)
    (H : ∀ r rs fl' we lo hi ex b1 b2 b4 b6 b7 b8 b9 b10 b11 b12 b13, jt_TR b1 b2 b4 r rs → jt_srt (rs.map a3) → (∀ z, z ∈ rs.map a3 ↔ jt_op h (z ∈ as.map a3) (z ∈ bs.map a3)) → jt_S b1 b2 a3 b4 a5 b6 (rs ++ X) fl' N Q → jt_OFF (as ++ bs) a1 a2 a4 b1 b2 b4 → post r (nI fl'.length, we, lo, hi, ex, b1, b2, a3, b4, a5, b6, b7, b8, b9, b10, b11, b12, b13)) :
    wpX_combined post (nI fl.length, we, lo, hi, ex, a1, a2, a3, a4, a5, a6, a7, a8, a9, a10, a11, a12, a13) (nI h) x y := by
  have la := jt_srtL sa
  have lb := jt_srtL sb
  rw [List.length_map] at la lb
  have hF := jt_Sf hS
  have hc : ∀ a, as.count a + bs.count a + X.count a + fl.count a ≤ 1 := fun a => by
    have := jt_S1 hS (i := 0) (by omega) a
    simp only [List.count_append] at this
    omega
  simp only [List.length_append] at hF
  refine jt_comb hh hx hy sa.1 sb.1 (List.nodup_iff_count.mpr (fun a => by have := hc a; simp only [List.count_append]; omega)) hS.1 (by omega) (by omega) (by omega) (fun r rs fl' we lo hi ex b1 b2 b4 b6 b7 b8 b9 b10 b11 b12 b13 CB => ?_)
  obtain ⟨t1, s1, m1, pm, hf1, o, sub, len⟩ := CB
  refine H r rs fl' we lo hi ex b1 b2 b4 b6 b7 b8 b9 b10 b11 b12 b13 t1 ⟨s1, fun z hz => (jt_opo ((m1 z).mp hz)).elim (sa.2 z) (sb.2 z)⟩ m1 ?_ o
  refine jt_Sm hS o (fun j hj => ?_) (fun _ _ => rfl) hf1 ?_
  · rcases List.mem_append.mp hj with hj | hj
    · simp [hj]
    · simp [hj]
  · rw [List.perm_iff_count]
    intro a
    have := pm.count_eq a
    simp only [List.count_append] at *
    omega

theorem jt_Srel {post : St1 → Prop} {x : Int32} {as : List Nat} (hx : jt_TR a1 a2 a4 x as) (la : as.length ≤ 60) (hS : jt_S a1 a2 a3 a4 a5 a6 (as ++ X) fl N Q)
    (H : ∀ fl' we b6 b7 b8, jt_S a1 a2 a3 a4 a5 b6 X fl' N Q → post (nI fl'.length, we, lo, hi, ex, a1, a2, a3, a4, a5, b6, b7, b8, a9, a10, a11, a12, a13)) : wpX_releaseTree post (nI fl.length, we, lo, hi, ex, a1, a2, a3, a4, a5, a6, a7, a8, a9, a10, a11, a12, a13) x := by
  have hF := jt_Sf hS
  simp only [List.length_append] at hF
  refine jt_relT hx hS.1 (by omega) (by omega) (fun fl' we b6 b7 b8 hf pm => H fl' we b6 b7 b8 ?_)
  refine jt_Sm hS (jt_or (S := []) (by simp)) (fun j hj => absurd hj (by simp)) (fun _ _ => rfl) hf ?_
  rw [List.perm_iff_count]
  intro a
  have := pm.count_eq a
  simp only [List.count_append] at *
  omega

/-- trees of X outlive a copy or a combination -/
theorem jt_keep {L R C L' R' C' K K' : Nat → Int32} {x : Int32} {cs S fl : List Nat} (t : jt_TR L R C x cs) (o : jt_OFF S L R C L' R' C') (k : ∀ j, j ∉ fl → K' j = K j) (d1 : ∀ a, cs.count a + S.count a ≤ 1) (d2 : ∀ a, cs.count a + fl.count a ≤ 1) : jt_TR L' R' C' x cs ∧ cs.map K' = cs.map K :=
  ⟨jt_off t o (jt_dj d1), List.map_congr_left (fun j hj => k j (jt_dj d2 j hj))⟩

/-- what is in one and not in the other, twice -/
theorem jt_Seither {post : Int32 → St1 → Prop} {a b : Nat} {x y : Int32} {as bs : List Nat} (ha : a < 4) (hb : b < 4) (hx : jt_TR a1 a2 a4 x as) (hy : jt_TR a1 a2 a4 y bs) (sa : jt_srt (as.map a3)) (sb : jt_srt (bs.map a3)) (hS : jt_S a1 a2 a3 a4 a5 a6 (as ++ (bs ++ [])) fl N Q)
    (H : ∀ r rs fl' we lo hi ex b1 b2 b3 b4 b6 b7 b8 b9 b10 b11 b12 b13, jt_TR b1 b2 b4 r rs → jt_srt (rs.map b3) → jt_S b1 b2 b3 b4 a5 b6 (rs ++ []) fl' N Q → post r (nI fl'.length, we, lo, hi, ex, b1, b2, b3, b4, a5, b6, b7, b8, b9, b10, b11, b12, b13)) :
    wpX_combinedEither post (nI fl.length, we, lo, hi, ex, a1, a2, a3, a4, a5, a6, a7, a8, a9, a10, a11, a12, a13) (nI a) (nI b) x y := by
  unfold wpX_combinedEither
  refine jt_Scomb (h := 2) (by omega) hx hy sa sb hS (fun r1 rs1 f1 we lo hi ex b1 b2 b4 b6 b7 b8 b9 b10 b11 b12 b13 t1 s1 m1 S1 o1 => ?_)
  dsimp only
  rw [nI_clamp (show a < 2 ^ 31 by omega)]
  have l1 := jt_srtL s1
  rw [List.length_map] at l1
  refine ⟨pk_in a 4 ha, jt_Scopy S1 ha (by rw [List.length_append]; simp only [List.length_nil]; omega) (fun r2 f2 ca we c1 c2 c3 c4 c7 c8 t2 k2 S2 o2 g2 => ?_)⟩
  dsimp only
  rw [nI_clamp (show b < 2 ^ 31 by omega)]
  have cS1 : ∀ z, rs1.count z + f1.count z ≤ 1 := fun z => by
    have := jt_S1 S1 (i := 0) (by omega) z
    simp only [List.count_append, List.count_nil] at this
    omega
  obtain ⟨t1', k1'⟩ := jt_keep t1 o2 g2 cS1 cS1
  have sQa := (hS.2.1 a ha).2.2
  have sQb := (hS.2.1 b hb).2.2
  have l2 : ca.length ≤ 20 := by have := jt_srtL sQa; rw [← k2, List.length_map] at this; exact this
  refine ⟨pk_in b 4 hb, jt_Scopy S2 hb (by simp only [List.length_append, List.length_nil]; omega) (fun r3 f3 cb we d1 d2 d3 d4 d7 d8 t3 k3 S3 o3 g3 => ?_)⟩
  dsimp only
  have cS2 : ∀ z, ca.count z + rs1.count z + f2.count z ≤ 1 := fun z => by
    have := jt_S1 S2 (i := 0) (by omega) z
    simp only [List.count_append, List.count_nil] at this
    omega
  obtain ⟨t1'', k1''⟩ := jt_keep t1' o3 g3 (fun z => by have := cS2 z; omega) (fun z => by have := cS2 z; omega)
  obtain ⟨t2', k2'⟩ := jt_keep t2 o3 g3 (fun z => by have := cS2 z; omega) (fun z => by have := cS2 z; omega)
  have cS3 : ∀ z, cb.count z + ca.count z + rs1.count z + f3.count z ≤ 1 := fun z => by
    have := jt_S1 S3 (i := 0) (by omega) z
    simp only [List.count_append, List.count_nil] at this
    omega
  refine jt_Scomb (h := 2) (X := rs1 ++ []) (by omega) t3 t2' (by rw [k3]; exact sQb) (by rw [k2', k2]; exact sQa) S3 (fun r4 rs4 f4 we lo hi ex e1 e2 e4 e6 e7 e8 e9 e10 e11 e12 e13 t4 s4 m4 S4 o4 => ?_)
  dsimp only
  obtain ⟨t1v, _⟩ := jt_keep (K := d3) (K' := d3) (fl := []) t1'' o4 (fun _ _ => rfl) (fun z => by have := cS3 z; simp only [List.count_append]; omega) (fun z => by have := cS3 z; simp only [List.count_nil]; omega)
  have S4' : jt_S e1 e2 d3 e4 a5 e6 (rs1 ++ (rs4 ++ [])) f4 N Q := by
    refine jt_Sx S4 ?_
    rw [List.perm_iff_count]
    intro z
    simp only [List.count_append]
    omega
  refine jt_Scomb (h := 0) (X := []) (by omega) t1v t4 (by rw [k1'', k1']; exact s1) s4 S4' (fun r5 rs5 f5 we lo hi ex g1 g2 g4 g6 g7 g8 g9 g10 g11 g12 g13 t5 s5 m5 S5 o5 => ?_)
  exact H r5 rs5 f5 we lo hi ex g1 g2 d3 g4 g6 g7 g8 g9 g10 g11 g12 g13 t5 s5 S5
end
end
section
section
variable {fc we lo hi ex : Int32} {a1 a2 a3 a4 a5 a6 a7 a8 a9 a10 a11 a12 a13 : Nat → Int32} {Q : Nat → List Int32} {s : Nat} {z : Int32}

theorem jt_size {post : Int32 → Prop} (hS : jt_SET (fc, we, lo, hi, ex, a1, a2, a3, a4, a5, a6, a7, a8, a9, a10, a11, a12, a13) Q) (hs : s < 4) (H : post (nI (Q s).length)) : wpX_size post (fc, we, lo, hi, ex, a1, a2, a3, a4, a5, a6, a7, a8, a9, a10, a11, a12, a13) (nI s) := by
  obtain ⟨N, fl, rfl, h⟩ := hS
  obtain ⟨t, e, _⟩ := h.2.1 s hs
  obtain ⟨k, ek, hk, hc, _⟩ := jt_ix t
  unfold wpX_size
  refine jt_is hs (br_f (by decide) ?_)
  rw [nI_clamp (show s < 2 ^ 31 by omega), ek, nI_clamp (jt_p31 hk), hc, jt_Sq h hs]
  exact ⟨pk_in s 4 hs, pk_in k 256 hk, H⟩

theorem jt_has {post : Int32 → Prop} (hS : jt_SET (fc, we, lo, hi, ex, a1, a2, a3, a4, a5, a6, a7, a8, a9, a10, a11, a12, a13) Q) (hs : s < 4) (H1 : z ∈ Q s → post 1) (H0 : z ∉ Q s → post 0) : wpX_has post (fc, we, lo, hi, ex, a1, a2, a3, a4, a5, a6, a7, a8, a9, a10, a11, a12, a13) (nI s) z := by
  obtain ⟨N, fl, rfl, h⟩ := hS
  obtain ⟨t, e, g⟩ := h.2.1 s hs
  unfold wpX_has
  refine jt_is hs (br_f (by decide) ?_)
  rw [nI_clamp (show s < 2 ^ 31 by omega)]
  refine ⟨pk_in s 4 hs, nm_e ⟨(N s).length + 1, jt_h17 _ _ (N s) (by omega) t (by rw [e]; exact g.1) (by rw [e]; exact H1) (by rw [e]; exact H0)⟩⟩

theorem jt_rank {post : Int32 → Prop} (hS : jt_SET (fc, we, lo, hi, ex, a1, a2, a3, a4, a5, a6, a7, a8, a9, a10, a11, a12, a13) Q) (hs : s < 4) (H : post (nI (jt_cnt z (Q s)))) : wpX_rank post (fc, we, lo, hi, ex, a1, a2, a3, a4, a5, a6, a7, a8, a9, a10, a11, a12, a13) (nI s) z := by
  obtain ⟨N, fl, rfl, h⟩ := hS
  obtain ⟨t, e, g⟩ := h.2.1 s hs
  unfold wpX_rank
  refine jt_is hs (br_f (by decide) ?_)
  rw [nI_clamp (show s < 2 ^ 31 by omega)]
  refine ⟨pk_in s 4 hs, nm_e ⟨(N s).length + 1, jt_r20 _ _ (N s) 0 (by omega) t (by rw [e]; exact g.1) (by rw [e, Nat.zero_add]; exact H)⟩⟩

theorem jt_at {post : Int32 → Prop} {k : Nat} {v : Int32} (hS : jt_SET (fc, we, lo, hi, ex, a1, a2, a3, a4, a5, a6, a7, a8, a9, a10, a11, a12, a13) Q) (hs : s < 4) (hv : (Q s)[k]? = some v) (H : post v) : wpX_at post (fc, we, lo, hi, ex, a1, a2, a3, a4, a5, a6, a7, a8, a9, a10, a11, a12, a13) (nI s) (nI k) := by
  obtain ⟨N, fl, rfl, h⟩ := hS
  obtain ⟨t, e, g⟩ := h.2.1 s hs
  obtain ⟨q, eq, hq, hc, _⟩ := jt_ix t
  have hl := jt_SL h hs
  have hk : k < (N s).length := by
    rw [jt_Sq h hs]
    exact (List.getElem?_eq_some_iff.mp hv).1
  have A := jt_a39 (fc := nI fl.length) (we := we) (lo := lo) (hi := hi) (ex := ex) (a3 := a3) (a5 := a5) (a6 := a6) (a7 := a7) (a8 := a8) (a9 := a9) (a10 := a10) (a11 := a11) (a12 := a12) (a13 := a13) H (N s).length (a5 s) (N s) k (Nat.le_refl _) (by omega) t (by rw [e]; exact hv)
  unfold wpX_at
  refine jt_is hs (br_f (by decide) (br_f (nI_pos (by omega)) ?_))
  rw [nI_clamp (show s < 2 ^ 31 by omega)]
  refine ⟨pk_in s 4 hs, pk_in q 256 hq eq, ?_⟩
  refine pk_lt k (N s).length (fun _ => ⟨pk_in s 4 hs, nm_e ⟨_, A⟩⟩) (fun g => absurd g (by omega)) rfl ?_
  rw [eq, nI_clamp (jt_p31 hq), hc]

theorem jt_atE {post : Int32 → Prop} (hS : jt_SET (fc, we, lo, hi, ex, a1, a2, a3, a4, a5, a6, a7, a8, a9, a10, a11, a12, a13) Q) (hs : s < 4) (H : post 0) : wpX_at post (fc, we, lo, hi, ex, a1, a2, a3, a4, a5, a6, a7, a8, a9, a10, a11, a12, a13) (nI s) (nI (Q s).length) := by
  obtain ⟨N, fl, rfl, h⟩ := hS
  obtain ⟨t, e, g⟩ := h.2.1 s hs
  obtain ⟨q, eq, hq, hc, _⟩ := jt_ix t
  have hl := jt_SL h hs
  have hq2 := jt_Sq h hs
  unfold wpX_at
  refine jt_is hs (br_f (by decide) (br_f (nI_pos (by omega)) ?_))
  rw [nI_clamp (show s < 2 ^ 31 by omega), eq, nI_clamp (jt_p31 hq), hc]
  refine ⟨pk_in s 4 hs, pk_in q 256 hq, ?_⟩
  exact pk_lt (Q s).length (N s).length (fun g => absurd g (by omega)) (fun _ => H)

theorem jt_atN {post : Int32 → Prop} (hs : s < 4) (H : post 0) : wpX_at post (fc, we, lo, hi, ex, a1, a2, a3, a4, a5, a6, a7, a8, a9, a10, a11, a12, a13) (nI s) (-1) := by
  unfold wpX_at
  exact jt_is hs (br_f (by decide) (br_t (by decide) H))

theorem jt_ceil {post : Int32 → Prop} (hS : jt_SET (fc, we, lo, hi, ex, a1, a2, a3, a4, a5, a6, a7, a8, a9, a10, a11, a12, a13) Q) (hs : s < 4) (hc : jt_cnt z (Q s) < (Q s).length) (H : post (nI (jt_cnt z (Q s)))) : wpX_ceiling post (fc, we, lo, hi, ex, a1, a2, a3, a4, a5, a6, a7, a8, a9, a10, a11, a12, a13) (nI s) z := by
  unfold wpX_ceiling
  refine jt_is hs (br_f (by decide) (jt_rank hS hs ?_))
  obtain ⟨N, fl, rfl, h⟩ := hS
  obtain ⟨t, e, g⟩ := h.2.1 s hs
  obtain ⟨q, eq, hq, hc2, _⟩ := jt_ix t
  have hl := jt_SL h hs
  have hq2 := jt_Sq h hs
  rw [nI_clamp (show s < 2 ^ 31 by omega), eq, nI_clamp (jt_p31 hq), hc2]
  exact ⟨pk_in s 4 hs, pk_in q 256 hq, pk_le (N s).length (jt_cnt z (Q s)) (fun g => absurd g (by omega)) (fun _ => H)⟩

theorem jt_SETs (hS : jt_SET (fc, we, lo, hi, ex, a1, a2, a3, a4, a5, a6, a7, a8, a9, a10, a11, a12, a13) Q) (hs : s < 4) : jt_srt (Q s) := by
  obtain ⟨N, fl, rfl, h⟩ := hS
  exact (h.2.1 s hs).2.2

theorem jt_rks {post : Int32 → Prop} (hS : jt_SET (fc, we, lo, hi, ex, a1, a2, a3, a4, a5, a6, a7, a8, a9, a10, a11, a12, a13) Q) (hs : s < 4) (H : post 1) : ∀ (n k : Nat), (Q s).length - k < n → k ≤ (Q s).length → wL_ranks_8 post (nI s) (nI (Q s).length) fc we lo hi ex a1 a2 a3 a4 a5 a6 a7 a8 a9 a10 a11 a12 a13 n (nI k) := by
  have hq := jt_SETs hS hs
  have hl := jt_srtL hq
  intro n
  induction n with
  | zero => intro k hn; exact absurd hn (by omega)
  | succ n ih =>
    intro k hn hk
    unfold wL_ranks_8
    refine pk_le (Q s).length k (fun g => ?_) (fun g => ?_)
    · have e : k = (Q s).length := by omega
      exact jt_atE hS hs (br_t rfl (jt_atN hs (br_t rfl H)))
    · have hv : (Q s)[k]? = some (Q s)[k] := List.getElem?_eq_getElem g
      have hm : (Q s)[k] ∈ Q s := List.getElem_mem g
      have hr := jt_rk hq.1 hv
      refine jt_at hS hs hv (jt_rank hS hs ?_)
      rw [hr]
      refine br_t rfl (jt_has hS hs (fun _ => br_f (by decide) ?_) (fun z => absurd hm z))
      refine jt_ceil hS hs (by rw [hr]; exact g) ?_
      rw [hr]
      refine br_t rfl (pk_le k 0 (fun g0 => nm_r (nI_1 k) (ih (k + 1) (by omega) (by omega))) (fun g0 => ?_))
      obtain ⟨j, rfl⟩ : ∃ j, k = j + 1 := ⟨k - 1, by omega⟩
      rw [nI_pred j]
      have hv2 : (Q s)[j]? = some (Q s)[j] := List.getElem?_eq_getElem (by omega)
      exact jt_at hS hs hv2 (br_t (jt_nx hq.1 hv2 hv) (nm_r (nI_1 (j + 1)) (ih (j + 1 + 1) (by omega) (by omega))))

theorem jt_ranks {post : Int32 → Prop} (hS : jt_SET (fc, we, lo, hi, ex, a1, a2, a3, a4, a5, a6, a7, a8, a9, a10, a11, a12, a13) Q) (hs : s < 4) (H : post 1) : wpL_ranks post (fc, we, lo, hi, ex, a1, a2, a3, a4, a5, a6, a7, a8, a9, a10, a11, a12, a13) (nI s) := by
  unfold wpL_ranks
  exact jt_size hS hs ⟨(Q s).length + 1, jt_rks hS hs H _ 0 (by omega) (by omega)⟩
end
end
section
section
theorem jt_srtS {q q' : List Int32} (h : jt_srt q) (s : q'.Sublist q) : jt_srt q' := ⟨h.1.sublist s, fun z hz => h.2 z (s.subset hz)⟩
theorem jt_srt0 : jt_srt [] := ⟨List.Pairwise.nil, fun z hz => absurd hz (by simp)⟩
theorem jt_srtI {A B : List Int32} {z : Int32} (h : jt_srt (A ++ B)) (h1 : ∀ y, y ∈ A → y < z) (h2 : ∀ y, y ∈ B → z < y) (h3 : -10 ≤ z.toInt) (h4 : z.toInt ≤ 9) : jt_srt (A ++ z :: B) := by
  obtain ⟨p, r⟩ := h
  rw [List.pairwise_append] at p
  refine ⟨?_, fun y hy => ?_⟩
  · rw [List.pairwise_append, List.pairwise_cons]
    refine ⟨p.1, ⟨h2, p.2.1⟩, fun a ha b hb => ?_⟩
    rcases List.mem_cons.mp hb with e | hb
    · rw [e]; exact h1 a ha
    · exact p.2.2 a ha b hb
  · rcases List.mem_append.mp hy with hy | hy
    · exact r y (List.mem_append_left _ hy)
    · rcases List.mem_cons.mp hy with e | hy
      · rw [e]; exact ⟨h3, h4⟩
      · exact r y (List.mem_append_right _ hy)
theorem jt_fuI {Q : Nat → List Int32} {s : Nat} : jt_fu Q s (Q s) = Q := by
  funext j
  by_cases e : j = s
  · rw [e, jt_fus]
  · rw [jt_fun e]

variable {fc we lo hi ex : Int32} {a1 a2 a3 a4 a5 a6 a7 a8 a9 a10 a11 a12 a13 : Nat → Int32} {Q : Nat → List Int32} {s d : Nat} {z : Int32}

theorem jt_add {post : Int32 → St1 → Prop} (hS : jt_SET (fc, we, lo, hi, ex, a1, a2, a3, a4, a5, a6, a7, a8, a9, a10, a11, a12, a13) Q) (hs : s < 4) (z1 : -10 ≤ z.toInt) (z2 : z.toInt ≤ 9)
    (H : ∀ r fc we lo hi ex a1 a2 a3 a4 a5 a6 a7 a8 a9 a10 a11 a12 a13 Q', jt_SET (fc, we, lo, hi, ex, a1, a2, a3, a4, a5, a6, a7, a8, a9, a10, a11, a12, a13) Q' → 0 ≤ r → post r (fc, we, lo, hi, ex, a1, a2, a3, a4, a5, a6, a7, a8, a9, a10, a11, a12, a13)) : wpX_add post (fc, we, lo, hi, ex, a1, a2, a3, a4, a5, a6, a7, a8, a9, a10, a11, a12, a13) (nI s) z := by
  unfold wpX_add
  refine jt_is hs (br_f (by decide) (jt_has hS hs (fun _ => br_f (by decide) (H 0 _ _ _ _ _ _ _ _ _ _ _ _ _ _ _ _ _ _ Q hS (by decide))) (fun hz => br_t rfl ?_)))
  obtain ⟨N, fl, rfl, h⟩ := hS
  obtain ⟨t, e, g⟩ := h.2.1 s hs
  obtain ⟨k, ek, hk, hc, _⟩ := jt_ix t
  have hl := jt_srtL1 g hz z1 z2
  rw [← jt_Sq h hs] at hl
  have hF := jt_Sf h
  simp only [List.length_nil] at hF
  have h1 := jt_S1 h hs
  have ndN : (N s).Nodup := List.nodup_iff_count.mpr (fun a => by have := h1 a; omega)
  rw [nI_clamp (show s < 2 ^ 31 by omega)]
  refine ⟨pk_in s 4 hs, pk_in k 256 hk ek, ?_⟩
  refine pk_lt (N s).length 20 (fun _ => ⟨pk_in s 4 hs, ?_⟩) (fun z => absurd z (by omega)) (by rw [ek, nI_clamp (jt_p31 hk), hc]) rfl
  refine jt_split t (by rw [e]; exact g.1) ndN (by omega) (fun lo' hi' ex' LS EX RS b1 b2 b4 b7 b8 eN t1 t2 t3 hE k0 k1 k2 o => ?_)
  have eE : EX = [] := by
    cases EX with
    | nil => rfl
    | cons j t =>
      refine absurd ?_ hz
      rw [← e, ← k0 j (by simp)]
      exact List.mem_map_of_mem (by rw [eN]; simp)
  subst eE
  cases fl with
  | nil => exact absurd hF.1 (by simp)
  | cons c f =>
    have hf := h.1
    obtain ⟨hc1, hc0, hc2, hf1⟩ := hf
    simp only [List.length_cons] at hF
    refine jt_new h.1 (by omega) ?_
    have cN : ∀ a, LS.count a + RS.count a + (if (c == a) = true then 1 else 0) + f.count a ≤ 1 := fun a => by
      have := h1 a
      rw [eN] at this
      simp only [List.count_append, List.count_cons, List.count_nil] at this
      omega
    have cc := cN c
    simp only [beq_self_eq_true, if_true] at cc
    have c1 : c ∉ LS := List.count_eq_zero.mp (by omega)
    have c2 : c ∉ RS := List.count_eq_zero.mp (by omega)
    have o1 : jt_OFF [c] b1 b2 b4 (upd b1 c 0) (upd b2 c 0) (upd b4 c 1) := jt_ou hc0 (fun j hj => ⟨pk_un hj, pk_un hj, pk_un hj⟩)
    have lN : LS.length + RS.length = (N s).length := by rw [eN]; simp only [List.length_append, List.length_nil]; omega
    refine jt_join_2 (w := 0) (jt_off1 t1 o1 c1) (jt_off1 t2 o1 c2) hc0 hc2 (List.nodup_iff_count.mpr (fun a => by have := cN a; simp only [List.count_append, List.count_cons]; omega)) (by rw [jt_len]; omega) (fun r d1 d2 d4 d7 d8 t4 o4 _ => ?_)
    obtain ⟨kr, rfl, hkr, _⟩ := jt_ix t4
    dsimp only
    rw [jt_n16 kr hkr]
    have hT : 0 ∉ N s ++ ([] ++ (c :: f)) := by
      have q1 := jt_n0 t
      have q2 := jt_fl0 h.1
      intro z
      exact (List.mem_append.mp z).elim q1 q2
    have oo : jt_OFF (N s ++ ([] ++ (c :: f))) a1 a2 a4 d1 d2 d4 := by
      refine jt_ot (jt_ot o o1 hT (fun j hj => List.mem_append_left _ hj) (fun j hj => ?_)) o4 hT (fun _ h => h) (fun j hj => ?_)
      · rw [List.mem_singleton.mp hj]; simp
      · rw [eN]
        rcases List.mem_append.mp hj with hj | hj
        · simp [hj]
        · rcases List.mem_cons.mp hj with hj | hj
          · simp [hj]
          · simp [hj]
    have em : (LS ++ c :: RS).map (upd a3 c z) = LS.map a3 ++ z :: RS.map a3 := by
      rw [List.map_append, List.map_cons, pk_us]
      rw [List.map_congr_left (f := upd a3 c z) (g := a3) (fun j hj => pk_un (fun z => c1 (z ▸ hj))), List.map_congr_left (f := upd a3 c z) (g := a3) (fun j hj => pk_un (fun z => c2 (z ▸ hj)))]
    have sr : jt_srt ((LS ++ c :: RS).map (upd a3 c z)) := by
      rw [em]
      refine jt_srtI ?_ (fun y hy => ?_) (fun y hy => ?_) z1 z2
      · have := e ▸ g
        rw [eN] at this
        simpa only [List.map_append, List.map_nil, List.nil_append] using this
      · obtain ⟨j, hj, rfl⟩ := List.mem_map.mp hy
        exact k1 j hj
      · obtain ⟨j, hj, rfl⟩ := List.mem_map.mp hy
        exact k2 j hj
    have fin := jt_Sp h hs (S := N s ++ ([] ++ (c :: f))) (X' := []) (fl' := f) oo (fun _ h => h) (b3 := upd a3 c z) (fun j hj => pk_un (fun z => hj (by rw [z]; simp))) hf1 t4 sr (by
      rw [List.perm_iff_count, eN]
      intro a
      simp only [List.count_append, List.count_cons, List.count_nil]
      omega)
    exact ⟨pk_in s 4 hs, nm_e (H 1 _ _ _ _ _ _ _ _ _ _ _ _ _ _ _ _ _ _ _ ⟨_, _, rfl, fin⟩ (by decide))⟩

theorem jt_remove {post : Int32 → St1 → Prop} (hS : jt_SET (fc, we, lo, hi, ex, a1, a2, a3, a4, a5, a6, a7, a8, a9, a10, a11, a12, a13) Q) (hs : s < 4)
    (H : ∀ r fc we lo hi ex a1 a2 a3 a4 a5 a6 a7 a8 a9 a10 a11 a12 a13 Q', jt_SET (fc, we, lo, hi, ex, a1, a2, a3, a4, a5, a6, a7, a8, a9, a10, a11, a12, a13) Q' → 0 ≤ r → post r (fc, we, lo, hi, ex, a1, a2, a3, a4, a5, a6, a7, a8, a9, a10, a11, a12, a13)) : wpX_remove post (fc, we, lo, hi, ex, a1, a2, a3, a4, a5, a6, a7, a8, a9, a10, a11, a12, a13) (nI s) z := by
  unfold wpX_remove
  refine jt_is hs (br_f (by decide) (jt_has hS hs (fun _ => br_f (by decide) ?_) (fun _ => br_t rfl (H 0 _ _ _ _ _ _ _ _ _ _ _ _ _ _ _ _ _ _ Q hS (by decide)))))
  obtain ⟨N, fl, rfl, h⟩ := hS
  obtain ⟨t, e, g⟩ := h.2.1 s hs
  have hl := jt_SL h hs
  have hl1 := jt_Sl1 h hs
  have h1 := jt_S1 h hs
  simp only [List.length_nil] at hl1
  have ndN : (N s).Nodup := List.nodup_iff_count.mpr (fun a => by have := h1 a; omega)
  rw [nI_clamp (show s < 2 ^ 31 by omega)]
  refine ⟨pk_in s 4 hs, ?_⟩
  refine jt_split t (by rw [e]; exact g.1) ndN (by omega) (fun lo' hi' ex' LS EX RS b1 b2 b4 b7 b8 eN t1 t2 t3 hE k0 k1 k2 o => ?_)
  refine jt_release (jt_one t3 hE) h.1 (by omega) (fun b6 hb6 => ?_)
  have cN : ∀ a, LS.count a + EX.count a + RS.count a + fl.count a ≤ 1 := fun a => by
    have := h1 a
    rw [eN] at this
    simp only [List.count_append, List.count_nil] at this
    omega
  have lN : LS.length + EX.length + RS.length = (N s).length := by rw [eN]; simp only [List.length_append]; omega
  have sN : jt_srt ((LS ++ (EX ++ RS)).map a3) := by rw [← eN, e]; exact g
  have sLR : (LS ++ RS).Sublist (LS ++ (EX ++ RS)) := (List.Sublist.refl LS).append (List.sublist_append_right EX RS)
  have sL : (LS.map a3).Pairwise (· < ·) := by
    have := sN.1
    rw [List.map_append, List.pairwise_append] at this
    exact this.1
  refine jt_join0_2 t1 t2 sL (List.nodup_iff_count.mpr (fun a => by have := cN a; simp only [List.count_append]; omega)) (by rw [List.length_append]; omega) (fun r we lo hi ex d1 d2 d4 d7 d8 t4 o4 => ?_)
  obtain ⟨kr, rfl, hkr, _⟩ := jt_ix t4
  dsimp only
  rw [jt_n16 kr hkr]
  have hT : 0 ∉ N s := jt_n0 t
  have oo : jt_OFF (N s) a1 a2 a4 d1 d2 d4 := jt_ot o o4 hT (fun _ h => h) (fun j hj => by rw [eN]; exact sLR.subset hj)
  have fin := jt_Sp h hs (S := N s) (X' := []) (fl' := EX ++ fl) oo (fun j hj => List.mem_append_left _ hj) (b3 := a3) (fun _ _ => rfl) hb6 t4 (jt_srtS sN (sLR.map a3)) (by
    rw [List.perm_iff_count, eN]
    intro a
    simp only [List.count_append, List.count_nil]
    omega)
  exact ⟨pk_in s 4 hs, nm_e (H 1 _ _ _ _ _ _ _ _ _ _ _ _ _ _ _ _ _ _ _ ⟨_, _, rfl, fin⟩ (by decide))⟩

theorem jt_range {post : Int32 → St1 → Prop} {z' : Int32} (hS : jt_SET (fc, we, lo, hi, ex, a1, a2, a3, a4, a5, a6, a7, a8, a9, a10, a11, a12, a13) Q) (hs : s < 4)
    (H : ∀ r fc we lo hi ex a1 a2 a3 a4 a5 a6 a7 a8 a9 a10 a11 a12 a13 Q', jt_SET (fc, we, lo, hi, ex, a1, a2, a3, a4, a5, a6, a7, a8, a9, a10, a11, a12, a13) Q' → 0 ≤ r → post r (fc, we, lo, hi, ex, a1, a2, a3, a4, a5, a6, a7, a8, a9, a10, a11, a12, a13)) : wpX_removeRange post (fc, we, lo, hi, ex, a1, a2, a3, a4, a5, a6, a7, a8, a9, a10, a11, a12, a13) (nI s) z z' := by
  unfold wpX_removeRange
  refine jt_is hs (br_f (by decide) (br_c (fun _ => ?_) (fun _ => H 0 _ _ _ _ _ _ _ _ _ _ _ _ _ _ _ _ _ _ Q hS (by decide))))
  obtain ⟨N, fl, rfl, h⟩ := hS
  obtain ⟨t, e, g⟩ := h.2.1 s hs
  obtain ⟨k, ek, hk, hc, _⟩ := jt_ix t
  have hl := jt_SL h hs
  have hl1 := jt_Sl1 h hs
  have h1 := jt_S1 h hs
  simp only [List.length_nil] at hl1
  have ndN : (N s).Nodup := List.nodup_iff_count.mpr (fun a => by have := h1 a; omega)
  rw [nI_clamp (show s < 2 ^ 31 by omega)]
  refine ⟨pk_in s 4 hs, pk_in k 256 hk ek, nm_r (e' := nI (N s).length) (by rw [ek, nI_clamp (jt_p31 hk), hc]) ⟨pk_in s 4 hs, ?_⟩⟩
  refine jt_split t (by rw [e]; exact g.1) ndN (by omega) (fun lo' hi' ex' LS EX RS b1 b2 b4 b7 b8 eN t1 t2 t3 hE k0 k1 k2 o => ?_)
  refine jt_release (jt_one t3 hE) h.1 (by omega) (fun b6 hb6 => ?_)
  have cN : ∀ a, LS.count a + EX.count a + RS.count a + fl.count a ≤ 1 := fun a => by
    have := h1 a
    rw [eN] at this
    simp only [List.count_append, List.count_nil] at this
    omega
  have lN : LS.length + EX.length + RS.length = (N s).length := by rw [eN]; simp only [List.length_append]; omega
  have sN : jt_srt ((LS ++ (EX ++ RS)).map a3) := by rw [← eN, e]; exact g
  have sRS : (RS.map a3).Pairwise (· < ·) := by
    have := sN.1
    rw [List.map_append, List.pairwise_append, List.map_append, List.pairwise_append] at this
    exact this.2.1.2.1
  have sL : (LS.map a3).Pairwise (· < ·) := by
    have := sN.1
    rw [List.map_append, List.pairwise_append] at this
    exact this.1
  refine jt_split t2 sRS (List.nodup_iff_count.mpr (fun a => by have := cN a; omega)) (by omega) (fun lo2 hi2 ex2 LS2 EX2 RS2 c1 c2 c4 c7 c8 eN2 u1 u2 u3 hE2 _ _ _ o2 => ?_)
  have lN2 : LS2.length + EX2.length + RS2.length = RS.length := by rw [eN2]; simp only [List.length_append]; omega
  have cN2 : ∀ a, LS.count a + EX.count a + LS2.count a + EX2.count a + RS2.count a + fl.count a ≤ 1 := fun a => by
    have := cN a
    rw [eN2] at this
    simp only [List.count_append] at this
    omega
  refine jt_release (jt_one u3 hE2) hb6 (by rw [List.length_append]; omega) (fun c6 hc6 => ?_)
  refine jt_relT u1 hc6 (by omega) (by simp only [List.length_append]; omega) (fun f3 we d6 d7 d8 hd6 pm => ?_)
  have tL := jt_off t1 o2 (jt_dj (fun a => by have := cN a; omega))
  refine jt_join0_2 tL u2 sL (List.nodup_iff_count.mpr (fun a => by have := cN2 a; simp only [List.count_append]; omega)) (by rw [List.length_append]; omega) (fun r we lo hi ex d1 d2 d4 d7 d8 t4 o4 => ?_)
  obtain ⟨kr, rfl, hkr, hcr, _⟩ := jt_ix t4
  dsimp only
  rw [jt_n16 kr hkr]
  have sub2 : RS2.Sublist RS := by
    rw [eN2]
    exact (List.sublist_append_right EX2 RS2).trans (List.sublist_append_right LS2 (EX2 ++ RS2))
  have sLR : (LS ++ RS2).Sublist (LS ++ (EX ++ RS)) := (List.Sublist.refl LS).append (sub2.trans (List.sublist_append_right EX RS))
  have hT : 0 ∉ N s := jt_n0 t
  have oo : jt_OFF (N s) a1 a2 a4 d1 d2 d4 := by
    refine jt_ot (jt_ot o o2 hT (fun _ h => h) (fun j hj => ?_)) o4 hT (fun _ h => h) (fun j hj => by rw [eN]; exact sLR.subset hj)
    rw [eN]
    simp [hj]
  have fin := jt_Sp h hs (S := N s) (X' := []) (fl' := f3) oo (fun j hj => List.mem_append_left _ hj) (b3 := a3) (fun _ _ => rfl) hd6 t4 (jt_srtS sN (sLR.map a3)) (by
    rw [List.perm_iff_count, eN, eN2]
    intro a
    have := pm.count_eq a
    simp only [List.count_append, List.count_nil] at *
    omega)
  refine ⟨pk_in s 4 hs, nm_e ?_⟩
  rw [pk_us, nI_clamp (jt_p31 hkr), hcr]
  refine ⟨pk_in s 4 hs, pk_in kr 256 hkr, H _ _ _ _ _ _ _ _ _ _ _ _ _ _ _ _ _ _ _ _ ⟨_, _, rfl, fin⟩ ?_⟩
  have ll : (LS ++ RS2).length ≤ (N s).length := by rw [List.length_append]; omega
  rw [pk_sub ll]
  exact nI_pos' (by omega)

theorem jt_clear {post : Int32 → St1 → Prop} (hS : jt_SET (fc, we, lo, hi, ex, a1, a2, a3, a4, a5, a6, a7, a8, a9, a10, a11, a12, a13) Q) (hs : s < 4)
    (H : ∀ fc we lo hi ex a1 a2 a3 a4 a5 a6 a7 a8 a9 a10 a11 a12 a13 Q', jt_SET (fc, we, lo, hi, ex, a1, a2, a3, a4, a5, a6, a7, a8, a9, a10, a11, a12, a13) Q' → post (nI (Q s).length) (fc, we, lo, hi, ex, a1, a2, a3, a4, a5, a6, a7, a8, a9, a10, a11, a12, a13)) : wpX_clear post (fc, we, lo, hi, ex, a1, a2, a3, a4, a5, a6, a7, a8, a9, a10, a11, a12, a13) (nI s) := by
  unfold wpX_clear
  refine jt_is hs (br_f (by decide) ?_)
  obtain ⟨N, fl, rfl, h⟩ := hS
  obtain ⟨t, e, g⟩ := h.2.1 s hs
  obtain ⟨k, ek, hk, hc, _⟩ := jt_ix t
  have hl := jt_SL h hs
  have hl1 := jt_Sl1 h hs
  simp only [List.length_nil] at hl1
  rw [nI_clamp (show s < 2 ^ 31 by omega)]
  refine ⟨pk_in s 4 hs, pk_in k 256 hk ek, nm_r (e' := nI (Q s).length) (by rw [ek, nI_clamp (jt_p31 hk), hc, jt_Sq h hs]) ⟨pk_in s 4 hs, ?_⟩⟩
  refine jt_relT t h.1 (by omega) (by omega) (fun f1 we b6 b7 b8 hf pm => ?_)
  have fin := jt_Sp h hs (S := []) (X' := []) (fl' := f1) (rs := []) (r := 0) (jt_or (by simp)) (fun j hj => absurd hj (by simp)) (b3 := a3) (fun _ _ => rfl) hf (jt_nil (jt_Sc0 h)) jt_srt0 (by
    rw [List.perm_iff_count]
    intro a
    have := pm.count_eq a
    simp only [List.count_append, List.count_nil] at *
    omega)
  exact ⟨pk_in s 4 hs, nm_e (H _ _ _ _ _ _ _ _ _ _ _ _ _ _ _ _ _ _ _ ⟨_, _, rfl, fin⟩)⟩

theorem jt_s61 {post : Int32 → St1 → Prop} {kl ku : Nat} {LS US fl : List Nat} {N : Nat → List Nat} (hs : s < 4) (hd : d < 4) (hne : s ≠ d) (hkl : kl < 256) (hku : ku < 256) (t1 : jt_TR a1 a2 a4 (nI kl) LS) (t2 : jt_TR a1 a2 a4 (nI ku) US) (s1 : jt_srt (LS.map a3)) (s2 : jt_srt (US.map a3))
    (h : jt_S a1 a2 a3 a4 (upd a5 s (nI kl)) a6 US fl (jt_fu N s LS) (jt_fu Q s (LS.map a3))) {ql qh : List Int32} (eql : LS.map a3 = ql) (eqh : US.map a3 = qh)
    (H : ∀ fc we lo hi ex a1 a2 a3 a4 a5 a6 a7 a8 a9 a10 a11 a12 a13, jt_SET (fc, we, lo, hi, ex, a1, a2, a3, a4, a5, a6, a7, a8, a9, a10, a11, a12, a13) (jt_fu (jt_fu Q s ql) d qh) → post (nI US.length) (fc, we, lo, hi, ex, a1, a2, a3, a4, a5, a6, a7, a8, a9, a10, a11, a12, a13)) : wX_split_61 post (nI s) (nI d) (nI kl) (nI ku) (nI fl.length) we lo hi ex a1 a2 a3 a4 a5 a6 a7 a8 a9 a10 a11 a12 a13 := by
  unfold wX_split_61
  subst eql
  subst eqh
  have lu := jt_srtL s2
  rw [List.length_map] at lu
  obtain ⟨t, e, g⟩ := h.2.1 d hd
  have hl := jt_SL h hd
  have hl1 := jt_Sl1 h hd
  rw [jt_n16 kl hkl, jt_n16 ku hku, nI_clamp (show s < 2 ^ 31 by omega)]
  refine ⟨pk_in s 4 hs, nm_e ?_⟩
  rw [nI_clamp (show d < 2 ^ 31 by omega)]
  refine ⟨pk_in d 4 hd, jt_relT t h.1 (by omega) (by omega) (fun f1 we b6 b7 b8 hf pm => ?_)⟩
  obtain ⟨k, ek, hk, hc, _⟩ := jt_ix t2
  have ek' : ku = k := (nI_eq (jt_p31 hku) (jt_p31 hk)).mp ek
  subst ek'
  have fin := jt_Sp h hd (S := []) (X' := []) (fl' := f1) (rs := US) (r := nI ku) (jt_or (by simp)) (fun j hj => absurd hj (by simp)) (b3 := a3) (fun _ _ => rfl) hf t2 s2 (by
    rw [List.perm_iff_count]
    intro a
    have := pm.count_eq a
    simp only [List.count_append, List.count_nil] at *
    omega)
  dsimp only
  rw [nI_clamp (jt_p31 hku), hc]
  exact ⟨pk_in d 4 hd, nm_e ⟨pk_in ku 256 hku, H _ _ _ _ _ _ _ _ _ _ _ _ _ _ _ _ _ _ ⟨_, _, rfl, fin⟩⟩⟩

theorem jt_divide {post : Int32 → St1 → Prop} (hS : jt_SET (fc, we, lo, hi, ex, a1, a2, a3, a4, a5, a6, a7, a8, a9, a10, a11, a12, a13) Q) (hs : s < 4) (hd : d < 4) (hne : s ≠ d)
    (H : ∀ fc we lo hi ex a1 a2 a3 a4 a5 a6 a7 a8 a9 a10 a11 a12 a13 ql qh, jt_SET (fc, we, lo, hi, ex, a1, a2, a3, a4, a5, a6, a7, a8, a9, a10, a11, a12, a13) (jt_fu (jt_fu Q s ql) d qh) → Q s = ql ++ qh → (∀ y, y ∈ ql → y < z) → (∀ y, y ∈ qh → ¬ y < z) → post (nI qh.length) (fc, we, lo, hi, ex, a1, a2, a3, a4, a5, a6, a7, a8, a9, a10, a11, a12, a13)) : wpX_split post (fc, we, lo, hi, ex, a1, a2, a3, a4, a5, a6, a7, a8, a9, a10, a11, a12, a13) (nI s) z (nI d) := by
  unfold wpX_split
  refine jt_is hs (br_f (by decide) (jt_is hd (br_f (by decide) ?_)))
  obtain ⟨N, fl, rfl, h⟩ := hS
  obtain ⟨t, e, g⟩ := h.2.1 s hs
  have hl := jt_SL h hs
  have hl1 := jt_Sl1 h hs
  have h1 := jt_S1 h hs
  simp only [List.length_nil] at hl1
  have ndN : (N s).Nodup := List.nodup_iff_count.mpr (fun a => by have := h1 a; omega)
  rw [nI_clamp (show s < 2 ^ 31 by omega)]
  refine ⟨pk_in s 4 hs, ?_⟩
  refine jt_split t (by rw [e]; exact g.1) ndN (by omega) (fun lo' hi' ex' LS EX RS b1 b2 b4 b7 b8 eN t1 t2 t3 hE k0 k1 k2 o => ?_)
  have cN : ∀ a, LS.count a + EX.count a + RS.count a + fl.count a ≤ 1 := fun a => by
    have := h1 a
    rw [eN] at this
    simp only [List.count_append, List.count_nil] at this
    omega
  have lN : LS.length + EX.length + RS.length = (N s).length := by rw [eN]; simp only [List.length_append]; omega
  have sN : jt_srt ((LS ++ (EX ++ RS)).map a3) := by rw [← eN, e]; exact g
  have sL : jt_srt (LS.map a3) := jt_srtS sN ((List.sublist_append_left LS (EX ++ RS)).map a3)
  have sU : jt_srt ((EX ++ RS).map a3) := jt_srtS sN ((List.sublist_append_right LS (EX ++ RS)).map a3)
  obtain ⟨kl, rfl, hkl, _⟩ := jt_ix t1
  have qe : Q s = LS.map a3 ++ (EX ++ RS).map a3 := by rw [← e, eN, List.map_append]
  have ql : ∀ y, y ∈ LS.map a3 → y < z := fun y hy => by
    obtain ⟨j, hj, rfl⟩ := List.mem_map.mp hy
    exact k1 j hj
  have qh : ∀ y, y ∈ (EX ++ RS).map a3 → ¬ y < z := fun y hy hlt => by
    obtain ⟨j, hj, rfl⟩ := List.mem_map.mp hy
    rcases List.mem_append.mp hj with hj | hj
    · rw [k0 j hj] at hlt; exact jt_lt4 hlt
    · exact jt_lt4 (jt_lt1 hlt (k2 j hj))
  -- what is owed when the upper part stands
  have main : ∀ (ru : Int32) (we lo hi ex : Int32) (c1 c2 c4 c7 c8 : Nat → Int32), jt_TR c1 c2 c4 ru (EX ++ RS) → jt_OFF (N s) a1 a2 a4 c1 c2 c4 → jt_TR c1 c2 c4 (nI kl) LS → wX_split_61 post (nI s) (nI d) (nI kl) ru (nI fl.length) we lo hi ex c1 c2 a3 c4 a5 a6 c7 c8 a9 a10 a11 a12 a13 := by
    intro ru we lo hi ex c1 c2 c4 c7 c8 u oo tl
    obtain ⟨ku, rfl, hku, _⟩ := jt_ix u
    have S1 := jt_Sp h hs (S := N s) (X' := EX ++ RS) (fl' := fl) oo (fun j hj => List.mem_append_left _ hj) (b3 := a3) (fun _ _ => rfl) h.1 tl sL (by
      rw [List.perm_iff_count, eN]
      intro a
      simp only [List.count_append, List.count_nil]
      omega)
    refine jt_s61 hs hd hne hkl hku tl u sL sU S1 rfl rfl (fun fc we lo hi ex a1 a2 a3' a4 a5 a6 a7 a8 a9 a10 a11 a12 a13 hf => ?_)
    have := H fc we lo hi ex a1 a2 a3' a4 a5 a6 a7 a8 a9 a10 a11 a12 a13 (LS.map a3) ((EX ++ RS).map a3) hf qe ql qh
    rw [List.length_map] at this
    exact this
  rcases jt_one t3 hE with ⟨rfl, eE⟩ | ⟨x, rfl, eE, hx0, hx⟩
  · subst eE
    exact br_t rfl (main hi' _ _ _ _ b1 b2 b4 b7 b8 t2 o t1)
  · subst eE
    have cc := cN x
    have hxL : x ∉ LS := List.count_eq_zero.mp (by simp only [List.count_cons, List.count_nil, beq_self_eq_true, if_true] at cc; omega)
    have o1 : jt_OFF ([] ++ x :: RS) b1 b2 b4 b1 b2 b4 := jt_or (fun z => absurd (jt_mem t 0 (by rw [eN]; simp only [List.nil_append] at z; simp [z])).1 (by omega))
    refine br_f (nI_ne0 hx0 (jt_p31 hx)) (jt_join (w := 0) (a := 0) (as := []) (jt_nil (jt_c0 t1)) t2 hx0 hx (List.nodup_iff_count.mpr (fun a => by have := cN a; simp only [List.count_cons, List.count_nil, List.nil_append] at *; omega)) (by rw [jt_len]; simp only [List.length_cons, List.length_nil] at lN ⊢; omega) (fun r c1 c2 c4 c7 c8 u o4 _ => ?_))
    refine main r _ _ _ _ c1 c2 c4 c7 c8 u (jt_ot o o4 (jt_n0 t) (fun _ h => h) (fun j hj => ?_)) (jt_off t1 o4 (jt_dj (fun a => by have := cN a; simp only [List.count_cons, List.count_nil, List.nil_append] at *; omega)))
    rw [eN]
    simp only [List.nil_append] at hj
    exact List.mem_append_right _ hj
end
end
section
section
theorem jt_card {q m A B : List Int32} (hq : jt_srt q) (hm : jt_srt m) (hA : jt_srt A) (hB : jt_srt B) (h1 : ∀ z, z ∈ q ↔ jt_op 0 (z ∈ A) (z ∈ B)) (h2 : ∀ z, z ∈ m ↔ jt_op 1 (z ∈ A) (z ∈ B)) : q.length + m.length = A.length + B.length := by
  have p : (q ++ m).Perm (A ++ B) := by
    rw [List.perm_iff_count]
    intro z
    have e1 := h1 z
    have e2 := h2 z
    simp only [jt_op] at e1 e2
    rw [List.count_append, List.count_append, List.Nodup.count (jt_srtN hq.1), List.Nodup.count (jt_srtN hm.1), List.Nodup.count (jt_srtN hA.1), List.Nodup.count (jt_srtN hB.1)]
    by_cases ha : z ∈ A <;> by_cases hb : z ∈ B <;> simp [ha, hb] at e1 e2 <;> simp [ha, hb, e1, e2]
  have := p.length_eq
  simpa only [List.length_append] using this
theorem jt_cardE {q A : List Int32} (hq : jt_srt q) (hA : jt_srt A) (h : ∀ z, z ∈ q ↔ z ∈ A) : q.length = A.length :=
  ((List.perm_ext_iff_of_nodup (jt_srtN hq.1) (jt_srtN hA.1)).mpr h).length_eq

variable {fc we lo hi ex : Int32} {a1 a2 a3 a4 a5 a6 a7 a8 a9 a10 a11 a12 a13 : Nat → Int32} {Q : Nat → List Int32} {a b d : Nat} {z : Int32}

theorem jt_c89 {post : Int32 → St1 → Prop} {r : Int32} {rs fl : List Nat} {N : Nat → List Nat} {q : List Int32} (hd : d < 4) (t : jt_TR a1 a2 a4 r rs) (eq : rs.map a3 = q) (sr : jt_srt q) (h : jt_S a1 a2 a3 a4 a5 a6 (rs ++ []) fl N Q)
    (H : ∀ fc we lo hi ex a1 a2 a3 a4 a5 a6 a7 a8 a9 a10 a11 a12 a13, jt_SET (fc, we, lo, hi, ex, a1, a2, a3, a4, a5, a6, a7, a8, a9, a10, a11, a12, a13) (jt_fu Q d q) → post (nI q.length) (fc, we, lo, hi, ex, a1, a2, a3, a4, a5, a6, a7, a8, a9, a10, a11, a12, a13)) : wX_combine_89 post (nI d) r (nI fl.length) we lo hi ex a1 a2 a3 a4 a5 a6 a7 a8 a9 a10 a11 a12 a13 := by
  obtain ⟨k, rfl, hk, hc, _⟩ := jt_ix t
  have lr := jt_srtL sr
  have lq : q.length = rs.length := by rw [← eq, List.length_map]
  obtain ⟨td, e, g⟩ := h.2.1 d hd
  have hl := jt_SL h hd
  have hl1 := jt_Sl1 h hd
  unfold wX_combine_89
  rw [nI_clamp (jt_p31 hk), nI_clamp (show d < 2 ^ 31 by omega), hc, jt_n16 k hk]
  refine ⟨pk_in k 256 hk, pk_le rs.length 20 (fun _ => ⟨pk_in d 4 hd, ?_⟩) (fun g => absurd g (by omega))⟩
  refine jt_relT td h.1 (by omega) (by omega) (fun f1 we b6 b7 b8 hf pm => ?_)
  have fin := jt_Sp h hd (S := []) (X' := []) (fl' := f1) (rs := rs) (r := nI k) (jt_or (by simp)) (fun j hj => absurd hj (by simp)) (b3 := a3) (fun _ _ => rfl) hf t (by rw [eq]; exact sr) (by
    rw [List.perm_iff_count]
    intro a
    have := pm.count_eq a
    simp only [List.count_append, List.count_nil] at *
    omega)
  rw [eq] at fin
  dsimp only
  rw [hc, ← lq]
  exact ⟨pk_in d 4 hd, nm_e ⟨pk_in k 256 hk, H _ _ _ _ _ _ _ _ _ _ _ _ _ _ _ _ _ _ ⟨_, _, rfl, fin⟩⟩⟩

theorem jt_combine {post : Int32 → St1 → Prop} {h : Nat} (hS : jt_SET (fc, we, lo, hi, ex, a1, a2, a3, a4, a5, a6, a7, a8, a9, a10, a11, a12, a13) Q) (hh : h < 4) (hd : d < 4) (ha : a < 4) (hb : b < 4)
    (H : ∀ fc we lo hi ex a1 a2 a3 a4 a5 a6 a7 a8 a9 a10 a11 a12 a13 q, jt_SET (fc, we, lo, hi, ex, a1, a2, a3, a4, a5, a6, a7, a8, a9, a10, a11, a12, a13) (jt_fu Q d q) → jt_srt q → (h < 3 → ∀ z, z ∈ q ↔ jt_op h (z ∈ Q a) (z ∈ Q b)) → post (nI q.length) (fc, we, lo, hi, ex, a1, a2, a3, a4, a5, a6, a7, a8, a9, a10, a11, a12, a13)) : wpX_combine post (fc, we, lo, hi, ex, a1, a2, a3, a4, a5, a6, a7, a8, a9, a10, a11, a12, a13) (nI h) (nI d) (nI a) (nI b) := by
  unfold wpX_combine
  refine br_f (nI_pos (by omega)) (pk_lt 3 h (fun g => absurd g (by omega)) (fun _ => jt_is hd (br_f (by decide) (jt_is ha (br_f (by decide) (jt_is hb (br_f (by decide) ⟨pk_in a 4 ha, ?_⟩)))))))
  obtain ⟨N, fl, rfl, hS⟩ := hS
  rw [nI_clamp (show a < 2 ^ 31 by omega)]
  refine jt_Scopy hS ha (by simp) (fun r1 f1 ca we b1 b2 b3 b4 b7 b8 t1 k1 S1 o1 g1 => ?_)
  have sQa := (hS.2.1 a ha).2.2
  have sQb := (hS.2.1 b hb).2.2
  have l1 : ca.length ≤ 20 := by have := jt_srtL sQa; rw [← k1, List.length_map] at this; exact this
  dsimp only
  rw [nI_clamp (show b < 2 ^ 31 by omega)]
  refine ⟨pk_in b 4 hb, jt_Scopy S1 hb (by rw [List.length_append]; simp only [List.length_nil]; omega) (fun r2 f2 cb we c1 c2 c3 c4 c7 c8 t2 k2 S2 o2 g2 => ?_)⟩
  have cS1 : ∀ z, ca.count z + f1.count z ≤ 1 := fun z => by
    have := jt_S1 S1 (i := 0) (by omega) z
    simp only [List.count_append, List.count_nil] at this
    omega
  obtain ⟨t1', k1'⟩ := jt_keep t1 o2 g2 cS1 cS1
  rw [k1] at k1'
  have S2' : jt_S c1 c2 c3 c4 a5 a6 (ca ++ (cb ++ [])) f2 N Q := by
    refine jt_Sx S2 ?_
    rw [List.perm_iff_count]
    intro z
    simp only [List.count_append]
    omega
  dsimp only
  refine pk_eq h 3 (fun e => ?_) (fun e => ?_)
  · refine jt_Seither ha hb t1' t2 (by rw [k1']; exact sQa) (by rw [k2]; exact sQb) S2' (fun r rs fl' we lo hi ex d1 d2 d3 d4 d6 d7 d8 d9 d10 d11 d12 d13 t3 s3 S3 => ?_)
    exact jt_c89 hd t3 rfl s3 S3 (fun fc we lo hi ex e1 e2 e3 e4 e5 e6 e7 e8 e9 e10 e11 e12 e13 hf => H fc we lo hi ex e1 e2 e3 e4 e5 e6 e7 e8 e9 e10 e11 e12 e13 _ hf s3 (fun g => absurd g (by omega)))
  · refine jt_Scomb (by omega) t1' t2 (by rw [k1']; exact sQa) (by rw [k2]; exact sQb) S2' (fun r rs fl' we lo hi ex d1 d2 d4 d6 d7 d8 d9 d10 d11 d12 d13 t3 s3 m3 S3 _ => ?_)
    rw [k1', k2] at m3
    exact jt_c89 hd t3 rfl s3 S3 (fun fc we lo hi ex e1 e2 e3 e4 e5 e6 e7 e8 e9 e10 e11 e12 e13 hf => H fc we lo hi ex e1 e2 e3 e4 e5 e6 e7 e8 e9 e10 e11 e12 e13 _ hf s3 (fun _ => m3))

theorem jt_within {post : Int32 → St1 → Prop} (hS : jt_SET (fc, we, lo, hi, ex, a1, a2, a3, a4, a5, a6, a7, a8, a9, a10, a11, a12, a13) Q) (ha : a < 4) (hb : b < 4) (sub : ∀ z, z ∈ Q a → z ∈ Q b)
    (H : ∀ fc we lo hi ex a1 a2 a3 a4 a5 a6 a7 a8 a9 a10 a11 a12 a13, jt_SET (fc, we, lo, hi, ex, a1, a2, a3, a4, a5, a6, a7, a8, a9, a10, a11, a12, a13) Q → post 1 (fc, we, lo, hi, ex, a1, a2, a3, a4, a5, a6, a7, a8, a9, a10, a11, a12, a13)) : wpX_within post (fc, we, lo, hi, ex, a1, a2, a3, a4, a5, a6, a7, a8, a9, a10, a11, a12, a13) (nI a) (nI b) := by
  unfold wpX_within
  refine jt_is ha (br_f (by decide) (jt_is hb (br_f (by decide) ⟨pk_in a 4 ha, ?_⟩)))
  obtain ⟨N, fl, rfl, hS⟩ := hS
  rw [nI_clamp (show a < 2 ^ 31 by omega)]
  refine jt_Scopy hS ha (by simp) (fun r1 f1 ca we b1 b2 b3 b4 b7 b8 t1 k1 S1 o1 g1 => ?_)
  have sQa := (hS.2.1 a ha).2.2
  have sQb := (hS.2.1 b hb).2.2
  have l1 : ca.length ≤ 20 := by have := jt_srtL sQa; rw [← k1, List.length_map] at this; exact this
  dsimp only
  rw [nI_clamp (show b < 2 ^ 31 by omega)]
  refine ⟨pk_in b 4 hb, jt_Scopy S1 hb (by rw [List.length_append]; simp only [List.length_nil]; omega) (fun r2 f2 cb we c1 c2 c3 c4 c7 c8 t2 k2 S2 o2 g2 => ?_)⟩
  have cS1 : ∀ z, ca.count z + f1.count z ≤ 1 := fun z => by
    have := jt_S1 S1 (i := 0) (by omega) z
    simp only [List.count_append, List.count_nil] at this
    omega
  obtain ⟨t1', k1'⟩ := jt_keep t1 o2 g2 cS1 cS1
  rw [k1] at k1'
  have S2' : jt_S c1 c2 c3 c4 a5 a6 (ca ++ (cb ++ [])) f2 N Q := by
    refine jt_Sx S2 ?_
    rw [List.perm_iff_count]
    intro z
    simp only [List.count_append]
    omega
  dsimp only
  refine jt_Scomb (h := 2) (by omega) t1' t2 (by rw [k1']; exact sQa) (by rw [k2]; exact sQb) S2' (fun r rs fl' we lo hi ex d1 d2 d4 d6 d7 d8 d9 d10 d11 d12 d13 t3 s3 m3 S3 _ => ?_)
  rw [k1', k2] at m3
  have e : rs = [] := by
    cases rs with
    | nil => rfl
    | cons j t =>
      have := (m3 (c3 j)).mp (by simp)
      rcases this with ⟨h, _⟩ | ⟨h, _⟩ | ⟨_, h1, h2⟩
      · exact absurd h (by decide)
      · exact absurd h (by decide)
      · exact absurd (sub _ h1) h2
  subst e
  rcases jt_cs t3 with ⟨rfl, _, _⟩ | ⟨p, ls, us, _, _, _, e, _⟩
  · refine br_t rfl ?_
    unfold wX_within_61
    refine jt_Srel t3 (by simp) S3 (fun fl' we b6 b7 b8 S4 => ⟨by rfl, H _ _ _ _ _ _ _ _ _ _ _ _ _ _ _ _ _ _ ⟨_, _, rfl, S4⟩⟩)
  · exact absurd (congrArg List.length e) (by rw [jt_len]; simp)

theorem jt_same {post : Int32 → St1 → Prop} (hS : jt_SET (fc, we, lo, hi, ex, a1, a2, a3, a4, a5, a6, a7, a8, a9, a10, a11, a12, a13) Q) (ha : a < 4) (hb : b < 4) (sub : ∀ z, z ∈ Q a ↔ z ∈ Q b)
    (H : ∀ fc we lo hi ex a1 a2 a3 a4 a5 a6 a7 a8 a9 a10 a11 a12 a13, jt_SET (fc, we, lo, hi, ex, a1, a2, a3, a4, a5, a6, a7, a8, a9, a10, a11, a12, a13) Q → post 1 (fc, we, lo, hi, ex, a1, a2, a3, a4, a5, a6, a7, a8, a9, a10, a11, a12, a13)) : wpX_same post (fc, we, lo, hi, ex, a1, a2, a3, a4, a5, a6, a7, a8, a9, a10, a11, a12, a13) (nI a) (nI b) := by
  unfold wpX_same
  refine jt_within hS ha hb (fun z => (sub z).mp) (fun fc we lo hi ex a1 a2 a3 a4 a5 a6 a7 a8 a9 a10 a11 a12 a13 h1 => br_f (by decide) ?_)
  exact jt_within h1 hb ha (fun z => (sub z).mpr) (fun fc we lo hi ex a1 a2 a3 a4 a5 a6 a7 a8 a9 a10 a11 a12 a13 h2 => br_f (by decide) (H _ _ _ _ _ _ _ _ _ _ _ _ _ _ _ _ _ _ h2))

theorem jt_sums {post : Int32 → St1 → Prop} (hS : jt_SET (fc, we, lo, hi, ex, a1, a2, a3, a4, a5, a6, a7, a8, a9, a10, a11, a12, a13) Q) (ha : a < 3) (hb : b < 3)
    (H : ∀ fc we lo hi ex a1 a2 a3 a4 a5 a6 a7 a8 a9 a10 a11 a12 a13 Q', jt_SET (fc, we, lo, hi, ex, a1, a2, a3, a4, a5, a6, a7, a8, a9, a10, a11, a12, a13) Q' → post 1 (fc, we, lo, hi, ex, a1, a2, a3, a4, a5, a6, a7, a8, a9, a10, a11, a12, a13)) : wpL_sums post (fc, we, lo, hi, ex, a1, a2, a3, a4, a5, a6, a7, a8, a9, a10, a11, a12, a13) (nI a) (nI b) := by
  have sA := jt_SETs hS (s := a) (by omega)
  have sB := jt_SETs hS (s := b) (by omega)
  have lA := jt_srtL sA
  have lB := jt_srtL sB
  unfold wpL_sums
  refine jt_combine (h := 0) (d := 3) hS (by omega) (by omega) (by omega) (by omega) (fun fc we lo hi ex a1 a2 a3 a4 a5 a6 a7 a8 a9 a10 a11 a12 a13 q h1 sq mq => ?_)
  have mq := mq (by omega)
  have lq := jt_srtL sq
  refine br_f (nI_pos (by omega)) ?_
  refine jt_within (b := 3) h1 (by omega) (by omega) (fun z hz => ?_) (fun fc we lo hi ex a1 a2 a3 a4 a5 a6 a7 a8 a9 a10 a11 a12 a13 h2 => br_f (by decide) ?_)
  · rw [jt_fun (by omega)] at hz
    rw [jt_fus, mq]
    exact Or.inl ⟨rfl, Or.inl hz⟩
  refine jt_within (b := 3) h2 (by omega) (by omega) (fun z hz => ?_) (fun fc we lo hi ex a1 a2 a3 a4 a5 a6 a7 a8 a9 a10 a11 a12 a13 h3 => br_f (by decide) ?_)
  · rw [jt_fun (by omega)] at hz
    rw [jt_fus, mq]
    exact Or.inl ⟨rfl, Or.inr hz⟩
  refine jt_combine (h := 1) (d := 3) h3 (by omega) (by omega) (by omega) (by omega) (fun fc we lo hi ex a1 a2 a3 a4 a5 a6 a7 a8 a9 a10 a11 a12 a13 m h4 sm mm => ?_)
  have mm := mm (by omega)
  rw [jt_fun (by omega), jt_fun (by omega)] at mm
  have lm := jt_srtL sm
  have eA : jt_fu (jt_fu Q 3 q) 3 m a = Q a := by rw [jt_fun (by omega), jt_fun (by omega)]
  have eB : jt_fu (jt_fu Q 3 q) 3 m b = Q b := by rw [jt_fun (by omega), jt_fun (by omega)]
  refine br_f (nI_pos (by omega)) ?_
  refine jt_within (a := 3) h4 (by omega) (by omega) (fun z hz => ?_) (fun fc we lo hi ex a1 a2 a3 a4 a5 a6 a7 a8 a9 a10 a11 a12 a13 h5 => br_f (by decide) ?_)
  · rw [jt_fus, mm] at hz
    rw [eA]
    rcases hz with ⟨h, _⟩ | ⟨_, h, _⟩ | ⟨h, _⟩
    · exact absurd h (by decide)
    · exact h
    · exact absurd h (by decide)
  refine jt_within (a := 3) h5 (by omega) (by omega) (fun z hz => ?_) (fun fc we lo hi ex a1 a2 a3 a4 a5 a6 a7 a8 a9 a10 a11 a12 a13 h6 => br_f (by decide) ?_)
  · rw [jt_fus, mm] at hz
    rw [eB]
    rcases hz with ⟨h, _⟩ | ⟨_, _, h⟩ | ⟨h, _⟩
    · exact absurd h (by decide)
    · exact h
    · exact absurd h (by decide)
  refine jt_size h6 (by omega) (jt_size h6 (by omega) (br_t ?_ (H _ _ _ _ _ _ _ _ _ _ _ _ _ _ _ _ _ _ _ h6)))
  rw [eA, eB, nI_add, nI_add, jt_card sq sm sA sB mq mm]

theorem jt_r73 {post : Int32 → St1 → Prop} {o n : Nat} {A q ql qh : List Int32} (hS : jt_SET (fc, we, lo, hi, ex, a1, a2, a3, a4, a5, a6, a7, a8, a9, a10, a11, a12, a13) Q) (ha : a < 3) (ho : o < 3) (hne : o ≠ a) (eo : Q o = q) (ea : Q a = ql) (e3 : Q 3 = qh) (hn : n = A.length) (sA : jt_srt A) (mq : ∀ z, z ∈ q ↔ z ∈ A) (eA : A = ql ++ qh) (k1 : ∀ y, y ∈ ql → y < z)
    (H : ∀ fc we lo hi ex a1 a2 a3 a4 a5 a6 a7 a8 a9 a10 a11 a12 a13 Q', jt_SET (fc, we, lo, hi, ex, a1, a2, a3, a4, a5, a6, a7, a8, a9, a10, a11, a12, a13) Q' → post 1 (fc, we, lo, hi, ex, a1, a2, a3, a4, a5, a6, a7, a8, a9, a10, a11, a12, a13)) : wL_returns_73 post (nI a) (nI o) z (nI n) fc we lo hi ex a1 a2 a3 a4 a5 a6 a7 a8 a9 a10 a11 a12 a13 := by
  unfold wL_returns_73
  refine jt_rank hS (by omega) (jt_size hS (by omega) ?_)
  rw [ea, jt_cnt1 k1]
  refine br_t rfl ?_
  refine jt_combine (h := 0) (b := 3) hS (by omega) (by omega) (by omega) (by omega) (fun fc we lo hi ex a1 a2 a3 a4 a5 a6 a7 a8 a9 a10 a11 a12 a13 p h1 sp mp => ?_)
  have mp := mp (by omega)
  have mp' : ∀ z, z ∈ p ↔ z ∈ A := by
    intro z
    rw [mp z, ea, e3, eA, List.mem_append]
    simp [jt_op]
  refine br_t (by rw [hn, jt_cardE sp sA mp']) ?_
  refine jt_same h1 (by omega) (by omega) (fun z => ?_) (fun fc we lo hi ex a1 a2 a3 a4 a5 a6 a7 a8 a9 a10 a11 a12 a13 h2 => br_f (by decide) (H _ _ _ _ _ _ _ _ _ _ _ _ _ _ _ _ _ _ _ h2))
  rw [jt_fun hne, jt_fus, eo, mq, mp']

theorem jt_returns {post : Int32 → St1 → Prop} {o : Nat} (hS : jt_SET (fc, we, lo, hi, ex, a1, a2, a3, a4, a5, a6, a7, a8, a9, a10, a11, a12, a13) Q) (ha : a < 3) (ho : o < 3) (hne : o ≠ a)
    (H : ∀ fc we lo hi ex a1 a2 a3 a4 a5 a6 a7 a8 a9 a10 a11 a12 a13 Q', jt_SET (fc, we, lo, hi, ex, a1, a2, a3, a4, a5, a6, a7, a8, a9, a10, a11, a12, a13) Q' → post 1 (fc, we, lo, hi, ex, a1, a2, a3, a4, a5, a6, a7, a8, a9, a10, a11, a12, a13)) : wpL_returns post (fc, we, lo, hi, ex, a1, a2, a3, a4, a5, a6, a7, a8, a9, a10, a11, a12, a13) (nI a) (nI o) z := by
  have sA := jt_SETs hS (s := a) (by omega)
  have lA := jt_srtL sA
  unfold wpL_returns
  refine jt_size hS (by omega) ?_
  refine jt_combine (h := 0) hS (by omega) (by omega) (by omega) (by omega) (fun fc we lo hi ex a1 a2 a3 a4 a5 a6 a7 a8 a9 a10 a11 a12 a13 q h1 sq mq => ?_)
  have mq := mq (by omega)
  have mq' : ∀ z, z ∈ q ↔ z ∈ Q a := by
    intro z
    rw [mq z]
    simp [jt_op]
  refine br_t (by rw [jt_cardE sq sA mq']) ?_
  refine jt_same h1 (by omega) (by omega) (fun z => ?_) (fun fc we lo hi ex a1 a2 a3 a4 a5 a6 a7 a8 a9 a10 a11 a12 a13 h2 => br_f (by decide) ?_)
  · rw [jt_fun (fun e => hne e.symm), jt_fus, mq']
  refine jt_divide (d := 3) h2 (by omega) (by omega) (by omega) (fun fc we lo hi ex a1 a2 a3 a4 a5 a6 a7 a8 a9 a10 a11 a12 a13 ql qh h3 e k1 k2 => ?_)
  rw [jt_fun (fun e => hne e.symm)] at e
  have le : (Q a).length = ql.length + qh.length := by rw [e, List.length_append]
  refine br_f (nI_pos (by omega)) (jt_size h3 (by omega) ?_)
  have ea : jt_fu (jt_fu (jt_fu Q o q) a ql) 3 qh a = ql := by rw [jt_fun (by omega), jt_fus]
  have eo : jt_fu (jt_fu (jt_fu Q o q) a ql) 3 qh o = q := by rw [jt_fun (by omega), jt_fun hne, jt_fus]
  have e3 : jt_fu (jt_fu (jt_fu Q o q) a ql) 3 qh 3 = qh := jt_fus
  rw [ea, nI_add, ← le]
  have J := jt_r73 (A := Q a) h3 ha ho hne eo ea e3 rfl sA mq' e k1 H
  refine br_t rfl (pk_le qh.length 0 (fun _ => J) (fun g => ?_))
  have hv : (jt_fu (jt_fu (jt_fu Q o q) a ql) 3 qh 3)[0]? = some qh[0] := by rw [e3]; exact List.getElem?_eq_getElem g
  exact jt_at (s := 3) (k := 0) h3 (by omega) hv (br_f (k2 _ (List.getElem_mem g)) J)
end
end
section
section
variable {fc we lo hi ex : Int32} {a1 a2 a3 a4 a5 a6 a7 a8 a9 a10 a11 a12 a13 : Nat → Int32} {Q : Nat → List Int32}

theorem jt_ini {post : St1 → Prop} {mc ms kc ks : Nat} (H : ∀ b6, jt_fl b6 (List.range' 1 255) → post (nI 255, we, lo, hi, ex, a1, a2, a3, a4, a5, b6, a7, a8, a9, a10, a11, a12, a13)) : ∀ (k n : Nat) (a6 : Nat → Int32), k ≤ 255 → k < n → jt_fl a6 (List.range' (k + 1) (255 - k)) →
    wX_init_116 post mc ms kc ks we lo hi ex n (nI k) (nI (255 - k)) a1 a2 a3 a4 a5 a6 a7 a8 a9 a10 a11 a12 a13 := by
  intro k
  induction k with
  | zero =>
    intro n a6 hk hn hf
    obtain ⟨n, rfl⟩ : ∃ m, n = m + 1 := ⟨n - 1, by omega⟩
    exact pk_le 0 0 (fun _ => H a6 hf) (fun g => absurd g (by omega))
  | succ k ih =>
    intro n a6 hk hn hf
    obtain ⟨n, rfl⟩ : ∃ m, n = m + 1 := ⟨n - 1, by omega⟩
    refine pk_le (k + 1) 0 (fun g => absurd g (by omega)) (fun _ => ?_)
    rw [nI_clamp (show 255 - (k + 1) < 2 ^ 31 by omega), jt_n16 (k + 1) (by omega)]
    refine ⟨pk_in (255 - (k + 1)) 256 (by omega), nm_e (nm_r (e' := nI (255 - k)) (by rw [nI_1]; congr 1; omega) (nm_r (pk_m1 k) (ih n _ (by omega) (by omega) ?_)))⟩
    have p := jt_flP (n := k + 1) hf (by omega) (by omega)
    rw [List.length_range'] at p
    rw [show 255 - k = (255 - (k + 1)) + 1 from by omega, List.range'_succ]
    exact p

theorem jt_S0 {b6 : Nat → Int32} (hf : jt_fl b6 (List.range' 1 255)) : jt_S (fun _ => 0) (fun _ => 0) (fun _ => 0) (fun _ => 0) (fun _ => 0) b6 [] (List.range' 1 255) (fun _ => []) (fun _ => []) := by
  refine ⟨hf, fun i _ => ⟨jt_nil rfl, rfl, jt_srt0⟩, fun x => ?_, ?_⟩
  · have := List.nodup_iff_count.mp (List.nodup_range' (s := 1) (n := 255) (step := 1)) x
    simp only [List.count_nil]
    omega
  · simp only [List.length_nil, List.length_range']

theorem jt_236 {post : Int32 → Prop} {L : Nat} {xs : Nat → Int32} {J : Int32 → Int32 → Int32 → Int32 → Int32 → Int32 → (Nat → Int32) → (Nat → Int32) → (Nat → Int32) → (Nat → Int32) → (Nat → Int32) → (Nat → Int32) → (Nat → Int32) → (Nat → Int32) → (Nat → Int32) → (Nat → Int32) → (Nat → Int32) → (Nat → Int32) → (Nat → Int32) → Prop}
    {i s r kc ks : Nat} (hS : jt_SET (fc, we, lo, hi, ex, a1, a2, a3, a4, a5, a6, a7, a8, a9, a10, a11, a12, a13) Q) (hs : s < 3) (hr : r < 3) (H : ∀ fc we lo hi ex a1 a2 a3 a4 a5 a6 a7 a8 a9 a10 a11 a12 a13 Q', jt_SET (fc, we, lo, hi, ex, a1, a2, a3, a4, a5, a6, a7, a8, a9, a10, a11, a12, a13) Q' → J (nI (i + 2)) fc we lo hi ex a1 a2 a3 a4 a5 a6 a7 a8 a9 a10 a11 a12 a13) : wL_law_236 post L xs J (nI i) (nI s) (nI r) kc ks fc we lo hi ex a1 a2 a3 a4 a5 a6 a7 a8 a9 a10 a11 a12 a13 := by
  unfold wL_law_236
  refine jt_ranks hS (by omega) ?_
  refine jt_sums hS hs hr (fun fc we lo hi ex a1 a2 a3 a4 a5 a6 a7 a8 a9 a10 a11 a12 a13 Q1 h1 => ?_)
  refine jt_sums h1 hs hs (fun fc we lo hi ex a1 a2 a3 a4 a5 a6 a7 a8 a9 a10 a11 a12 a13 Q2 h2 => ?_)
  exact br_f (by decide) (br_f (by decide) (br_f (by decide) (nm_r (nI_add i 2) (H _ _ _ _ _ _ _ _ _ _ _ _ _ _ _ _ _ _ Q2 h2))))

theorem jt_10 {L : Nat} {xs : Nat → Int32} {kc ks : Nat} (hL : L ≤ 260) : ∀ (n i : Nat) (fc we lo hi ex : Int32) (a1 a2 a3 a4 a5 a6 a7 a8 a9 a10 a11 a12 a13 : Nat → Int32) (Q : Nat → List Int32), jt_SET (fc, we, lo, hi, ex, a1, a2, a3, a4, a5, a6, a7, a8, a9, a10, a11, a12, a13) Q → i ≤ L + 1 → L + 2 ≤ n + i → wL_law_10 (fun r => r = 1) L xs kc ks n (nI i) fc we lo hi ex a1 a2 a3 a4 a5 a6 a7 a8 a9 a10 a11 a12 a13 := by
  intro n
  induction n with
  | zero => intro i fc we lo hi ex a1 a2 a3 a4 a5 a6 a7 a8 a9 a10 a11 a12 a13 Q hS h1 h2; exact absurd h2 (by omega)
  | succ n ih =>
    intro i fc we lo hi ex a1 a2 a3 a4 a5 a6 a7 a8 a9 a10 a11 a12 a13 Q hS h1 h2
    unfold wL_law_10
    refine br_c (fun _ => rfl) (fun g => ?_)
    have hi2 : i + 1 < L := by
      have e : (Int32.ofNat L - 2).toInt = (L : Int) - 2 := pk_sub_toInt (a := L) (b := 2) (by omega) (by omega)
      rw [Int32.lt_iff_toInt_lt, e, nI_toInt (by omega)] at g
      omega
    have J : ∀ s r, s < 3 → r < 3 → ∀ fc we lo hi ex a1 a2 a3 a4 a5 a6 a7 a8 a9 a10 a11 a12 a13 Q', jt_SET (fc, we, lo, hi, ex, a1, a2, a3, a4, a5, a6, a7, a8, a9, a10, a11, a12, a13) Q' → wL_law_236 (fun r => r = 1) L xs (wL_law_10 (fun r => r = 1) L xs kc ks n) (nI i) (nI s) (nI r) kc ks fc we lo hi ex a1 a2 a3 a4 a5 a6 a7 a8 a9 a10 a11 a12 a13 := by
      intro s r hs hr fc we lo hi ex a1 a2 a3 a4 a5 a6 a7 a8 a9 a10 a11 a12 a13 Q' h
      exact jt_236 h hs hr (fun fc we lo hi ex a1 a2 a3 a4 a5 a6 a7 a8 a9 a10 a11 a12 a13 Q2 h2 => ih (i + 2) fc we lo hi ex a1 a2 a3 a4 a5 a6 a7 a8 a9 a10 a11 a12 a13 Q2 h2 (by omega) (by omega))
    obtain ⟨j, hj, ej⟩ := pk_andE ((xs (nI i).toNatClampNeg) >>> ((4 : Int32) &&& 31)) (m := 255) 8 (by decide)
    obtain ⟨m, hm, em⟩ := pk_andE (xs (nI i + 1).toNatClampNeg) (m := 31) 5 (by decide)
    obtain ⟨h, hh, eh⟩ := pk_andE ((xs (nI i + 1).toNatClampNeg) >>> ((5 : Int32) &&& 31)) (m := 3) 2 (by decide)
    rw [ej, em, eh]
    have hs : j % 3 < 3 := Nat.mod_lt _ (by omega)
    have hr : (j % 3 + 1) % 3 < 3 := Nat.mod_lt _ (by omega)
    have ht : (j % 3 + 2) % 3 < 3 := Nat.mod_lt _ (by omega)
    have i1 : vp_in (nI i + 1) L := pk_in (i + 1) L (by omega) (nI_1 i)
    refine ⟨pk_in i L (by omega), fun x3 _ => ⟨pk_in i L (by omega), by decide, nm_r (e' := nI (j % 3)) (pk_rem (d := 3) (by omega) (by omega) (by omega)) ⟨i1, fun x5 e5 => ⟨by decide, nm_r (e' := nI ((j % 3 + 1) % 3)) (by rw [nI_1]; exact pk_rem (d := 3) (by omega) (by omega) (by omega)) ?_⟩⟩⟩⟩
    have x5i : x5.toInt = (m : Int) - 10 := by rw [e5]; exact pk_sub_toInt (a := m) (b := 10) (by omega) (by omega)
    have J1 := J (j % 3) ((j % 3 + 1) % 3) hs hr
    refine br_c (fun _ => br_c (fun _ => br_c (fun _ => ⟨i1, by decide, ?_⟩) (fun _ => br_c (fun _ => ?_) (fun _ => br_c (fun _ => ?_) (fun _ => br_c (fun _ => br_c (fun _ => ?_) (fun _ => J1 _ _ _ _ _ _ _ _ _ _ _ _ _ _ _ _ _ _ Q hS)) (fun _ => J1 _ _ _ _ _ _ _ _ _ _ _ _ _ _ _ _ _ _ Q hS))))) (fun _ => ?_)) (fun _ => br_c (fun _ => J1 _ _ _ _ _ _ _ _ _ _ _ _ _ _ _ _ _ _ Q hS) (fun g => ?_))
    · rw [show nI (j % 3) + 2 - (nI (j % 3) + 2) / 3 * 3 = nI ((j % 3 + 2) % 3) from by
        rw [show nI (j % 3) + 2 = nI (j % 3 + 2) from nI_add (j % 3) 2]
        exact pk_rem (d := 3) (by omega) (by omega) (by omega)]
      refine jt_combine hS (by omega) (by omega) (by omega) (by omega) (fun fc we lo hi ex a1 a2 a3 a4 a5 a6 a7 a8 a9 a10 a11 a12 a13 q h1 sq _ => br_t (nI_pos' ?_) (J1 _ _ _ _ _ _ _ _ _ _ _ _ _ _ _ _ _ _ _ h1))
      have := jt_srtL sq
      omega
    · refine jt_size hS (by omega) (jt_returns hS hs hr (by omega) (fun fc we lo hi ex a1 a2 a3 a4 a5 a6 a7 a8 a9 a10 a11 a12 a13 Q1 h1 => br_f (by decide) (br_t (nI_pos' ?_) (J1 _ _ _ _ _ _ _ _ _ _ _ _ _ _ _ _ _ _ _ h1))))
      have := jt_srtL (jt_SETs hS (s := (j % 3 + 1) % 3) (by omega))
      omega
    · exact jt_range hS (by omega) (fun r fc we lo hi ex a1 a2 a3 a4 a5 a6 a7 a8 a9 a10 a11 a12 a13 Q1 h1 hr0 => br_t hr0 (J1 _ _ _ _ _ _ _ _ _ _ _ _ _ _ _ _ _ _ _ h1))
    · exact jt_size hS (by omega) (jt_clear hS (by omega) (fun fc we lo hi ex a1 a2 a3 a4 a5 a6 a7 a8 a9 a10 a11 a12 a13 Q1 h1 => br_t rfl (J1 _ _ _ _ _ _ _ _ _ _ _ _ _ _ _ _ _ _ _ h1)))
    · exact jt_remove hS (by omega) (fun r fc we lo hi ex a1 a2 a3 a4 a5 a6 a7 a8 a9 a10 a11 a12 a13 Q1 h1 hr0 => br_t hr0 (J1 _ _ _ _ _ _ _ _ _ _ _ _ _ _ _ _ _ _ _ h1))
    · have x5u : x5.toInt ≤ 9 := by
        rw [Int32.le_iff_toInt_le, show (10 : Int32).toInt = 10 from by decide] at g
        omega
      exact jt_add hS (by omega) (by omega) x5u (fun r fc we lo hi ex a1 a2 a3 a4 a5 a6 a7 a8 a9 a10 a11 a12 a13 Q1 h1 hr0 => br_t hr0 (J1 _ _ _ _ _ _ _ _ _ _ _ _ _ _ _ _ _ _ _ h1))
end
theorem i_vc (xs : Nat → Int32) (L : Nat) (hL : L ≤ 260) : wpL_law (fun r => r = 1) L xs := by
  unfold wpL_law
  refine ⟨13, 1572, by decide, by decide, ?_⟩
  unfold wpX_init
  dsimp only
  refine ⟨by decide, by decide, by decide, by decide, by decide, by decide, by decide, by decide, by decide, by decide, by decide, by decide, by decide, by decide, by decide, by decide, by decide, by decide, by decide, by decide, by decide, by decide, by decide, by decide, by decide, by decide, 256, ?_⟩
  refine jt_ini (fun b6 hb6 => ?_) 255 256 _ (by omega) (by omega) trivial
  exact ⟨L + 3, jt_10 hL (L + 3) 0 _ _ _ _ _ _ _ _ _ _ _ _ _ _ _ _ _ _ (fun _ => []) ⟨fun _ => [], List.range' 1 255, by rw [List.length_range'], jt_S0 hb6⟩ (by omega) (by omega)⟩
end
