section
/-- trees: a leaf is nothing, a branch holds its node's number -/
abbrev jt_T : Type := Lean.RArray Unit
def jt_rt : jt_T → Nat
  | .leaf _ => 0
  | .branch n _ _ => n
def jt_io : jt_T → List Nat
  | .leaf _ => []
  | .branch n l r => jt_io l ++ n :: jt_io r
def jt_ok (L R C : Nat → Int32) : jt_T → Prop
  | .leaf _ => True
  | .branch n l r => (0 < n ∧ n < 256) ∧ L n = nI (jt_rt l) ∧ R n = nI (jt_rt r) ∧ C n = nI ((jt_io l).length + (jt_io r).length + 1) ∧ jt_ok L R C l ∧ jt_ok L R C r
def jt_o (n j : Nat) : Nat := List.count j [n]
theorem jt_cc (j n : Nat) (l : List Nat) : List.count j (n :: l) = jt_o n j + List.count j l := by
  rw [jt_o, List.count_cons, List.count_cons, List.count_nil]; omega
theorem jt_c1 (n : Nat) : jt_o n n = 1 := List.count_singleton_self
theorem jt_c1n {j n : Nat} (h : j ≠ n) : jt_o n j = 0 := List.count_eq_zero.mpr (by simpa using h)
theorem jt_c1e {j n : Nat} (h : 0 < jt_o n j) : j = n := by
  have := List.count_pos_iff.mp h
  simpa using this
theorem jt_one (j n : Nat) : List.count j [n] = jt_o n j := rfl
theorem jt_cm {j : Nat} {l : List Nat} (h : j ∈ l) : 0 < List.count j l := List.count_pos_iff.mpr h
theorem jt_mc {j : Nat} {l : List Nat} (h : 0 < List.count j l) : j ∈ l := List.count_pos_iff.mp h
theorem jt_io_b (n : Nat) (l r : jt_T) : jt_io (.branch n l r) = jt_io l ++ n :: jt_io r := rfl
theorem jt_cb (j n : Nat) (l r : jt_T) : List.count j (jt_io (.branch n l r)) = List.count j (jt_io l) + (jt_o n j + List.count j (jt_io r)) := by
  rw [jt_io_b, List.count_append, jt_cc]
theorem jt_cf (j : Nat) (u : Unit) : List.count j (jt_io (.leaf u)) = 0 := rfl
theorem jt_lb (n : Nat) (l r : jt_T) : (jt_io (.branch n l r)).length = (jt_io l).length + (jt_io r).length + 1 := by
  rw [jt_io_b, List.length_append, List.length_cons]; omega
theorem jt_rg {L R C : Nat → Int32} : ∀ {t : jt_T}, jt_ok L R C t → ∀ j, 0 < List.count j (jt_io t) → 0 < j ∧ j < 256
  | .leaf _, _, j, h => absurd h (by rw [jt_cf]; omega)
  | .branch n l r, k, j, h => by
    obtain ⟨h1, _, _, _, kl, kr⟩ := k
    rw [jt_cb] at h
    by_cases e1 : 0 < List.count j (jt_io l)
    · exact jt_rg kl j e1
    · by_cases e2 : 0 < List.count j (jt_io r)
      · exact jt_rg kr j e2
      · have e := jt_c1e (show 0 < jt_o n j by omega)
        rw [e]; exact h1
theorem jt_c0 {L R C : Nat → Int32} {t : jt_T} (k : jt_ok L R C t) : List.count 0 (jt_io t) = 0 := by
  rcases Nat.eq_zero_or_pos (List.count 0 (jt_io t)) with h | h
  · exact h
  · exact absurd (jt_rg k 0 h).1 (by omega)
theorem jt_rt_lt {L R C : Nat → Int32} {t : jt_T} (k : jt_ok L R C t) : jt_rt t < 256 := by
  cases t with
  | leaf _ => exact (by decide : 0 < 256)
  | branch n l r => exact k.1.2
theorem jt_rt_0 {L R C : Nat → Int32} {t : jt_T} (k : jt_ok L R C t) (h : jt_rt t = 0) : jt_io t = [] := by
  cases t with
  | leaf _ => rfl
  | branch n l r => exact absurd k.1.1 (by have : n = 0 := h; omega)
theorem jt_rt_n {t : jt_T} (h : jt_rt t ≠ 0) : ∃ n l r, t = .branch n l r := by
  cases t with
  | leaf _ => exact absurd rfl h
  | branch n l r => exact ⟨n, l, r, rfl⟩
theorem jt_rt_p {L R C : Nat → Int32} {n : Nat} {l r : jt_T} (k : jt_ok L R C (.branch n l r)) : jt_rt (.branch n l r) ≠ 0 := by
  have : 0 < n := k.1.1
  show n ≠ 0
  omega
theorem jt_cnt {L R C : Nat → Int32} {t : jt_T} (k : jt_ok L R C t) (h0 : C 0 = 0) : C (jt_rt t) = nI (jt_io t).length := by
  cases t with
  | leaf _ => exact h0
  | branch n l r => rw [jt_lb]; exact k.2.2.2.1
theorem jt_ok_fr {L R C L' R' C' : Nat → Int32} : ∀ {t : jt_T}, jt_ok L R C t → (∀ j, 0 < List.count j (jt_io t) → L' j = L j ∧ R' j = R j ∧ C' j = C j) → jt_ok L' R' C' t
  | .leaf _, _, _ => trivial
  | .branch n l r, k, h => by
    obtain ⟨h1, h2, h3, h4, kl, kr⟩ := k
    obtain ⟨e1, e2, e3⟩ := h n (by rw [jt_cb, jt_c1]; omega)
    exact ⟨h1, e1.trans h2, e2.trans h3, e3.trans h4, jt_ok_fr kl (fun j hj => h j (by rw [jt_cb]; omega)), jt_ok_fr kr (fun j hj => h j (by rw [jt_cb]; omega))⟩
/-- the arrays are alike off the nodes ns -/
def jt_ag (ns : List Nat) (L R C L' R' C' : Nat → Int32) : Prop := ∀ j, List.count j ns = 0 → L' j = L j ∧ R' j = R j ∧ C' j = C j
theorem jt_ag_refl (ns : List Nat) (L R C : Nat → Int32) : jt_ag ns L R C L R C := fun _ _ => ⟨rfl, rfl, rfl⟩
theorem jt_ag_tr {n1 n2 ns : List Nat} {L R C L1 R1 C1 L2 R2 C2 : Nat → Int32} (h1 : jt_ag n1 L R C L1 R1 C1) (h2 : jt_ag n2 L1 R1 C1 L2 R2 C2) (h : ∀ j, List.count j n1 + List.count j n2 = 0 ∨ 0 < List.count j ns) : jt_ag ns L R C L2 R2 C2 := by
  intro j hj
  have := h j
  obtain ⟨a, b, c⟩ := h1 j (by omega)
  obtain ⟨d, e, f⟩ := h2 j (by omega)
  exact ⟨d.trans a, e.trans b, f.trans c⟩
theorem jt_ag_w {n1 ns : List Nat} {L R C L1 R1 C1 : Nat → Int32} (h1 : jt_ag n1 L R C L1 R1 C1) (h : ∀ j, List.count j n1 = 0 ∨ 0 < List.count j ns) : jt_ag ns L R C L1 R1 C1 := by
  intro j hj
  have := h j
  exact h1 j (by omega)
theorem jt_ok_ag {ns : List Nat} {L R C L' R' C' : Nat → Int32} {t : jt_T} (k : jt_ok L R C t) (h : jt_ag ns L R C L' R' C') (nd : ∀ j, List.count j (jt_io t) + List.count j ns ≤ 1) : jt_ok L' R' C' t :=
  jt_ok_fr k (fun j hj => h j (by have := nd j; omega))
theorem jt_agL (k : Nat) (v : Int32) (L R C : Nat → Int32) : jt_ag [k] L R C (upd L k v) R C := fun j hj => ⟨pk_un (fun e => by rw [e, jt_one, jt_c1] at hj; omega), rfl, rfl⟩
theorem jt_agR (k : Nat) (v : Int32) (L R C : Nat → Int32) : jt_ag [k] L R C L (upd R k v) C := fun j hj => ⟨rfl, pk_un (fun e => by rw [e, jt_one, jt_c1] at hj; omega), rfl⟩
theorem jt_agC (k : Nat) (v : Int32) (L R C : Nat → Int32) : jt_ag [k] L R C L R (upd C k v) := fun j hj => ⟨rfl, rfl, pk_un (fun e => by rw [e, jt_one, jt_c1] at hj; omega)⟩
theorem jt_cz {k : Nat} {l : List Nat} (h : List.count k l = 0) (h2 : ∀ j, List.count j l ≤ 1) : ∀ j, List.count j l + List.count j [k] ≤ 1 := by
  intro j
  have := h2 j
  by_cases e : j = k
  · rw [e, h, jt_one, jt_c1]; omega
  · rw [jt_one, jt_c1n e]; omega
theorem jt_okL {L R C : Nat → Int32} {t : jt_T} {k : Nat} {v : Int32} (h : jt_ok L R C t) (hk : List.count k (jt_io t) = 0) : jt_ok (upd L k v) R C t :=
  jt_ok_fr h (fun j hj => jt_agL k v L R C j (jt_c1n (fun e => by rw [e] at hj; omega)))
theorem jt_okR {L R C : Nat → Int32} {t : jt_T} {k : Nat} {v : Int32} (h : jt_ok L R C t) (hk : List.count k (jt_io t) = 0) : jt_ok L (upd R k v) C t :=
  jt_ok_fr h (fun j hj => jt_agR k v L R C j (jt_c1n (fun e => by rw [e] at hj; omega)))
theorem jt_okC {L R C : Nat → Int32} {t : jt_T} {k : Nat} {v : Int32} (h : jt_ok L R C t) (hk : List.count k (jt_io t) = 0) : jt_ok L R (upd C k v) t :=
  jt_ok_fr h (fun j hj => jt_agC k v L R C j (jt_c1n (fun e => by rw [e] at hj; omega)))
/-- a tree t' with the nodes ns stands in the new arrays; off ns they are alike -/
def jt_to (ns : List Nat) (L R C L' R' C' : Nat → Int32) (t' : jt_T) : Prop := jt_ok L' R' C' t' ∧ jt_io t' = ns ∧ jt_ag ns L R C L' R' C'
theorem jt_to_0 {ns : List Nat} {L R C L' R' C' : Nat → Int32} {t' : jt_T} (h : jt_to ns L R C L' R' C' t') (h0 : C 0 = 0) : C' 0 = 0 := by
  have z := jt_c0 h.1
  rw [h.2.1] at z
  rw [(h.2.2 0 z).2.2]; exact h0
theorem jt_s16 : ∀ n, n < 256 → (nI n).toInt16.toInt32 = nI n := by decide +kernel
theorem jt_b8 : ∀ n, n < 128 → (nI n).toInt8.toInt32 = nI n := by decide +kernel
theorem jt_ns {n : Nat} (h : n < 256) : vp_nar .short (nI n) = nI n := by rw [vp_nar_short]; exact jt_s16 n h
theorem jt_nb {n : Nat} (h : n < 128) : vp_nar .byte (nI n) = nI n := by rw [vp_nar_byte]; exact jt_b8 n h
theorem jt_cl {n : Nat} (h : n < 256) : (nI n).toNatClampNeg = n := nI_clamp (by omega)
theorem jt_3 (n : Nat) : 3 * nI n = nI (3 * n) := pk_mul 3 n
theorem jt_2 (n : Nat) : 2 * nI n = nI (2 * n) := pk_mul 2 n
end
section
theorem jt_e_newNode_2 : @wpX_newNode_2 = @wpX_newNode := rfl
theorem jt_e_newNode_3 : @wpX_newNode_3 = @wpX_newNode := rfl
theorem jt_e_twin_2 : @wpX_twin_2 = @wpX_twin := rfl
theorem jt_e_twin_3 : @wpX_twin_3 = @wpX_twin := rfl
theorem jt_e_pushWay_2 : @wpX_pushWay_2 = @wpX_pushWay := rfl
theorem jt_e_update_2 : @wpX_update_2 = @wpX_update := rfl
theorem jt_e_update_3 : @wpX_update_3 = @wpX_update := rfl
theorem jt_e_update_4 : @wpX_update_4 = @wpX_update := rfl
theorem jt_e_update_5 : @wpX_update_5 = @wpX_update := rfl
theorem jt_e_update_6 : @wpX_update_6 = @wpX_update := rfl
theorem jt_e_rotatedRight_2 : @wpX_rotatedRight_2 = @wpX_rotatedRight := rfl
theorem jt_e_rotatedRight_3 : @wpX_rotatedRight_3 = @wpX_rotatedRight := rfl
theorem jt_e_rotatedRight_4 : @wpX_rotatedRight_4 = @wpX_rotatedRight := rfl
theorem jt_e_rotatedLeft_2 : @wpX_rotatedLeft_2 = @wpX_rotatedLeft := rfl
theorem jt_e_rotatedLeft_3 : @wpX_rotatedLeft_3 = @wpX_rotatedLeft := rfl
theorem jt_e_rotatedLeft_4 : @wpX_rotatedLeft_4 = @wpX_rotatedLeft := rfl
theorem jt_e_balanced_2 : @wpX_balanced_2 = @wpX_balanced := rfl
section
variable {fc we lo hi ex : Int32} {a1 a2 a3 a4 a5 a6 a7 a8 a9 a10 a11 a12 a13 : Nat → Int32}
theorem jt_weight {post : Int32 → Prop} {n c : Nat} (hn : n < 256) (e : a4 n = nI c) (H : post (nI (c + 1))) : wpX_weight post (fc, we, lo, hi, ex, a1, a2, a3, a4, a5, a6, a7, a8, a9, a10, a11, a12, a13) (nI n) := by
  unfold wpX_weight
  dsimp only
  rw [jt_cl hn, e, nI_1]
  exact ⟨pk_in n 256 hn, H⟩
theorem jt_update {post : St2 → Prop} {n l r cl cr : Nat} (hn : n < 256) (hl : l < 256) (hr : r < 256) (eL : a1 n = nI l) (eR : a2 n = nI r) (el : a4 l = nI cl) (er : a4 r = nI cr) (hc : cl + cr + 1 < 128)
    (H : post (fc, we, lo, hi, ex, a1, a2, a3, upd a4 n (nI (cl + cr + 1)), a5, a6, a7, a8, a9, a10, a11, a12, a13)) : wpX_update post (fc, we, lo, hi, ex, a1, a2, a3, a4, a5, a6, a7, a8, a9, a10, a11, a12, a13) (nI n) := by
  unfold wpX_update
  dsimp only
  rw [jt_cl hn, eL, eR, jt_cl hl, jt_cl hr, el, er, nI_add, nI_1, jt_b8 _ hc]
  exact ⟨pk_in n 256 hn, pk_in l 256 hl, pk_in n 256 hn, pk_in r 256 hr, pk_in n 256 hn, nm_e H⟩
theorem jt_rotL {post : Int32 → St2 → Prop} {n : Nat} {tl tr : jt_T} (hn : 0 < n ∧ n < 256) (h0 : a4 0 = 0) (kl : jt_ok a1 a2 a4 tl) (kr : jt_ok a1 a2 a4 tr) (eL : a1 n = nI (jt_rt tl)) (eR : a2 n = nI (jt_rt tr))
    (nd : ∀ j, List.count j (jt_io tl ++ n :: jt_io tr) ≤ 1) (hs : (jt_io tl ++ n :: jt_io tr).length ≤ 120) (hne : jt_rt tr ≠ 0)
    (H : ∀ L' R' C' t', jt_to (jt_io tl ++ n :: jt_io tr) a1 a2 a4 L' R' C' t' → jt_rt t' ≠ 0 → post (nI (jt_rt t')) (fc, we, lo, hi, ex, L', R', a3, C', a5, a6, a7, a8, a9, a10, a11, a12, a13)) : wpX_rotatedLeft post (fc, we, lo, hi, ex, a1, a2, a3, a4, a5, a6, a7, a8, a9, a10, a11, a12, a13) (nI n) := by
  obtain ⟨r, x, y, rfl⟩ := jt_rt_n hne
  obtain ⟨hr, eLr, eRr, eCr, kx, ky⟩ := kr
  have eR' : a2 n = nI r := eR
  have n1 := nd n
  have n2 := nd r
  simp only [List.count_append, jt_cc, jt_cb, jt_cf, List.count_nil, jt_c1, Nat.add_zero] at n1 n2
  have hnr : n ≠ r := fun e => by rw [e, jt_c1] at n1; omega
  simp only [List.length_append, List.length_cons, jt_lb] at hs
  unfold wpX_rotatedLeft
  rw [jt_e_update_2]
  dsimp only
  rw [jt_cl hn.2, eR']
  refine ⟨pk_in n 256 hn.2, nm_e ?_⟩
  rw [jt_cl hr.2, eLr, jt_ns (jt_rt_lt kx), jt_s16 n hn.2]
  refine ⟨pk_in r 256 hr.2, pk_in n 256 hn.2, nm_e ⟨pk_in r 256 hr.2, nm_e ?_⟩⟩
  refine jt_update (l := jt_rt tl) (r := jt_rt x) hn.2 (jt_rt_lt kl) (jt_rt_lt kx) ((pk_un hnr).trans eL) pk_us (jt_cnt kl h0) (jt_cnt kx h0) (by omega) ?_
  dsimp only
  refine jt_update (l := n) (r := jt_rt y) hr.2 hn.2 (jt_rt_lt ky) pk_us ((pk_un (Ne.symm hnr)).trans eRr) pk_us (jt_cnt (jt_okC ky (by omega)) ((pk_un (by omega)).trans h0)) (by omega) ?_
  dsimp only
  refine H _ _ _ (.branch r (.branch n tl x) y) ⟨⟨hr, pk_us, (pk_un (Ne.symm hnr)).trans eRr, ?_, ⟨hn, (pk_un hnr).trans eL, pk_us, (pk_un hnr).trans pk_us, ?_, ?_⟩, ?_⟩, ?_, ?_⟩ ?_
  · rw [pk_us, jt_lb]
  · exact jt_okL (jt_okR (jt_okC (jt_okC kl (by omega)) (by omega)) (by omega)) (by omega)
  · exact jt_okL (jt_okR (jt_okC (jt_okC kx (by omega)) (by omega)) (by omega)) (by omega)
  · exact jt_okL (jt_okR (jt_okC (jt_okC ky (by omega)) (by omega)) (by omega)) (by omega)
  · simp only [jt_io, List.append_assoc, List.cons_append]
  · intro j hj
    simp only [List.count_append, jt_cc, jt_cb, jt_cf, List.count_nil, jt_c1, Nat.add_zero] at hj
    have e1 : j ≠ n := fun e => by rw [e, jt_c1] at hj; omega
    have e2 : j ≠ r := fun e => by rw [e, jt_c1] at hj; omega
    exact ⟨pk_un e2, pk_un e1, (pk_un e2).trans (pk_un e1)⟩
  · show r ≠ 0
    omega
theorem jt_rotR {post : Int32 → St2 → Prop} {n : Nat} {tl tr : jt_T} (hn : 0 < n ∧ n < 256) (h0 : a4 0 = 0) (kl : jt_ok a1 a2 a4 tl) (kr : jt_ok a1 a2 a4 tr) (eL : a1 n = nI (jt_rt tl)) (eR : a2 n = nI (jt_rt tr))
    (nd : ∀ j, List.count j (jt_io tl ++ n :: jt_io tr) ≤ 1) (hs : (jt_io tl ++ n :: jt_io tr).length ≤ 120) (hne : jt_rt tl ≠ 0)
    (H : ∀ L' R' C' t', jt_to (jt_io tl ++ n :: jt_io tr) a1 a2 a4 L' R' C' t' → jt_rt t' ≠ 0 → post (nI (jt_rt t')) (fc, we, lo, hi, ex, L', R', a3, C', a5, a6, a7, a8, a9, a10, a11, a12, a13)) : wpX_rotatedRight post (fc, we, lo, hi, ex, a1, a2, a3, a4, a5, a6, a7, a8, a9, a10, a11, a12, a13) (nI n) := by
  obtain ⟨l, x, y, rfl⟩ := jt_rt_n hne
  obtain ⟨hl, eLl, eRl, eCl, kx, ky⟩ := kl
  have eL' : a1 n = nI l := eL
  have n1 := nd n
  have n2 := nd l
  simp only [List.count_append, jt_cc, jt_cb, jt_cf, List.count_nil, jt_c1, Nat.add_zero] at n1 n2
  have hnl : n ≠ l := fun e => by rw [e, jt_c1] at n1; omega
  simp only [List.length_append, List.length_cons, jt_lb] at hs
  unfold wpX_rotatedRight
  dsimp only
  rw [jt_cl hn.2, eL']
  refine ⟨pk_in n 256 hn.2, nm_e ?_⟩
  rw [jt_cl hl.2, eRl, jt_ns (jt_rt_lt ky), jt_s16 n hn.2]
  refine ⟨pk_in l 256 hl.2, pk_in n 256 hn.2, nm_e ⟨pk_in l 256 hl.2, nm_e ?_⟩⟩
  refine jt_update (l := jt_rt y) (r := jt_rt tr) hn.2 (jt_rt_lt ky) (jt_rt_lt kr) pk_us ((pk_un hnl).trans eR) (jt_cnt ky h0) (jt_cnt kr h0) (by omega) ?_
  dsimp only
  refine jt_update (l := jt_rt x) (r := n) hl.2 (jt_rt_lt kx) hn.2 ((pk_un (Ne.symm hnl)).trans eLl) pk_us (jt_cnt (jt_okC kx (by omega)) ((pk_un (by omega)).trans h0)) pk_us (by omega) ?_
  dsimp only
  refine H _ _ _ (.branch l x (.branch n y tr)) ⟨⟨hl, (pk_un (Ne.symm hnl)).trans eLl, pk_us, ?_, ?_, ⟨hn, pk_us, (pk_un hnl).trans eR, (pk_un hnl).trans pk_us, ?_, ?_⟩⟩, ?_, ?_⟩ ?_
  · rw [pk_us, jt_lb]
  · exact jt_okL (jt_okR (jt_okC (jt_okC kx (by omega)) (by omega)) (by omega)) (by omega)
  · exact jt_okL (jt_okR (jt_okC (jt_okC ky (by omega)) (by omega)) (by omega)) (by omega)
  · exact jt_okL (jt_okR (jt_okC (jt_okC kr (by omega)) (by omega)) (by omega)) (by omega)
  · simp only [jt_io, List.append_assoc, List.cons_append]
  · intro j hj
    simp only [List.count_append, jt_cc, jt_cb, jt_cf, List.count_nil, jt_c1, Nat.add_zero] at hj
    have e1 : j ≠ n := fun e => by rw [e, jt_c1] at hj; omega
    have e2 : j ≠ l := fun e => by rw [e, jt_c1] at hj; omega
    exact ⟨pk_un e1, pk_un e2, (pk_un e2).trans (pk_un e1)⟩
  · show l ≠ 0
    omega
theorem jt_bal {post : Int32 → St2 → Prop} {n : Nat} {tl tr : jt_T} (hn : 0 < n ∧ n < 256) (h0 : a4 0 = 0) (kl : jt_ok a1 a2 a4 tl) (kr : jt_ok a1 a2 a4 tr) (eL : a1 n = nI (jt_rt tl)) (eR : a2 n = nI (jt_rt tr))
    (nd : ∀ j, List.count j (jt_io tl ++ n :: jt_io tr) ≤ 1) (hs : (jt_io tl ++ n :: jt_io tr).length ≤ 120)
    (H : ∀ L' R' C' t', jt_to (jt_io tl ++ n :: jt_io tr) a1 a2 a4 L' R' C' t' → jt_rt t' ≠ 0 → post (nI (jt_rt t')) (fc, we, lo, hi, ex, L', R', a3, C', a5, a6, a7, a8, a9, a10, a11, a12, a13)) : wpX_balanced post (fc, we, lo, hi, ex, a1, a2, a3, a4, a5, a6, a7, a8, a9, a10, a11, a12, a13) (nI n) := by
  have n1 := nd n
  simp only [List.count_append, jt_cc, jt_cb, jt_cf, List.count_nil, jt_c1, Nat.add_zero] at n1
  have zl : List.count n (jt_io tl) = 0 := by omega
  have zr : List.count n (jt_io tr) = 0 := by omega
  have hc := hs
  simp only [List.length_append, List.length_cons] at hc
  obtain ⟨C1, hC1⟩ : ∃ C1, C1 = upd a4 n (nI ((jt_io tl).length + (jt_io tr).length + 1)) := ⟨_, rfl⟩
  have kl1 : jt_ok a1 a2 C1 tl := by rw [hC1]; exact jt_okC kl zl
  have kr1 : jt_ok a1 a2 C1 tr := by rw [hC1]; exact jt_okC kr zr
  have h01 : C1 0 = 0 := by rw [hC1]; exact (pk_un (by omega)).trans h0
  have g1 : jt_ag [n] a1 a2 a4 a1 a2 C1 := by rw [hC1]; exact jt_agC _ _ _ _ _
  have HH : ∀ L' R' C' t', jt_to (jt_io tl ++ n :: jt_io tr) a1 a2 C1 L' R' C' t' → jt_rt t' ≠ 0 → post (nI (jt_rt t')) (fc, we, lo, hi, ex, L', R', a3, C', a5, a6, a7, a8, a9, a10, a11, a12, a13) :=
    fun L' R' C' t' h hne => H L' R' C' t' ⟨h.1, h.2.1, jt_ag_tr g1 h.2.2 (fun j => by simp only [List.count_append, jt_cc, jt_cb, jt_cf, List.count_nil, jt_c1, Nat.add_zero]; omega)⟩ hne
  unfold wpX_balanced
  rw [jt_e_rotatedRight_2]
  dsimp only
  refine jt_update (l := jt_rt tl) (r := jt_rt tr) hn.2 (jt_rt_lt kl) (jt_rt_lt kr) eL eR (jt_cnt kl h0) (jt_cnt kr h0) (by omega) ?_
  dsimp only
  rw [← hC1, jt_cl hn.2, eL, eR]
  refine ⟨pk_in n 256 hn.2, nm_e ⟨pk_in n 256 hn.2, nm_e ?_⟩⟩
  refine jt_weight (jt_rt_lt kr) (jt_cnt kr1 h01) (jt_weight (jt_rt_lt kl) (jt_cnt kl1 h01) ?_)
  rw [jt_3]
  refine pk_le ((jt_io tr).length + 1) (3 * ((jt_io tl).length + 1)) (fun hA => ?_) (fun hA => ?_)
  · refine jt_weight (jt_rt_lt kl) (jt_cnt kl1 h01) (jt_weight (jt_rt_lt kr) (jt_cnt kr1 h01) ?_)
    rw [jt_3]
    refine pk_le ((jt_io tl).length + 1) (3 * ((jt_io tr).length + 1)) (fun hB => ?_) (fun hB => ?_)
    · exact HH a1 a2 C1 (.branch n tl tr) ⟨⟨hn, eL, eR, by rw [hC1, pk_us], kl1, kr1⟩, rfl, jt_ag_refl _ _ _ _⟩ (by show n ≠ 0; omega)
    · have hne : jt_rt tl ≠ 0 := fun e => by rw [jt_rt_0 kl e] at hB; simp only [List.length_nil] at hB; omega
      have kl2 := kl1
      obtain ⟨l, ll, lr, rfl⟩ := jt_rt_n hne
      obtain ⟨hl, eLl, eRl, eCl, kll, klr⟩ := kl1
      rw [jt_lb] at hc
      dsimp only [jt_rt]
      rw [jt_cl hl.2, eRl, eLl]
      refine ⟨pk_in l 256 hl.2, jt_weight (jt_rt_lt klr) (jt_cnt klr h01) ⟨pk_in l 256 hl.2, jt_weight (jt_rt_lt kll) (jt_cnt kll h01) ?_⟩⟩
      rw [jt_2]
      refine pk_lt ((jt_io lr).length + 1) (2 * ((jt_io ll).length + 1)) (fun hD => ?_) (fun hD => ?_)
      · unfold wX_balanced_129
        exact jt_rotR hn h01 kl2 kr1 eL eR nd hs hne (fun L' R' C' t' h hn' => HH L' R' C' t' h hn')
      · have hne2 : jt_rt lr ≠ 0 := fun e => by rw [jt_rt_0 klr e] at hD; simp only [List.length_nil] at hD; omega
        refine jt_rotL (n := l) (tl := ll) (tr := lr) hl h01 kll klr eLl eRl (fun j => by have := nd j; simp only [List.count_append, jt_cc, jt_cb, jt_cf, List.count_nil, jt_c1, Nat.add_zero] at this ⊢; omega) (by simp only [jt_io, List.length_append, List.length_cons] at hs ⊢; omega) hne2 (fun L1 R1 C2 t1 h1 hne1 => ?_)
        have i1 : jt_io t1 = jt_io (.branch l ll lr) := h1.2.1
        dsimp only
        rw [jt_s16 _ (jt_rt_lt h1.1)]
        refine ⟨pk_in n 256 hn.2, nm_e ?_⟩
        unfold wX_balanced_129
        refine jt_rotR (tl := t1) (tr := tr) hn (jt_to_0 h1 h01) (jt_okL h1.1 (by rw [i1]; exact zl)) (jt_okL (jt_ok_ag kr1 h1.2.2 (fun j => by have := nd j; simp only [List.count_append, jt_cc, jt_cb, jt_cf, List.count_nil, jt_c1, Nat.add_zero] at this ⊢; omega)) zr) pk_us ((h1.2.2 n (by rw [← jt_io_b]; exact zl)).2.1.trans eR) (by rw [i1]; exact nd) (by rw [i1]; exact hs) hne1 (fun L' R' C' t' h hn' => HH L' R' C' t' ?_ hn')
        rw [i1] at h
        refine ⟨h.1, h.2.1, jt_ag_tr (n1 := jt_io (.branch l ll lr) ++ [n]) (jt_ag_tr h1.2.2 (jt_agL n _ _ _ _) (fun j => ?_)) h.2.2 (fun j => ?_)⟩
        · simp only [List.count_append, jt_cc, jt_cb, jt_cf, List.count_nil, jt_c1, Nat.add_zero]; omega
        · simp only [List.count_append, jt_cc, jt_cb, jt_cf, List.count_nil, jt_c1, Nat.add_zero]; omega
  · have hne : jt_rt tr ≠ 0 := fun e => by rw [jt_rt_0 kr e] at hA; simp only [List.length_nil] at hA; omega
    have kr2 := kr1
    obtain ⟨r, rl, rr, rfl⟩ := jt_rt_n hne
    obtain ⟨hr, eLr, eRr, eCr, krl, krr⟩ := kr1
    rw [jt_lb] at hc
    dsimp only [jt_rt]
    rw [jt_cl hr.2, eRr, eLr]
    refine ⟨pk_in r 256 hr.2, jt_weight (jt_rt_lt krl) (jt_cnt krl h01) ⟨pk_in r 256 hr.2, jt_weight (jt_rt_lt krr) (jt_cnt krr h01) ?_⟩⟩
    rw [jt_2]
    refine pk_lt ((jt_io rl).length + 1) (2 * ((jt_io rr).length + 1)) (fun hD => ?_) (fun hD => ?_)
    · unfold wX_balanced_71
      rw [jt_e_rotatedLeft_2]
      exact jt_rotL hn h01 kl1 kr2 eL eR nd hs hne (fun L' R' C' t' h hn' => HH L' R' C' t' h hn')
    · have hne2 : jt_rt rl ≠ 0 := fun e => by rw [jt_rt_0 krl e] at hD; simp only [List.length_nil] at hD; omega
      refine jt_rotR (n := r) (tl := rl) (tr := rr) hr h01 krl krr eLr eRr (fun j => by have := nd j; simp only [List.count_append, jt_cc, jt_cb, jt_cf, List.count_nil, jt_c1, Nat.add_zero] at this ⊢; omega) (by simp only [jt_io, List.length_append, List.length_cons] at hs ⊢; omega) hne2 (fun L1 R1 C2 t1 h1 hne1 => ?_)
      have i1 : jt_io t1 = jt_io (.branch r rl rr) := h1.2.1
      dsimp only
      rw [jt_s16 _ (jt_rt_lt h1.1)]
      refine ⟨pk_in n 256 hn.2, nm_e ?_⟩
      unfold wX_balanced_71
      rw [jt_e_rotatedLeft_2]
      refine jt_rotL (tl := tl) (tr := t1) hn (jt_to_0 h1 h01) (jt_okR (jt_ok_ag kl1 h1.2.2 (fun j => by have := nd j; simp only [List.count_append, jt_cc, jt_cb, jt_cf, List.count_nil, jt_c1, Nat.add_zero] at this ⊢; omega)) zl) (jt_okR h1.1 (by rw [i1]; exact zr)) ((h1.2.2 n (by rw [← jt_io_b]; exact zr)).1.trans eL) pk_us (by rw [i1]; exact nd) (by rw [i1]; exact hs) hne1 (fun L' R' C' t' h hn' => HH L' R' C' t' ?_ hn')
      rw [i1] at h
      refine ⟨h.1, h.2.1, jt_ag_tr (n1 := jt_io (.branch r rl rr) ++ [n]) (jt_ag_tr h1.2.2 (jt_agR n _ _ _ _) (fun j => ?_)) h.2.2 (fun j => ?_)⟩
      · simp only [List.count_append, jt_cc, jt_cb, jt_cf, List.count_nil, jt_c1, Nat.add_zero]; omega
      · simp only [List.count_append, jt_cc, jt_cb, jt_cf, List.count_nil, jt_c1, Nat.add_zero]; omega
end
end
section
/-- a way: innermost first: whether it went on to the right, the node, the tree beside -/
def jt_lf : List (Bool × Nat × jt_T) → List Nat
  | [] => []
  | (true, n, t) :: c => jt_lf c ++ (jt_io t ++ [n])
  | (false, _, _) :: c => jt_lf c
def jt_rh : List (Bool × Nat × jt_T) → List Nat
  | [] => []
  | (true, _, _) :: c => jt_rh c
  | (false, n, t) :: c => n :: (jt_io t ++ jt_rh c)
def jt_st (b : Nat) (W X : Nat → Int32) : List (Bool × Nat × jt_T) → Prop
  | [] => True
  | (d, n, _) :: c => W (b + c.length) = nI n ∧ X (b + c.length) = cond d 1 0 ∧ jt_st b W X c
def jt_oc (L R C : Nat → Int32) : List (Bool × Nat × jt_T) → Prop
  | [] => True
  | (d, n, t) :: c => (0 < n ∧ n < 256) ∧ cond d (L n) (R n) = nI (jt_rt t) ∧ jt_ok L R C t ∧ jt_oc L R C c
theorem jt_lf_t (n : Nat) (t : jt_T) (c : List (Bool × Nat × jt_T)) : jt_lf ((true, n, t) :: c) = jt_lf c ++ (jt_io t ++ [n]) := rfl
theorem jt_lf_f (n : Nat) (t : jt_T) (c : List (Bool × Nat × jt_T)) : jt_lf ((false, n, t) :: c) = jt_lf c := rfl
theorem jt_rh_t (n : Nat) (t : jt_T) (c : List (Bool × Nat × jt_T)) : jt_rh ((true, n, t) :: c) = jt_rh c := rfl
theorem jt_rh_f (n : Nat) (t : jt_T) (c : List (Bool × Nat × jt_T)) : jt_rh ((false, n, t) :: c) = n :: (jt_io t ++ jt_rh c) := rfl
theorem jt_st_fr {b : Nat} {W X W' X' : Nat → Int32} : ∀ {c : List (Bool × Nat × jt_T)}, jt_st b W X c → (∀ i, i < b + c.length → W' i = W i ∧ X' i = X i) → jt_st b W' X' c
  | [], _, _ => trivial
  | (d, n, t) :: c, h, f => by
    have e := f (b + c.length) (by rw [List.length_cons]; omega)
    exact ⟨e.1.trans h.1, e.2.trans h.2.1, jt_st_fr h.2.2 (fun i hi => f i (by rw [List.length_cons]; omega))⟩
theorem jt_oc_ag {ns : List Nat} {L R C L' R' C' : Nat → Int32} (g : jt_ag ns L R C L' R' C') : ∀ {c : List (Bool × Nat × jt_T)}, jt_oc L R C c → (∀ j, List.count j (jt_lf c) + List.count j (jt_rh c) + List.count j ns ≤ 1) → jt_oc L' R' C' c
  | [], _, _ => trivial
  | (true, n, t) :: c, ⟨h1, h2, h3, h4⟩, nd => by
    have z := nd n
    simp only [jt_lf_t, jt_rh_t, List.count_append, jt_cc, jt_cb, jt_cf, List.count_nil, jt_c1, Nat.add_zero] at z
    refine ⟨h1, (g n (by omega)).1.trans h2, jt_ok_ag h3 g (fun j => ?_), jt_oc_ag g h4 (fun j => ?_)⟩
    · have z := nd j
      simp only [jt_lf_t, jt_rh_t, List.count_append, jt_cc, jt_cb, jt_cf, List.count_nil, jt_c1, Nat.add_zero] at z
      omega
    · have z := nd j
      simp only [jt_lf_t, jt_rh_t, List.count_append, jt_cc, jt_cb, jt_cf, List.count_nil, jt_c1, Nat.add_zero] at z
      omega
  | (false, n, t) :: c, ⟨h1, h2, h3, h4⟩, nd => by
    have z := nd n
    simp only [jt_lf_f, jt_rh_f, List.count_append, jt_cc, jt_cb, jt_cf, List.count_nil, jt_c1, Nat.add_zero] at z
    refine ⟨h1, (g n (by omega)).2.1.trans h2, jt_ok_ag h3 g (fun j => ?_), jt_oc_ag g h4 (fun j => ?_)⟩
    · have z := nd j
      simp only [jt_lf_f, jt_rh_f, List.count_append, jt_cc, jt_cb, jt_cf, List.count_nil, jt_c1, Nat.add_zero] at z
      omega
    · have z := nd j
      simp only [jt_lf_f, jt_rh_f, List.count_append, jt_cc, jt_cb, jt_cf, List.count_nil, jt_c1, Nat.add_zero] at z
      omega
theorem jt_lc : ∀ (c : List (Bool × Nat × jt_T)), c.length ≤ (jt_lf c).length + (jt_rh c).length
  | [] => Nat.le_refl 0
  | (true, n, t) :: c => by
    have := jt_lc c
    simp only [jt_lf_t, jt_rh_t, List.length_append, List.length_cons, List.length_nil]
    omega
  | (false, n, t) :: c => by
    have := jt_lc c
    simp only [jt_lf_f, jt_rh_f, List.length_append, List.length_cons]
    omega
section
variable {fc we lo hi ex : Int32} {a1 a2 a3 a4 a5 a6 a7 a8 a9 a10 a11 a12 a13 : Nat → Int32}
theorem jt_push {post : St2 → Prop} {n w : Nat} {p : Int32} (hn : n < 256) (hw : w < 64) (hp : vp_nar .boolean p = p) (H : post (fc, nI (w + 1), lo, hi, ex, a1, a2, a3, a4, a5, a6, upd a7 w (nI n), upd a8 w p, a9, a10, a11, a12, a13)) : wpX_pushWay post (fc, nI w, lo, hi, ex, a1, a2, a3, a4, a5, a6, a7, a8, a9, a10, a11, a12, a13) (nI n) p := by
  unfold wpX_pushWay
  dsimp only
  rw [nI_clamp (show w < 2 ^ 31 by omega), jt_s16 n hn, hp, nI_1]
  exact ⟨pk_in w 64 hw, nm_e ⟨pk_in w 64 hw, nm_e (nm_e H)⟩⟩
theorem jt_j161 {post : Int32 → St2 → Prop} {b : Nat} : ∀ (c : List (Bool × Nat × jt_T)) (t : jt_T) (L R C : Nat → Int32), b + c.length ≤ 64 → C 0 = 0 → jt_ok L R C t → jt_oc L R C c → jt_st b a7 a8 c →
    (∀ j, List.count j (jt_lf c ++ jt_io t ++ jt_rh c) ≤ 1) → (jt_lf c ++ jt_io t ++ jt_rh c).length ≤ 120 →
    (∀ L' R' C' t', jt_to (jt_lf c ++ jt_io t ++ jt_rh c) L R C L' R' C' t' → post (nI (jt_rt t')) (fc, nI b, lo, hi, ex, L', R', a3, C', a5, a6, a7, a8, a9, a10, a11, a12, a13)) →
    wX_join_161 post (nI b) (c.length + 1) (nI (jt_rt t)) fc (nI (b + c.length)) lo hi ex L R a3 C a5 a6 a7 a8 a9 a10 a11 a12 a13 := by
  intro c
  induction c with
  | nil =>
    intro t L R C hb h0 kt kc ks nd hs H
    exact pk_le b b (fun _ => H L R C t ⟨kt, by simp only [jt_lf, jt_rh, List.nil_append, List.append_nil], jt_ag_refl _ _ _ _⟩) (fun z => absurd z (by omega)) (hb := by omega) (ha := by omega)
  | cons q c ih =>
    obtain ⟨d, n, s⟩ := q
    intro t L R C hb h0 kt kc ks nd hs H
    obtain ⟨hn, eS, kS, kc'⟩ := kc
    obtain ⟨eW, eX, ks'⟩ := ks
    rw [List.length_cons] at hb
    refine pk_le (b + (c.length + 1)) b (fun z => absurd z (by omega)) (fun _ => ?_)
    refine nm_r (show nI (b + (c.length + 1)) - 1 = nI (b + c.length) from nI_pred (b + c.length)) ⟨pk_in (b + c.length) 64 (by omega), ?_⟩
    rw [nI_clamp (show b + c.length < 2 ^ 31 by omega)]
    refine nm_r eW ⟨pk_in (b + c.length) 64 (by omega), ?_⟩
    rw [eX]
    cases d with
    | false =>
      simp only [jt_lf_f, jt_rh_f] at nd hs H
      have z := nd n
      simp only [List.count_append, jt_cc, jt_cb, jt_cf, List.count_nil, jt_c1, Nat.add_zero] at z
      refine br_t rfl ⟨pk_in n 256 hn.2, nm_e ?_⟩
      rw [jt_cl hn.2, jt_s16 _ (jt_rt_lt kt)]
      unfold wX_join_226
      refine jt_bal (tl := t) (tr := s) hn h0 (jt_okL kt (by omega)) (jt_okL kS (by omega)) pk_us eS (fun j => by have := nd j; simp only [List.count_append, jt_cc, jt_cb, jt_cf, List.count_nil, jt_c1, Nat.add_zero] at this ⊢; omega) (by simp only [List.length_append, List.length_cons] at hs ⊢; omega) (fun L' R' C' t' h hne => ?_)
      have i1 := h.2.1
      have g1 : jt_ag (jt_io t ++ n :: jt_io s) L R C L' R' C' := jt_ag_tr (jt_agL n _ _ _ _) h.2.2 (fun j => by simp only [List.count_append, jt_cc, jt_cb, jt_cf, List.count_nil, jt_c1, Nat.add_zero]; omega)
      refine ih t' L' R' C' (by omega) (jt_to_0 h h0) h.1 (jt_oc_ag g1 kc' (fun j => by have := nd j; simp only [List.count_append, jt_cc, jt_cb, jt_cf, List.count_nil, jt_c1, Nat.add_zero] at this ⊢; omega)) ks' (fun j => by have := nd j; rw [i1]; simp only [List.count_append, jt_cc, jt_cb, jt_cf, List.count_nil, jt_c1, Nat.add_zero] at this ⊢; omega) (by rw [i1]; simp only [List.length_append, List.length_cons] at hs ⊢; omega) (fun L2 R2 C2 t2 h2 => H L2 R2 C2 t2 ?_)
      rw [i1] at h2
      refine ⟨h2.1, by rw [h2.2.1]; simp only [List.append_assoc, List.cons_append], jt_ag_tr g1 h2.2.2 (fun j => ?_)⟩
      simp only [List.count_append, jt_cc, jt_cb, jt_cf, List.count_nil, jt_c1, Nat.add_zero]; omega
    | true =>
      simp only [jt_lf_t, jt_rh_t] at nd hs H
      have z := nd n
      simp only [List.count_append, jt_cc, jt_cb, jt_cf, List.count_nil, jt_c1, Nat.add_zero] at z
      refine br_f (by decide) ⟨pk_in n 256 hn.2, nm_e ?_⟩
      rw [jt_cl hn.2, jt_s16 _ (jt_rt_lt kt)]
      unfold wX_join_226
      refine jt_bal (tl := s) (tr := t) hn h0 (jt_okR kS (by omega)) (jt_okR kt (by omega)) eS pk_us (fun j => by have := nd j; simp only [List.count_append, jt_cc, jt_cb, jt_cf, List.count_nil, jt_c1, Nat.add_zero] at this ⊢; omega) (by simp only [List.length_append, List.length_cons, List.length_nil] at hs ⊢; omega) (fun L' R' C' t' h hne => ?_)
      have i1 := h.2.1
      have g1 : jt_ag (jt_io s ++ n :: jt_io t) L R C L' R' C' := jt_ag_tr (jt_agR n _ _ _ _) h.2.2 (fun j => by simp only [List.count_append, jt_cc, jt_cb, jt_cf, List.count_nil, jt_c1, Nat.add_zero]; omega)
      refine ih t' L' R' C' (by omega) (jt_to_0 h h0) h.1 (jt_oc_ag g1 kc' (fun j => by have := nd j; simp only [List.count_append, jt_cc, jt_cb, jt_cf, List.count_nil, jt_c1, Nat.add_zero] at this ⊢; omega)) ks' (fun j => by have := nd j; rw [i1]; simp only [List.count_append, jt_cc, jt_cb, jt_cf, List.count_nil, jt_c1, Nat.add_zero] at this ⊢; omega) (by rw [i1]; simp only [List.length_append, List.length_cons, List.length_nil] at hs ⊢; omega) (fun L2 R2 C2 t2 h2 => H L2 R2 C2 t2 ?_)
      rw [i1] at h2
      refine ⟨h2.1, by rw [h2.2.1]; simp only [List.append_assoc, List.cons_append, List.nil_append], jt_ag_tr g1 h2.2.2 (fun j => ?_)⟩
      simp only [List.count_append, jt_cc, jt_cb, jt_cf, List.count_nil, jt_c1, Nat.add_zero]; omega
theorem jt_j136 {post : Int32 → St2 → Prop} {b m : Nat} {c : List (Bool × Nat × jt_T)} {x y : jt_T} (hm : 0 < m ∧ m < 256) (hb : b + (jt_lf c ++ (jt_io x ++ m :: jt_io y) ++ jt_rh c).length ≤ 64) (h0 : a4 0 = 0)
    (kx : jt_ok a1 a2 a4 x) (ky : jt_ok a1 a2 a4 y) (kc : jt_oc a1 a2 a4 c) (ks : jt_st b a7 a8 c) (nd : ∀ j, List.count j (jt_lf c ++ (jt_io x ++ m :: jt_io y) ++ jt_rh c) ≤ 1)
    (H : ∀ L' R' C' t', jt_to (jt_lf c ++ (jt_io x ++ m :: jt_io y) ++ jt_rh c) a1 a2 a4 L' R' C' t' → post (nI (jt_rt t')) (fc, nI b, lo, hi, ex, L', R', a3, C', a5, a6, a7, a8, a9, a10, a11, a12, a13)) :
    wX_join_136 post (nI m) (nI (jt_rt x)) (nI (jt_rt y)) (nI b) fc (nI (b + c.length)) lo hi ex a1 a2 a3 a4 a5 a6 a7 a8 a9 a10 a11 a12 a13 := by
  have z := nd m
  simp only [List.count_append, jt_cc, jt_cb, jt_cf, List.count_nil, jt_c1, Nat.add_zero] at z
  have hl := jt_lc c
  simp only [List.length_append, List.length_cons] at hb
  unfold wX_join_136
  rw [jt_cl hm.2, jt_s16 _ (jt_rt_lt kx), jt_s16 _ (jt_rt_lt ky)]
  refine ⟨pk_in m 256 hm.2, nm_e ⟨pk_in m 256 hm.2, nm_e ?_⟩⟩
  refine jt_bal (tl := x) (tr := y) hm h0 (jt_okL (jt_okR kx (by omega)) (by omega)) (jt_okL (jt_okR ky (by omega)) (by omega)) pk_us pk_us (fun j => by have := nd j; simp only [List.count_append, jt_cc, jt_cb, jt_cf, List.count_nil, jt_c1, Nat.add_zero] at this ⊢; omega) (by simp only [List.length_append, List.length_cons]; omega) (fun L' R' C' t' h hne => ?_)
  have i1 := h.2.1
  have g0 : jt_ag [m] a1 a2 a4 (upd a1 m (nI (jt_rt x))) (upd a2 m (nI (jt_rt y))) a4 := jt_ag_tr (jt_agL m _ _ _ _) (jt_agR m _ _ _ _) (fun j => by simp only [List.count_append, jt_cc, jt_cb, jt_cf, List.count_nil, jt_c1, Nat.add_zero]; omega)
  have g1 : jt_ag (jt_io x ++ m :: jt_io y) a1 a2 a4 L' R' C' := jt_ag_tr g0 h.2.2 (fun j => by simp only [List.count_append, jt_cc, jt_cb, jt_cf, List.count_nil, jt_c1, Nat.add_zero]; omega)
  refine ⟨c.length + 1, jt_j161 c t' L' R' C' (by omega) (jt_to_0 h h0) h.1 (jt_oc_ag g1 kc (fun j => by have := nd j; simp only [List.count_append, jt_cc, jt_cb, jt_cf, List.count_nil, jt_c1, Nat.add_zero] at this ⊢; omega)) ks (fun j => by rw [i1]; exact nd j) (by rw [i1]; simp only [List.length_append, List.length_cons]; omega) (fun L2 R2 C2 t2 h2 => H L2 R2 C2 t2 ?_)⟩
  rw [i1] at h2
  exact ⟨h2.1, h2.2.1, jt_ag_tr g1 h2.2.2 (fun j => by simp only [List.count_append, jt_cc, jt_cb, jt_cf, List.count_nil, jt_c1, Nat.add_zero]; omega)⟩
theorem jt_j96 {post : Int32 → St2 → Prop} {b m : Nat} {ta x : jt_T} {x8 : Int32} (hm : 0 < m ∧ m < 256) (h0 : a4 0 = 0) (ka : jt_ok a1 a2 a4 ta) (kx : jt_ok a1 a2 a4 x) (hta : (jt_io ta).length ≤ 64) : ∀ (y : jt_T) (c : List (Bool × Nat × jt_T)) (W X : Nat → Int32),
    b + (jt_lf c ++ (jt_io x ++ m :: jt_io y) ++ jt_rh c).length ≤ 64 → jt_ok a1 a2 a4 y → jt_oc a1 a2 a4 c → jt_st b W X c → (∀ j, List.count j (jt_lf c ++ (jt_io x ++ m :: jt_io y) ++ jt_rh c) ≤ 1) →
    (∀ L' R' C' W' X' t', jt_to (jt_lf c ++ (jt_io x ++ m :: jt_io y) ++ jt_rh c) a1 a2 a4 L' R' C' t' → (∀ i, i < b → W' i = W i ∧ X' i = X i) → post (nI (jt_rt t')) (fc, nI b, lo, hi, ex, L', R', a3, C', a5, a6, W', X', a9, a10, a11, a12, a13)) →
    ∃ n, wX_join_96 post (nI (jt_rt ta)) (nI m) (nI (jt_rt x)) (nI b) x8 n (nI (jt_rt y)) fc (nI (b + c.length)) lo hi ex a1 a2 a3 a4 a5 a6 W X a9 a10 a11 a12 a13 := by
  intro y
  induction y with
  | leaf u =>
    intro c W X hb ky kc ks nd H
    have E : wX_join_136 post (nI m) (nI (jt_rt x)) (nI (jt_rt (.leaf u))) (nI b) fc (nI (b + c.length)) lo hi ex a1 a2 a3 a4 a5 a6 W X a9 a10 a11 a12 a13 := jt_j136 hm hb h0 kx ky kc ks nd (fun L' R' C' t' h => H L' R' C' W X t' h (fun _ _ => ⟨rfl, rfl⟩))
    refine ⟨1, br_c (fun _ => E) (fun _ => jt_weight (jt_rt_lt ky) (jt_cnt ky h0) (jt_weight (jt_rt_lt ka) (jt_cnt ka h0) ?_))⟩
    rw [jt_3]
    exact pk_le (0 + 1) (3 * ((jt_io ta).length + 1)) (fun _ => E) (fun z => absurd z (by omega))
  | branch n l r ihl ihr =>
    intro c W X hb ky kc ks nd H
    have E : wX_join_136 post (nI m) (nI (jt_rt x)) (nI (jt_rt (.branch n l r))) (nI b) fc (nI (b + c.length)) lo hi ex a1 a2 a3 a4 a5 a6 W X a9 a10 a11 a12 a13 := jt_j136 hm hb h0 kx ky kc ks nd (fun L' R' C' t' h => H L' R' C' W X t' h (fun _ _ => ⟨rfl, rfl⟩))
    have ky' := ky
    obtain ⟨hn, eL, eR, eC, kl, kr⟩ := ky'
    have ee : jt_lf ((false, n, r) :: c) ++ (jt_io x ++ m :: jt_io l) ++ jt_rh ((false, n, r) :: c) = jt_lf c ++ (jt_io x ++ m :: jt_io (.branch n l r)) ++ jt_rh c := by
      simp only [jt_lf_f, jt_rh_f, jt_io, List.append_assoc, List.cons_append]
    have hl := jt_lc c
    have hb' := hb
    simp only [List.length_append, List.length_cons, jt_lb] at hb'
    obtain ⟨f, hf⟩ := ihl ((false, n, r) :: c) (upd W (b + c.length) (nI n)) (upd X (b + c.length) 0) (by rw [ee]; exact hb) kl ⟨hn, eR, kr, kc⟩
      ⟨pk_us, pk_us, jt_st_fr ks (fun i hi => ⟨pk_un (by omega), pk_un (by omega)⟩)⟩ (by rw [ee]; exact nd)
      (fun L' R' C' W' X' t' h hW => by rw [ee] at h; exact H L' R' C' W' X' t' h (fun i hi => ⟨(hW i hi).1.trans (pk_un (by omega)), (hW i hi).2.trans (pk_un (by omega))⟩))
    refine ⟨f + 1, br_c (fun _ => E) (fun _ => jt_weight (jt_rt_lt ky) (jt_cnt ky h0) (jt_weight (jt_rt_lt ka) (jt_cnt ka h0) ?_))⟩
    rw [jt_3]
    refine pk_le ((jt_io (.branch n l r)).length + 1) (3 * ((jt_io ta).length + 1)) (fun _ => E) (fun _ => ?_) (ha := by rw [jt_lb]; omega)
    refine jt_push (n := n) hn.2 (by omega) rfl ?_
    dsimp only [jt_rt]
    rw [jt_cl hn.2]
    exact ⟨pk_in n 256 hn.2, nm_r eL hf⟩
theorem jt_j56 {post : Int32 → St2 → Prop} {b m : Nat} {ta tb : jt_T} {x7 x8 : Int32} (hm : 0 < m ∧ m < 256) (h0 : a4 0 = 0) (ka : jt_ok a1 a2 a4 ta) (kb : jt_ok a1 a2 a4 tb) (hta : (jt_io ta).length ≤ 64) (htb : (jt_io tb).length ≤ 64) : ∀ (x : jt_T) (c : List (Bool × Nat × jt_T)) (W X : Nat → Int32),
    b + (jt_lf c ++ (jt_io x ++ m :: jt_io tb) ++ jt_rh c).length ≤ 64 → jt_ok a1 a2 a4 x → jt_oc a1 a2 a4 c → jt_st b W X c → (∀ j, List.count j (jt_lf c ++ (jt_io x ++ m :: jt_io tb) ++ jt_rh c) ≤ 1) →
    (∀ L' R' C' W' X' t', jt_to (jt_lf c ++ (jt_io x ++ m :: jt_io tb) ++ jt_rh c) a1 a2 a4 L' R' C' t' → (∀ i, i < b → W' i = W i ∧ X' i = X i) → post (nI (jt_rt t')) (fc, nI b, lo, hi, ex, L', R', a3, C', a5, a6, W', X', a9, a10, a11, a12, a13)) →
    ∃ n, wX_join_56 post (nI (jt_rt ta)) (nI m) (nI (jt_rt tb)) (nI (jt_rt tb)) (nI b) x7 x8 n (nI (jt_rt x)) fc (nI (b + c.length)) lo hi ex a1 a2 a3 a4 a5 a6 W X a9 a10 a11 a12 a13 := by
  intro x
  induction x with
  | leaf u =>
    intro c W X hb kx kc ks nd H
    have E : ∃ n, wX_join_96 post (nI (jt_rt ta)) (nI m) (nI (jt_rt (.leaf u))) (nI b) x8 n (nI (jt_rt tb)) fc (nI (b + c.length)) lo hi ex a1 a2 a3 a4 a5 a6 W X a9 a10 a11 a12 a13 := jt_j96 hm h0 ka kx hta tb c W X hb kb kc ks nd H
    refine ⟨1, br_c (fun _ => E) (fun _ => jt_weight (jt_rt_lt kx) (jt_cnt kx h0) (jt_weight (jt_rt_lt kb) (jt_cnt kb h0) ?_))⟩
    rw [jt_3]
    exact pk_le (0 + 1) (3 * ((jt_io tb).length + 1)) (fun _ => E) (fun z => absurd z (by omega))
  | branch n l r ihl ihr =>
    intro c W X hb kx kc ks nd H
    have E : ∃ n', wX_join_96 post (nI (jt_rt ta)) (nI m) (nI (jt_rt (.branch n l r))) (nI b) x8 n' (nI (jt_rt tb)) fc (nI (b + c.length)) lo hi ex a1 a2 a3 a4 a5 a6 W X a9 a10 a11 a12 a13 := jt_j96 hm h0 ka kx hta tb c W X hb kb kc ks nd H
    have kx' := kx
    obtain ⟨hn, eL, eR, eC, kl, kr⟩ := kx'
    have ee : jt_lf ((true, n, l) :: c) ++ (jt_io r ++ m :: jt_io tb) ++ jt_rh ((true, n, l) :: c) = jt_lf c ++ (jt_io (.branch n l r) ++ m :: jt_io tb) ++ jt_rh c := by
      simp only [jt_lf_t, jt_rh_t, jt_io, List.append_assoc, List.cons_append, List.nil_append]
    have hl := jt_lc c
    have hb' := hb
    simp only [List.length_append, List.length_cons, jt_lb] at hb'
    obtain ⟨f, hf⟩ := ihr ((true, n, l) :: c) (upd W (b + c.length) (nI n)) (upd X (b + c.length) 1) (by rw [ee]; exact hb) kr ⟨hn, eL, kl, kc⟩
      ⟨pk_us, pk_us, jt_st_fr ks (fun i hi => ⟨pk_un (by omega), pk_un (by omega)⟩)⟩ (by rw [ee]; exact nd)
      (fun L' R' C' W' X' t' h hW => by rw [ee] at h; exact H L' R' C' W' X' t' h (fun i hi => ⟨(hW i hi).1.trans (pk_un (by omega)), (hW i hi).2.trans (pk_un (by omega))⟩))
    refine ⟨f + 1, br_c (fun _ => E) (fun _ => jt_weight (jt_rt_lt kx) (jt_cnt kx h0) (jt_weight (jt_rt_lt kb) (jt_cnt kb h0) ?_))⟩
    rw [jt_3]
    refine pk_le ((jt_io (.branch n l r)).length + 1) (3 * ((jt_io tb).length + 1)) (fun _ => E) (fun _ => ?_) (ha := by rw [jt_lb]; omega)
    refine jt_push (n := n) hn.2 (by omega) rfl ?_
    dsimp only [jt_rt]
    rw [jt_cl hn.2]
    exact ⟨pk_in n 256 hn.2, nm_r eR hf⟩
theorem jt_join {post : Int32 → St2 → Prop} {b m : Nat} {ta tb : jt_T} (hm : 0 < m ∧ m < 256) (h0 : a4 0 = 0) (ka : jt_ok a1 a2 a4 ta) (kb : jt_ok a1 a2 a4 tb) (nd : ∀ j, List.count j (jt_io ta ++ m :: jt_io tb) ≤ 1) (hb : b + (jt_io ta ++ m :: jt_io tb).length ≤ 64)
    (H : ∀ L' R' C' W' X' t', jt_to (jt_io ta ++ m :: jt_io tb) a1 a2 a4 L' R' C' t' → (∀ i, i < b → W' i = a7 i ∧ X' i = a8 i) → post (nI (jt_rt t')) (fc, nI b, lo, hi, ex, L', R', a3, C', a5, a6, W', X', a9, a10, a11, a12, a13)) :
    wpX_join post (fc, nI b, lo, hi, ex, a1, a2, a3, a4, a5, a6, a7, a8, a9, a10, a11, a12, a13) (nI (jt_rt ta)) (nI m) (nI (jt_rt tb)) := by
  have hb' := hb
  simp only [List.length_append, List.length_cons] at hb'
  have ee : jt_lf [] ++ (jt_io ta ++ m :: jt_io tb) ++ jt_rh [] = jt_io ta ++ m :: jt_io tb := by simp only [jt_lf, jt_rh, List.nil_append, List.append_nil]
  have E : ∀ x7 x8 : Int32, ∃ n, wX_join_56 post (nI (jt_rt ta)) (nI m) (nI (jt_rt tb)) (nI (jt_rt tb)) (nI b) x7 x8 n (nI (jt_rt ta)) fc (nI b) lo hi ex a1 a2 a3 a4 a5 a6 a7 a8 a9 a10 a11 a12 a13 := fun x7 x8 =>
    jt_j56 hm h0 ka kb (by omega) (by omega) ta [] a7 a8 (by rw [ee]; exact hb) ka trivial trivial (by rw [ee]; exact nd) (fun L' R' C' W' X' t' h hW => H L' R' C' W' X' t' (by rw [ee] at h; exact h) hW)
  have E2 : ∀ z0 : Int32, wX_join_32 post (nI (jt_rt ta)) (nI m) (nI (jt_rt tb)) (nI (jt_rt ta)) (nI (jt_rt tb)) (nI b) z0 fc (nI b) lo hi ex a1 a2 a3 a4 a5 a6 a7 a8 a9 a10 a11 a12 a13 := fun z0 => by
    unfold wX_join_32
    exact jt_weight (jt_rt_lt kb) (jt_cnt kb h0) (jt_weight (jt_rt_lt ka) (jt_cnt ka h0) (br_c (fun _ => E z0 0) (fun _ => E z0 1)))
  unfold wpX_join
  dsimp only
  exact jt_weight (jt_rt_lt ka) (jt_cnt ka h0) (jt_weight (jt_rt_lt kb) (jt_cnt kb h0) (br_c (fun _ => E2 0) (fun _ => E2 1)))
end
end
section
def jt_kv (K : Nat → Int32) (n : Nat) : Int := (K n).toInt
def jt_sd (K : Nat → Int32) (ns : List Nat) : Prop := List.Pairwise (fun i j => jt_kv K i < jt_kv K j) ns
def jt_op (e : Nat) : List Nat := if e = 0 then [] else [e]
theorem jt_op_0 : jt_op 0 = [] := rfl
theorem jt_op_n {e : Nat} (h : e ≠ 0) : jt_op e = [e] := if_neg h
theorem jt_nz {n : Nat} (h : 0 < n ∧ n < 256) : ¬ nI n = 0 := nI_ne0 h.1 (by omega)
theorem jt_le_i {x y : Int32} : x ≤ y ↔ x.toInt ≤ y.toInt := Int32.le_iff_toInt_le
theorem jt_eq_i {x y : Int32} : x = y ↔ x.toInt = y.toInt := Int32.toInt_inj.symm
theorem jt_sd_b {K : Nat → Int32} {n : Nat} {l r : jt_T} (h : jt_sd K (jt_io (.branch n l r))) : jt_sd K (jt_io l) ∧ jt_sd K (jt_io r) ∧ (∀ i, i ∈ jt_io l → jt_kv K i < jt_kv K n) ∧ (∀ i, i ∈ jt_io r → jt_kv K n < jt_kv K i) := by
  unfold jt_sd at h
  rw [jt_io_b, List.pairwise_append, List.pairwise_cons] at h
  exact ⟨h.1, h.2.1.2, fun i hi => h.2.2 i hi n (List.mem_cons_self), fun i hi => h.2.1.1 i hi⟩
section
variable {fc we lo hi ex : Int32} {a1 a2 a3 a4 a5 a6 a7 a8 a9 a10 a11 a12 a13 : Nat → Int32}
theorem jt_s101 {post : St2 → Prop} {e : Nat} (he : e < 256) : ∀ (c : List (Bool × Nat × jt_T)) (tl th : jt_T) (L R C W X : Nat → Int32), C 0 = 0 → jt_ok L R C tl → jt_ok L R C th → jt_oc L R C c → jt_st 0 W X c →
    (∀ j, List.count j (jt_lf c ++ jt_io tl ++ (jt_op e ++ (jt_io th ++ jt_rh c))) ≤ 1) → (jt_lf c ++ jt_io tl ++ (jt_op e ++ (jt_io th ++ jt_rh c))).length ≤ 60 →
    (∀ L' R' C' W' X' tl' th', jt_ok L' R' C' tl' → jt_ok L' R' C' th' → jt_io tl' = jt_lf c ++ jt_io tl → jt_io th' = jt_io th ++ jt_rh c → jt_ag (jt_lf c ++ jt_io tl ++ (jt_op e ++ (jt_io th ++ jt_rh c))) L R C L' R' C' → C' 0 = 0 →
      post (fc, nI 0, nI (jt_rt tl'), nI (jt_rt th'), nI e, L', R', a3, C', a5, a6, W', X', a9, a10, a11, a12, a13)) →
    wX_splitTree_101 post (nI e) (c.length + 1) (nI (jt_rt tl)) (nI (jt_rt th)) fc (nI c.length) lo hi ex L R a3 C a5 a6 W X a9 a10 a11 a12 a13 := by
  intro c
  induction c with
  | nil =>
    intro tl th L R C W X h0 kl kh kc ks nd hs H
    refine pk_le 0 0 (fun _ => ?_) (fun z => absurd z (by omega))
    refine pk_eq e 0 (fun z => ?_) (fun z => ?_)
    · exact H L R C W X tl th kl kh rfl (by simp only [jt_rh, List.append_nil]) (jt_ag_refl _ _ _ _) h0
    · rw [jt_cl he]
      refine ⟨pk_in e 256 he, nm_e ⟨pk_in e 256 he, nm_e ⟨pk_in e 256 he, nm_e ?_⟩⟩⟩
      have y := nd e
      rw [jt_op_n z] at y
      simp only [List.count_append, jt_cc, jt_cb, jt_cf, List.count_nil, jt_c1, Nat.add_zero] at y
      refine H _ _ _ W X tl th (jt_okL (jt_okR (jt_okC kl (by omega)) (by omega)) (by omega)) (jt_okL (jt_okR (jt_okC kh (by omega)) (by omega)) (by omega)) rfl (by simp only [jt_rh, List.append_nil]) ?_ ((pk_un (Ne.symm z)).trans h0)
      intro j hj
      rw [jt_op_n z] at hj
      simp only [List.count_append, jt_cc, jt_cb, jt_cf, List.count_nil, jt_c1, Nat.add_zero] at hj
      have hje : j ≠ e := fun q => by rw [q, jt_c1] at hj; omega
      exact ⟨pk_un hje, pk_un hje, pk_un hje⟩
  | cons q c ih =>
    obtain ⟨d, n, s⟩ := q
    intro tl th L R C W X h0 kl kh kc ks nd hs H
    obtain ⟨hn, eS, kS, kc'⟩ := kc
    obtain ⟨eW, eX, ks'⟩ := ks
    rw [Nat.zero_add] at eW eX
    have hl := jt_lc ((d, n, s) :: c)
    rw [List.length_cons] at hl
    have hs1 := hs
    simp only [List.length_append] at hs1
    refine pk_le (c.length + 1) 0 (fun z => absurd z (by omega)) (fun _ => ?_)
    rw [List.length_cons, nI_pred, nI_clamp (show c.length < 2 ^ 31 by omega)]
    refine ⟨pk_in c.length 64 (by omega), nm_r eW ⟨pk_in c.length 64 (by omega), nm_r eX (nm_e ?_)⟩⟩
    rw [jt_cl hn.2]
    cases d with
    | false =>
      simp only [jt_lf_f, jt_rh_f] at nd hs H
      have z := nd n
      simp only [List.count_append, jt_cc, jt_cb, jt_cf, List.count_nil, jt_c1, Nat.add_zero] at z
      refine br_t rfl ⟨pk_in n 256 hn.2, ?_⟩
      rw [show R n = nI (jt_rt s) from eS]
      refine jt_join (ta := th) (tb := s) hn h0 kh kS (fun j => by have := nd j; simp only [List.count_append, jt_cc, jt_cb, jt_cf, List.count_nil, jt_c1, Nat.add_zero] at this ⊢; omega) (by have := jt_lc c; simp only [List.length_append, List.length_cons] at hs ⊢; omega) (fun L' R' C' W' X' t' h hW => ?_)
      have i1 := h.2.1
      refine ih tl t' L' R' C' W' X' (jt_to_0 h h0) (jt_ok_ag kl h.2.2 (fun j => by have := nd j; simp only [List.count_append, jt_cc, jt_cb, jt_cf, List.count_nil, jt_c1, Nat.add_zero] at this ⊢; omega)) h.1 (jt_oc_ag h.2.2 kc' (fun j => by have := nd j; simp only [List.count_append, jt_cc, jt_cb, jt_cf, List.count_nil, jt_c1, Nat.add_zero] at this ⊢; omega)) (jt_st_fr ks' (fun i hi => hW i (by omega))) (fun j => by have := nd j; rw [i1]; simp only [List.count_append, jt_cc, jt_cb, jt_cf, List.count_nil, jt_c1, Nat.add_zero] at this ⊢; omega) (by rw [i1]; simp only [List.length_append, List.length_cons] at hs ⊢; omega) ?_
      intro L2 R2 C2 W2 X2 tl2 th2 k1 k2 e1 e2 g z0
      refine H L2 R2 C2 W2 X2 tl2 th2 k1 k2 e1 (by rw [e2, i1]; simp only [List.append_assoc, List.cons_append]) (jt_ag_tr h.2.2 g (fun j => ?_)) z0
      rw [i1]; simp only [List.count_append, jt_cc, jt_cb, jt_cf, List.count_nil, jt_c1, Nat.add_zero]; omega
    | true =>
      simp only [jt_lf_t, jt_rh_t] at nd hs H
      have z := nd n
      simp only [List.count_append, jt_cc, jt_cb, jt_cf, List.count_nil, jt_c1, Nat.add_zero] at z
      refine br_f (by decide) ⟨pk_in n 256 hn.2, ?_⟩
      rw [show L n = nI (jt_rt s) from eS]
      refine jt_join (ta := s) (tb := tl) hn h0 kS kl (fun j => by have := nd j; simp only [List.count_append, jt_cc, jt_cb, jt_cf, List.count_nil, jt_c1, Nat.add_zero] at this ⊢; omega) (by have := jt_lc c; simp only [List.length_append, List.length_cons, List.length_nil] at hs ⊢; omega) (fun L' R' C' W' X' t' h hW => ?_)
      have i1 := h.2.1
      refine ih t' th L' R' C' W' X' (jt_to_0 h h0) h.1 (jt_ok_ag kh h.2.2 (fun j => by have := nd j; simp only [List.count_append, jt_cc, jt_cb, jt_cf, List.count_nil, jt_c1, Nat.add_zero] at this ⊢; omega)) (jt_oc_ag h.2.2 kc' (fun j => by have := nd j; simp only [List.count_append, jt_cc, jt_cb, jt_cf, List.count_nil, jt_c1, Nat.add_zero] at this ⊢; omega)) (jt_st_fr ks' (fun i hi => hW i (by omega))) (fun j => by have := nd j; rw [i1]; simp only [List.count_append, jt_cc, jt_cb, jt_cf, List.count_nil, jt_c1, Nat.add_zero] at this ⊢; omega) (by rw [i1]; simp only [List.length_append, List.length_cons, List.length_nil] at hs ⊢; omega) ?_
      intro L2 R2 C2 W2 X2 tl2 th2 k1 k2 e1 e2 g z0
      refine H L2 R2 C2 W2 X2 tl2 th2 k1 k2 (by rw [e1, i1]; simp only [List.append_assoc, List.cons_append, List.nil_append]) e2 (jt_ag_tr h.2.2 g (fun j => ?_)) z0
      rw [i1]; simp only [List.count_append, jt_cc, jt_cb, jt_cf, List.count_nil, jt_c1, Nat.add_zero]; omega
theorem jt_s69 {post : St2 → Prop} {x : Int32} {t : jt_T} (c : List (Bool × Nat × jt_T)) (h0 : a4 0 = 0) (kt : jt_ok a1 a2 a4 t) (kc : jt_oc a1 a2 a4 c) (ks : jt_st 0 a7 a8 c)
    (nd : ∀ j, List.count j (jt_lf c ++ jt_io t ++ jt_rh c) ≤ 1) (hs : (jt_lf c ++ jt_io t ++ jt_rh c).length ≤ 60) (hx : jt_rt t ≠ 0 → a3 (jt_rt t) = x)
    (sd : jt_sd a3 (jt_io t)) (klo : ∀ n, n ∈ jt_lf c → jt_kv a3 n < x.toInt) (khi : ∀ n, n ∈ jt_rh c → x.toInt < jt_kv a3 n)
    (H : ∀ L' R' C' W' X' tl th e, jt_ok L' R' C' tl → jt_ok L' R' C' th → jt_lf c ++ jt_io t ++ jt_rh c = jt_io tl ++ (jt_op e ++ jt_io th) → (∀ n, n ∈ jt_io tl → jt_kv a3 n < x.toInt) → (∀ n, n ∈ jt_io th → x.toInt < jt_kv a3 n) → e < 256 → (e ≠ 0 → a3 e = x) →
      jt_ag (jt_lf c ++ jt_io t ++ jt_rh c) a1 a2 a4 L' R' C' → C' 0 = 0 → post (fc, nI 0, nI (jt_rt tl), nI (jt_rt th), nI e, L', R', a3, C', a5, a6, W', X', a9, a10, a11, a12, a13)) :
    wX_splitTree_69 post (nI (jt_rt t)) fc (nI c.length) lo hi ex a1 a2 a3 a4 a5 a6 a7 a8 a9 a10 a11 a12 a13 := by
  unfold wX_splitTree_69 wX_splitTree_83
  cases t with
  | leaf u =>
    refine br_t rfl (br_t rfl ⟨c.length + 1, jt_s101 (e := 0) (by decide) c (.leaf ()) (.leaf ()) a1 a2 a4 a7 a8 h0 trivial trivial kc ks ?_ ?_ ?_⟩)
    · intro j; have := nd j; simp only [jt_op_0, jt_io, List.count_append, jt_cc, jt_cb, jt_cf, List.count_nil, jt_c1, Nat.add_zero, List.append_nil, List.nil_append] at this ⊢; omega
    · simp only [jt_op_0, jt_io, List.append_nil, List.nil_append] at hs ⊢; exact hs
    · intro L' R' C' W' X' tl th k1 k2 e1 e2 g z0
      have e1' : jt_io tl = jt_lf c := by rw [e1]; simp only [jt_io, List.append_nil]
      have e2' : jt_io th = jt_rh c := by rw [e2]; simp only [jt_io, List.nil_append]
      refine H L' R' C' W' X' tl th 0 k1 k2 ?_ ?_ ?_ (by decide) (fun z => absurd rfl z) ?_ z0
      · rw [e1', e2']; simp only [jt_op_0, jt_io, List.append_nil, List.nil_append]
      · rw [e1']; exact klo
      · rw [e2']; exact khi
      · simp only [jt_op_0, jt_io, List.append_nil, List.nil_append] at g ⊢; exact g
  | branch n l r =>
    obtain ⟨hn, eL, eR, eC, kl, kr⟩ := kt
    have sb := jt_sd_b sd
    have hz : n ≠ 0 := by omega
    have hk : jt_kv a3 n = x.toInt := congrArg Int32.toInt (hx hz)
    dsimp only [jt_rt]
    rw [jt_cl hn.2, eL, eR]
    refine br_f (jt_nz hn) ⟨pk_in n 256 hn.2, br_f (jt_nz hn) ⟨pk_in n 256 hn.2, nm_e ⟨c.length + 1, jt_s101 (e := n) hn.2 c l r a1 a2 a4 a7 a8 h0 kl kr kc ks ?_ ?_ ?_⟩⟩⟩
    · intro j; have := nd j; simp only [jt_op_n hz, List.count_append, jt_cc, jt_cb, jt_cf, List.count_nil, jt_c1, Nat.add_zero] at this ⊢; omega
    · simp only [jt_op_n hz, List.length_append, jt_lb, List.length_cons, List.length_nil] at hs ⊢; omega
    · intro L' R' C' W' X' tl th k1 k2 e1 e2 g z0
      refine H L' R' C' W' X' tl th n k1 k2 ?_ ?_ ?_ hn.2 (fun _ => hx hz) ?_ z0
      · rw [e1, e2, jt_op_n hz]; simp only [jt_io, List.append_assoc, List.cons_append, List.nil_append]
      · rw [e1]; intro i hi
        rcases List.mem_append.mp hi with h | h
        · exact klo i h
        · rw [← hk]; exact sb.2.2.1 i h
      · rw [e2]; intro i hi
        rcases List.mem_append.mp hi with h | h
        · rw [← hk]; exact sb.2.2.2 i h
        · exact khi i h
      · exact jt_ag_w g (fun j => by simp only [jt_op_n hz, List.count_append, jt_cc, jt_cb, jt_cf, List.count_nil, jt_c1, Nat.add_zero]; omega)
theorem jt_s7 {post : St2 → Prop} {x : Int32} (h0 : a4 0 = 0) : ∀ (t : jt_T) (c : List (Bool × Nat × jt_T)) (W X : Nat → Int32), jt_ok a1 a2 a4 t → jt_oc a1 a2 a4 c → jt_st 0 W X c →
    (∀ j, List.count j (jt_lf c ++ jt_io t ++ jt_rh c) ≤ 1) → (jt_lf c ++ jt_io t ++ jt_rh c).length ≤ 60 →
    jt_sd a3 (jt_io t) → (∀ n, n ∈ jt_lf c → jt_kv a3 n < x.toInt) → (∀ n, n ∈ jt_rh c → x.toInt < jt_kv a3 n) →
    (∀ L' R' C' W' X' tl th e, jt_ok L' R' C' tl → jt_ok L' R' C' th → jt_lf c ++ jt_io t ++ jt_rh c = jt_io tl ++ (jt_op e ++ jt_io th) → (∀ n, n ∈ jt_io tl → jt_kv a3 n < x.toInt) → (∀ n, n ∈ jt_io th → x.toInt < jt_kv a3 n) → e < 256 → (e ≠ 0 → a3 e = x) →
      jt_ag (jt_lf c ++ jt_io t ++ jt_rh c) a1 a2 a4 L' R' C' → C' 0 = 0 → post (fc, nI 0, nI (jt_rt tl), nI (jt_rt th), nI e, L', R', a3, C', a5, a6, W', X', a9, a10, a11, a12, a13)) →
    ∃ n, wX_splitTree_7 post x n (nI (jt_rt t)) fc (nI c.length) lo hi ex a1 a2 a3 a4 a5 a6 W X a9 a10 a11 a12 a13 := by
  intro t
  induction t with
  | leaf u =>
    intro c W X kt kc ks nd hs sd klo khi H
    exact ⟨1, br_t rfl (jt_s69 (t := .leaf u) c h0 kt kc ks nd hs (fun z => absurd rfl z) sd klo khi H)⟩
  | branch n l r ihl ihr =>
    intro c W X kt kc ks nd hs sd klo khi H
    have kt' := kt
    obtain ⟨hn, eL, eR, eC, kl, kr⟩ := kt'
    have sb := jt_sd_b sd
    have hl := jt_lc c
    have hs' := hs
    simp only [List.length_append, jt_lb] at hs'
    have ec : (nI (jt_rt (.branch n l r))).toNatClampNeg = n := jt_cl hn.2
    by_cases hx : a3 n = x
    · refine ⟨1, br_f (jt_nz hn) ⟨pk_in n 256 hn.2, ?_⟩⟩
      rw [ec]
      exact br_t hx (jt_s69 (t := .branch n l r) c h0 kt kc ks nd hs (fun _ => hx) sd klo khi H)
    · by_cases hg : x ≤ a3 n
      · have hlt : x.toInt < jt_kv a3 n := by
          have h1 := jt_le_i.mp hg
          have h2 : ¬ (a3 n).toInt = x.toInt := fun z => hx (jt_eq_i.mpr z)
          show x.toInt < (a3 n).toInt
          omega
        have ee : jt_lf ((false, n, r) :: c) ++ jt_io l ++ jt_rh ((false, n, r) :: c) = jt_lf c ++ jt_io (.branch n l r) ++ jt_rh c := by
          simp only [jt_lf_f, jt_rh_f, jt_io, List.append_assoc, List.cons_append]
        obtain ⟨f, hf⟩ := ihl ((false, n, r) :: c) (upd W c.length (nI n)) (upd X c.length 0) kl ⟨hn, eR, kr, kc⟩
          ⟨by rw [Nat.zero_add]; exact pk_us, by rw [Nat.zero_add]; exact pk_us, jt_st_fr ks (fun i hi => ⟨pk_un (by omega), pk_un (by omega)⟩)⟩ (by rw [ee]; exact nd) (by rw [ee]; exact hs) sb.1 klo
          (fun i hi => by
            rw [jt_rh_f] at hi
            rcases List.mem_cons.mp hi with h | h
            · rw [h]; exact hlt
            · rcases List.mem_append.mp h with h | h
              · exact Int.lt_trans hlt (sb.2.2.2 i h)
              · exact khi i h)
          (fun L' R' C' W' X' tl th e k1 k2 e1 q1 q2 q3 q4 g z0 => by rw [ee] at e1 g; exact H L' R' C' W' X' tl th e k1 k2 e1 q1 q2 q3 q4 g z0)
        refine ⟨f + 1, br_f (jt_nz hn) ⟨pk_in n 256 hn.2, ?_⟩⟩
        rw [ec]
        refine br_f hx ⟨pk_in n 256 hn.2, br_t hg ?_⟩
        unfold wX_splitTree_36
        refine jt_push (n := n) hn.2 (by omega) rfl ?_
        dsimp only [jt_rt]
        rw [jt_cl hn.2]
        exact br_t rfl ⟨pk_in n 256 hn.2, nm_r eL hf⟩
      · have hlt : jt_kv a3 n < x.toInt := by
          have h1 : ¬ x.toInt ≤ (a3 n).toInt := fun z => hg (jt_le_i.mpr z)
          show (a3 n).toInt < x.toInt
          omega
        have ee : jt_lf ((true, n, l) :: c) ++ jt_io r ++ jt_rh ((true, n, l) :: c) = jt_lf c ++ jt_io (.branch n l r) ++ jt_rh c := by
          simp only [jt_lf_t, jt_rh_t, jt_io, List.append_assoc, List.cons_append, List.nil_append]
        obtain ⟨f, hf⟩ := ihr ((true, n, l) :: c) (upd W c.length (nI n)) (upd X c.length 1) kr ⟨hn, eL, kl, kc⟩
          ⟨by rw [Nat.zero_add]; exact pk_us, by rw [Nat.zero_add]; exact pk_us, jt_st_fr ks (fun i hi => ⟨pk_un (by omega), pk_un (by omega)⟩)⟩ (by rw [ee]; exact nd) (by rw [ee]; exact hs) sb.2.1
          (fun i hi => by
            rw [jt_lf_t] at hi
            rcases List.mem_append.mp hi with h | h
            · exact klo i h
            · rcases List.mem_append.mp h with h | h
              · exact Int.lt_trans (sb.2.2.1 i h) hlt
              · rw [List.mem_singleton.mp h]; exact hlt)
          khi
          (fun L' R' C' W' X' tl th e k1 k2 e1 q1 q2 q3 q4 g z0 => by rw [ee] at e1 g; exact H L' R' C' W' X' tl th e k1 k2 e1 q1 q2 q3 q4 g z0)
        refine ⟨f + 1, br_f (jt_nz hn) ⟨pk_in n 256 hn.2, ?_⟩⟩
        rw [ec]
        refine br_f hx ⟨pk_in n 256 hn.2, br_f hg ?_⟩
        unfold wX_splitTree_36
        refine jt_push (n := n) hn.2 (by omega) rfl ?_
        dsimp only [jt_rt]
        rw [jt_cl hn.2]
        exact br_f (by decide) ⟨pk_in n 256 hn.2, nm_r eR hf⟩
theorem jt_split {post : St2 → Prop} {x : Int32} {t : jt_T} (h0 : a4 0 = 0) (kt : jt_ok a1 a2 a4 t) (nd : ∀ j, List.count j (jt_io t) ≤ 1) (hs : (jt_io t).length ≤ 60) (sd : jt_sd a3 (jt_io t))
    (H : ∀ L' R' C' W' X' tl th e, jt_ok L' R' C' tl → jt_ok L' R' C' th → jt_io t = jt_io tl ++ (jt_op e ++ jt_io th) → (∀ n, n ∈ jt_io tl → jt_kv a3 n < x.toInt) → (∀ n, n ∈ jt_io th → x.toInt < jt_kv a3 n) → e < 256 → (e ≠ 0 → a3 e = x) →
      jt_ag (jt_io t) a1 a2 a4 L' R' C' → C' 0 = 0 → post (fc, nI 0, nI (jt_rt tl), nI (jt_rt th), nI e, L', R', a3, C', a5, a6, W', X', a9, a10, a11, a12, a13)) :
    wpX_splitTree post (fc, we, lo, hi, ex, a1, a2, a3, a4, a5, a6, a7, a8, a9, a10, a11, a12, a13) (nI (jt_rt t)) x := by
  have ee : jt_lf [] ++ jt_io t ++ jt_rh [] = jt_io t := by simp only [jt_lf, jt_rh, List.nil_append, List.append_nil]
  unfold wpX_splitTree
  dsimp only
  refine jt_s7 h0 t [] a7 a8 kt trivial trivial (by rw [ee]; exact nd) (by rw [ee]; exact hs) sd (fun n hn => absurd hn (List.not_mem_nil)) (fun n hn => absurd hn (List.not_mem_nil)) ?_
  rw [ee]
  exact H
theorem jt_joinTwo {post : Int32 → St2 → Prop} {ta tb : jt_T} (h0 : a4 0 = 0) (ka : jt_ok a1 a2 a4 ta) (kb : jt_ok a1 a2 a4 tb) (nd : ∀ j, List.count j (jt_io ta ++ jt_io tb) ≤ 1) (hs : (jt_io ta ++ jt_io tb).length ≤ 60) (sd : jt_sd a3 (jt_io ta)) (hw : we = nI 0)
    (H : ∀ L' R' C' W' X' lo' hi' ex' t', jt_to (jt_io ta ++ jt_io tb) a1 a2 a4 L' R' C' t' → post (nI (jt_rt t')) (fc, nI 0, lo', hi', ex', L', R', a3, C', a5, a6, W', X', a9, a10, a11, a12, a13)) :
    wpX_joinTwo post (fc, we, lo, hi, ex, a1, a2, a3, a4, a5, a6, a7, a8, a9, a10, a11, a12, a13) (nI (jt_rt ta)) (nI (jt_rt tb)) := by
  have hs' := hs
  simp only [List.length_append] at hs'
  have main : ∀ (x : jt_T) (A : List Nat), jt_ok a1 a2 a4 x → jt_rt x ≠ 0 → jt_io ta = A ++ jt_io x → ∃ n, wX_joinTwo_8 post (nI (jt_rt ta)) (nI (jt_rt tb)) fc we lo hi ex a1 a2 a3 a4 a5 a6 a7 a8 a9 a10 a11 a12 a13 n (nI (jt_rt x)) := by
    intro x
    induction x with
    | leaf u => intro A _ hx; exact absurd rfl hx
    | branch n l r ihl ihr =>
      intro A kx hx eA
      obtain ⟨hn, eL, eR, eC, kl, kr⟩ := kx
      have ec : (nI (jt_rt (.branch n l r))).toNatClampNeg = n := jt_cl hn.2
      by_cases hr : jt_rt r = 0
      · refine ⟨1, pk_in n 256 hn.2, ?_⟩
        rw [ec]
        refine br_t (by rw [eR, hr]; rfl) ⟨pk_in n 256 hn.2, ?_⟩
        have eA2 : jt_io ta = (A ++ jt_io l) ++ [n] := by rw [eA, jt_io_b, jt_rt_0 kr hr, List.append_assoc]
        refine jt_split (t := ta) h0 ka (fun j => by have := nd j; simp only [List.count_append, jt_cc, jt_cb, jt_cf, List.count_nil, jt_c1, Nat.add_zero] at this; omega) (by omega) sd ?_
        intro L' R' C' W' X' tl th e k1 k2 e1 q1 q2 q3 q4 g z0
        have nmem : n ∈ jt_io ta := by rw [eA2]; exact List.mem_append.mpr (Or.inr (List.mem_singleton.mpr rfl))
        have big : ∀ i, i ∈ jt_io ta → jt_kv a3 i ≤ jt_kv a3 n := by
          intro i hi
          rw [eA2] at hi
          rcases List.mem_append.mp hi with h | h
          · unfold jt_sd at sd
            rw [eA2, List.pairwise_append] at sd
            exact Int.le_of_lt (sd.2.2 i h n (List.mem_singleton.mpr rfl))
          · rw [List.mem_singleton.mp h]; exact Int.le_refl _
        have eth : jt_io th = [] := by
          cases hth : jt_io th with
          | nil => rfl
          | cons z zs =>
            have hz : z ∈ jt_io th := by rw [hth]; exact List.mem_cons_self
            have h1 := q2 z hz
            have h2 := big z (by rw [e1]; exact List.mem_append.mpr (Or.inr (List.mem_append.mpr (Or.inr hz))))
            exact absurd h1 (by show ¬ (a3 n).toInt < _; have : jt_kv a3 n = (a3 n).toInt := rfl; omega)
        have ntl : n ∉ jt_io tl := fun h => absurd (q1 n h) (Int.lt_irrefl _)
        have he : e ≠ 0 := by
          intro z
          rw [e1, z, jt_op_0, eth] at nmem
          simp only [List.append_nil] at nmem
          exact ntl nmem
        rw [jt_op_n he, eth] at e1
        simp only [List.append_nil] at e1
        have ho : 0 < e ∧ e < 256 := by omega
        refine jt_join (ta := tl) (tb := tb) ho z0 k1 (jt_ok_ag kb g (fun j => by have := nd j; simp only [List.count_append, jt_cc, jt_cb, jt_cf, List.count_nil, jt_c1, Nat.add_zero] at this; omega)) (fun j => by have := nd j; rw [e1] at this; simp only [List.count_append, jt_cc, jt_cb, jt_cf, List.count_nil, jt_c1, Nat.add_zero] at this ⊢; omega) (by have h := hs; rw [e1] at h; simp only [List.length_append, List.length_cons, List.length_nil] at h ⊢; omega) ?_
        intro L2 R2 C2 W2 X2 t2 h2 hW
        have e3 : jt_io tl ++ e :: jt_io tb = jt_io ta ++ jt_io tb := by rw [e1]; simp only [List.append_assoc, List.cons_append, List.nil_append]
        rw [e3] at h2
        exact H L2 R2 C2 W2 X2 _ _ _ t2 ⟨h2.1, h2.2.1, jt_ag_tr g h2.2.2 (fun j => by simp only [List.count_append, jt_cc, jt_cb, jt_cf, List.count_nil, jt_c1, Nat.add_zero]; omega)⟩
      · obtain ⟨f, hf⟩ := ihr (A ++ (jt_io l ++ [n])) kr hr (by rw [eA, jt_io_b]; simp only [List.append_assoc, List.cons_append, List.nil_append])
        refine ⟨f + 1, pk_in n 256 hn.2, ?_⟩
        rw [ec]
        refine br_f (by rw [eR]; exact nI_ne0 (by omega) (by have := jt_rt_lt kr; omega)) ⟨pk_in n 256 hn.2, nm_r eR hf⟩
  unfold wpX_joinTwo
  dsimp only
  by_cases ha : jt_rt ta = 0
  · refine br_t (by rw [ha]; rfl) ?_
    rw [hw]
    exact H a1 a2 a4 a7 a8 lo hi ex tb ⟨kb, by rw [jt_rt_0 ka ha]; rfl, jt_ag_refl _ _ _ _⟩
  · exact br_f (nI_ne0 (by omega) (by have := jt_rt_lt ka; omega)) (main ta [] ka ha rfl)
end
end
section
/-- the free nodes, the top first -/
def jt_fr (FN : Nat → Int32) : List Nat → Prop
  | [] => True
  | n :: fs => FN fs.length = nI n ∧ jt_fr FN fs
theorem jt_fr_w {FN FN' : Nat → Int32} : ∀ {fs : List Nat}, jt_fr FN fs → (∀ i, i < fs.length → FN' i = FN i) → jt_fr FN' fs
  | [], _, _ => trivial
  | n :: fs, h, f => ⟨(f fs.length (by rw [List.length_cons]; omega)).trans h.1, jt_fr_w h.2 (fun i hi => f i (by rw [List.length_cons]; omega))⟩
theorem jt_fr_ap {FN : Nat → Int32} : ∀ {g fs : List Nat}, jt_fr FN (g ++ fs) → jt_fr FN fs
  | [], _, h => h
  | _ :: _, _, h => jt_fr_ap h.2
theorem jt_fr_push {FN : Nat → Int32} {fs : List Nat} (n : Nat) (h : jt_fr FN fs) : jt_fr (upd FN fs.length (nI n)) (n :: fs) :=
  ⟨pk_us, jt_fr_w h (fun i hi => pk_un (by omega))⟩
def jt_sg : jt_T → Nat
  | .leaf _ => 0
  | .branch _ _ _ => 1
/-- a place of the list for ways: the copy q of t's root waits there, with the children of t -/
def jt_sl (L R K C W : Nat → Int32) (b : Nat) (q : Nat) : jt_T → Prop
  | .leaf _ => q = 0
  | .branch n l r => (0 < q ∧ q < 256) ∧ W b = nI q ∧ L q = nI (jt_rt l) ∧ R q = nI (jt_rt r) ∧ C q = nI ((jt_io l).length + (jt_io r).length + 1) ∧ K q = K n
theorem jt_map_fr {K K' : Nat → Int32} {l : List Nat} (h : ∀ j, 0 < List.count j l → K' j = K j) : l.map (jt_kv K') = l.map (jt_kv K) :=
  List.map_congr_left (fun j hj => by unfold jt_kv; rw [h j (jt_cm hj)])
section
variable {fc we lo hi ex : Int32} {a1 a2 a3 a4 a5 a6 a7 a8 a9 a10 a11 a12 a13 : Nat → Int32}
theorem jt_new {post : Int32 → St2 → Prop} {n f : Nat} {x : Int32} (hn : n < 256) (hf : f < 256) (e : a6 f = nI n) (H : post (nI n) (nI f, we, lo, hi, ex, upd a1 n 0, upd a2 n 0, upd a3 n x, upd a4 n 1, a5, a6, a7, a8, a9, a10, a11, a12, a13)) : wpX_newNode post (nI (f + 1), we, lo, hi, ex, a1, a2, a3, a4, a5, a6, a7, a8, a9, a10, a11, a12, a13) x := by
  unfold wpX_newNode
  dsimp only
  refine nm_r (nI_pred f) ⟨pk_in f 256 hf, ?_⟩
  rw [nI_clamp (show f < 2 ^ 31 by omega)]
  refine nm_r e ?_
  rw [jt_cl hn]
  exact ⟨pk_in n 256 hn, nm_e ⟨pk_in n 256 hn, nm_e ⟨pk_in n 256 hn, nm_e ⟨pk_in n 256 hn, nm_e H⟩⟩⟩⟩
theorem jt_twin {post : Int32 → St2 → Prop} {s n f l r k : Nat} (hs : s < 256) (hn : n < 256) (hf : f < 256) (hsn : s ≠ n) (e : a6 f = nI n) (eL : a1 s = nI l) (eR : a2 s = nI r) (eC : a4 s = nI k) (hl : l < 256) (hr : r < 256) (hk : k < 128)
    (H : ∀ L' R' C', L' n = nI l → R' n = nI r → C' n = nI k → jt_ag [n] a1 a2 a4 L' R' C' → post (nI n) (nI f, we, lo, hi, ex, L', R', upd a3 n (a3 s), C', a5, a6, a7, a8, a9, a10, a11, a12, a13)) : wpX_twin post (nI (f + 1), we, lo, hi, ex, a1, a2, a3, a4, a5, a6, a7, a8, a9, a10, a11, a12, a13) (nI s) := by
  unfold wpX_twin
  dsimp only
  rw [jt_cl hs]
  refine ⟨pk_in s 256 hs, jt_new hn hf e ?_⟩
  dsimp only
  rw [jt_cl hn, pk_un hsn, pk_un hsn, pk_un hsn, eL, eR, eC, jt_ns hl, jt_ns hr, jt_nb hk]
  refine ⟨pk_in s 256 hs, pk_in n 256 hn, nm_e ⟨pk_in s 256 hs, pk_in n 256 hn, nm_e ⟨pk_in s 256 hs, pk_in n 256 hn, nm_e (H _ _ _ pk_us pk_us pk_us ?_)⟩⟩⟩
  intro j hj
  have hjn : j ≠ n := fun q => by rw [q, jt_one, jt_c1] at hj; omega
  exact ⟨(pk_un hjn).trans (pk_un hjn), (pk_un hjn).trans (pk_un hjn), (pk_un hjn).trans (pk_un hjn)⟩
theorem jt_rel {post : St2 → Prop} {n : Nat} {fs : List Nat} (hn : n < 256) (hf : fs.length < 256) (hfr : jt_fr a6 fs)
    (H : ∀ FN' fs', fs' = jt_op n ++ fs → jt_fr FN' fs' → post (nI fs'.length, we, lo, hi, ex, a1, a2, a3, a4, a5, FN', a7, a8, a9, a10, a11, a12, a13)) : wpX_release post (nI fs.length, we, lo, hi, ex, a1, a2, a3, a4, a5, a6, a7, a8, a9, a10, a11, a12, a13) (nI n) := by
  unfold wpX_release
  dsimp only
  refine pk_eq n 0 (fun z => ?_) (fun z => ?_)
  · exact H a6 fs (by rw [z]; rfl) hfr
  · rw [nI_clamp (show fs.length < 2 ^ 31 by omega), jt_s16 n hn, nI_1]
    refine ⟨pk_in fs.length 256 hf, nm_e (nm_e ?_)⟩
    exact H _ (n :: fs) (by rw [jt_op_n z]; rfl) (jt_fr_push n hfr)
theorem jt_r11 {post : St2 → Prop} : ∀ (t : jt_T) (b f0 : Nat) (fs : List Nat) (FN W X : Nat → Int32), jt_ok a1 a2 a4 t → W b = nI (jt_rt t) → b + (jt_io t).length + 1 ≤ 64 → jt_fr FN fs → fs.length + (jt_io t).length ≤ 255 →
    (∀ f, f0 ≤ f → ∀ fs' FN' W' X', (∀ j, List.count j fs' = List.count j (jt_io t) + List.count j fs) → fs'.length = (jt_io t).length + fs.length → jt_fr FN' fs' → (∀ i, i < b → W' i = W i) → wX_releaseTree_11 post f (nI fs'.length) (nI b) lo hi ex a1 a2 a3 a4 a5 FN' W' X' a9 a10 a11 a12 a13) →
    ∀ f, f0 + 2 * (jt_io t).length + 1 ≤ f → wX_releaseTree_11 post f (nI fs.length) (nI (b + 1)) lo hi ex a1 a2 a3 a4 a5 FN W X a9 a10 a11 a12 a13 := by
  intro t
  induction t with
  | leaf u =>
    intro b f0 fs FN W X kt eW hb hfr hsz K f hf
    obtain ⟨f, rfl⟩ : ∃ f', f = f' + 1 := ⟨f - 1, by omega⟩
    have e0 : (jt_io (.leaf u)).length = 0 := rfl
    refine pk_le (b + 1) 0 (fun z => absurd z (by omega)) (fun _ => nm_r (nI_pred b) ⟨pk_in b 64 (by omega), ?_⟩)
    rw [nI_clamp (show b < 2 ^ 31 by omega)]
    exact nm_r eW (br_t rfl (K f (by omega) fs FN W X (fun j => by rw [jt_cf]; omega) (by omega) hfr (fun _ _ => rfl)))
  | branch n l r ihl ihr =>
    intro b f0 fs FN W X kt eW hb hfr hsz K f hf
    obtain ⟨hn, eL, eR, eC, kl, kr⟩ := kt
    rw [jt_lb] at hb hsz hf
    obtain ⟨f, rfl⟩ : ∃ f', f = f' + 1 := ⟨f - 1, by omega⟩
    refine pk_le (b + 1) 0 (fun z => absurd z (by omega)) (fun _ => nm_r (nI_pred b) ⟨pk_in b 64 (by omega), ?_⟩)
    rw [nI_clamp (show b < 2 ^ 31 by omega)]
    refine nm_r eW (br_f (jt_nz hn) ?_)
    dsimp only [jt_rt]
    refine jt_rel hn.2 (by omega) hfr (fun FN1 fs1 e1 hfr1 => ?_)
    rw [jt_op_n (by omega)] at e1
    have l1 : fs1.length = fs.length + 1 := by rw [e1]; rfl
    dsimp only
    rw [jt_cl hn.2, eL]
    refine ⟨pk_in n 256 hn.2, jt_push (jt_rt_lt kl) (by omega) rfl ?_⟩
    dsimp only
    rw [eR]
    refine ⟨pk_in n 256 hn.2, jt_push (jt_rt_lt kr) (by omega) rfl ?_⟩
    dsimp only
    refine ihr (b + 1) (f0 + 2 * (jt_io l).length + 1) fs1 FN1 _ _ kr pk_us (by omega) hfr1 (by omega) ?_ f (by omega)
    intro f2 hf2 fs2 FN2 W2 X2 c2 l2 hfr2 w2
    refine ihl b f0 fs2 FN2 W2 X2 kl ((w2 b (by omega)).trans ((pk_un (by omega)).trans pk_us)) (by omega) hfr2 (by omega) ?_ f2 (by omega)
    intro f3 hf3 fs3 FN3 W3 X3 c3 l3 hfr3 w3
    refine K f3 hf3 fs3 FN3 W3 X3 (fun j => ?_) (by rw [jt_lb]; omega) hfr3 (fun i hi => (w3 i hi).trans ((w2 i (by omega)).trans ((pk_un (by omega)).trans (pk_un (by omega)))))
    rw [c3 j, c2 j, e1]
    simp only [List.count_append, jt_cc, jt_cb, jt_cf, List.count_nil, jt_c1, Nat.add_zero]; omega
theorem jt_relT {post : St2 → Prop} {t : jt_T} {fs : List Nat} (kt : jt_ok a1 a2 a4 t) (hb : (jt_io t).length ≤ 60) (hfr : jt_fr a6 fs) (hsz : fs.length + (jt_io t).length ≤ 255)
    (H : ∀ fs' FN' W' X', (∀ j, List.count j fs' = List.count j (jt_io t) + List.count j fs) → fs'.length = (jt_io t).length + fs.length → jt_fr FN' fs' → post (nI fs'.length, nI 0, lo, hi, ex, a1, a2, a3, a4, a5, FN', W', X', a9, a10, a11, a12, a13)) :
    wpX_releaseTree post (nI fs.length, we, lo, hi, ex, a1, a2, a3, a4, a5, a6, a7, a8, a9, a10, a11, a12, a13) (nI (jt_rt t)) := by
  unfold wpX_releaseTree
  dsimp only
  refine jt_push (w := 0) (jt_rt_lt kt) (by omega) rfl ⟨1 + 2 * (jt_io t).length + 1, ?_⟩
  refine jt_r11 t 0 1 fs a6 _ _ kt pk_us (by omega) hfr hsz ?_ _ (Nat.le_refl _)
  intro f hf fs' FN' W' X' c1 l1 hfr1 _
  obtain ⟨f, rfl⟩ : ∃ f', f = f' + 1 := ⟨f - 1, by omega⟩
  exact pk_le 0 0 (fun _ => H fs' FN' W' X' c1 l1 hfr1) (fun z => absurd z (by omega))
end
end
section
theorem jt_op_c {e j : Nat} (h : e ≠ 0) : List.count j (jt_op e) = jt_o e j := by rw [jt_op_n h]; rfl
section
variable {fc we lo hi ex : Int32} {a1 a2 a3 a4 a5 a6 a7 a8 a9 a10 a11 a12 a13 : Nat → Int32}
theorem jt_c87 {post : Int32 → St2 → Prop} {J : Int32 → Int32 → Int32 → Int32 → Int32 → (Nat → Int32) → (Nat → Int32) → (Nat → Int32) → (Nat → Int32) → (Nat → Int32) → (Nat → Int32) → (Nat → Int32) → (Nat → Int32) → (Nat → Int32) → (Nat → Int32) → (Nat → Int32) → (Nat → Int32) → (Nat → Int32) → Prop}
    {x2 : Int32} {q b : Nat} {t : jt_T} {fs : List Nat} (hq : 0 < q ∧ q < 256) (kt : jt_ok a1 a2 a4 t) (eR : a2 q = nI (jt_rt t)) (hsz : (jt_io t).length ≤ 60) (hb : b < 64) (hfr : jt_fr a6 fs) (hne : (jt_io t).length ≤ fs.length) (hfl : fs.length < 256)
    (rg : ∀ j, 0 < List.count j fs → 0 < j ∧ j < 256) (nd : ∀ j, List.count j (jt_io t) + List.count j fs + jt_o q j ≤ 1)
    (H : ∀ c fs' L' R' K' C' W' X', fs = jt_op c ++ fs' → jt_sl L' R' K' C' W' b c t → R' q = nI c → (∀ j, List.count j (jt_op c) = 0 → L' j = a1 j ∧ (j ≠ q → R' j = a2 j) ∧ C' j = a4 j ∧ K' j = a3 j) → (∀ i, i < b → W' i = a7 i) →
      J (nI fs'.length) (nI (b + jt_sg t)) lo hi ex L' R' K' C' a5 a6 W' X' a9 a10 a11 a12 a13) :
    wX_copyOf_87 post J x2 (nI q) (nI fs.length) (nI b) lo hi ex a1 a2 a3 a4 a5 a6 a7 a8 a9 a10 a11 a12 a13 := by
  unfold wX_copyOf_87
  rw [jt_cl hq.2, eR]
  cases t with
  | leaf u => exact ⟨pk_in q 256 hq.2, br_t rfl (H 0 fs a1 a2 a3 a4 a7 a8 rfl rfl eR (fun j _ => ⟨rfl, fun _ => rfl, rfl, rfl⟩) (fun _ _ => rfl))⟩
  | branch n l r =>
    obtain ⟨hn, eL1, eR1, eC1, kl, kr⟩ := kt
    rw [jt_lb] at hsz hne
    cases fs with
    | nil => exact absurd hne (by rw [List.length_nil]; omega)
    | cons c fs' =>
      have hc := rg c (by rw [jt_cc, jt_c1]; omega)
      have z := nd c
      have z2 := nd q
      simp only [List.count_append, jt_cc, jt_cb, jt_cf, List.count_nil, jt_c1, Nat.add_zero] at z z2
      have hnc : n ≠ c := fun e => by rw [← e, jt_c1] at z; omega
      have hqc : q ≠ c := fun e => by rw [e, jt_c1] at z; omega
      rw [List.length_cons] at hfl hne
      rw [jt_e_twin_2]
      refine ⟨pk_in q 256 hq.2, br_f (jt_nz hn) ⟨pk_in q 256 hq.2, ?_⟩⟩
      refine jt_twin (s := n) (n := c) (f := fs'.length) hn.2 hc.2 (by omega) hnc hfr.1 eL1 eR1 eC1 (jt_rt_lt kl) (jt_rt_lt kr) (by omega) ?_
      intro L' R' C' eL2 eR2 eC2 g
      dsimp only
      rw [jt_s16 c hc.2]
      refine ⟨pk_in q 256 hq.2, nm_e ⟨pk_in q 256 hq.2, ?_⟩⟩
      rw [pk_us]
      refine jt_push hc.2 hb rfl ?_
      have hc0 : c ≠ 0 := by omega
      refine H c fs' L' (upd R' q (nI c)) (upd a3 c (a3 n)) C' (upd a7 b (nI c)) (upd a8 b 0) (by rw [jt_op_n hc0]; rfl) ⟨hc, pk_us, eL2, (pk_un (Ne.symm hqc)).trans eR2, eC2, ?_⟩ pk_us ?_ ?_
      · rw [pk_us, pk_un hnc]
      · intro j hj
        rw [jt_op_n hc0] at hj
        have gj := g j hj
        have hjc : j ≠ c := fun e => by rw [e, jt_one, jt_c1] at hj; omega
        exact ⟨gj.1, fun hjq => (pk_un hjq).trans gj.2.1, gj.2.2, pk_un hjc⟩
      · exact fun i hi => pk_un (by omega)
theorem jt_c23 {post : Int32 → St2 → Prop} {x2 : Int32} : ∀ (t : jt_T) (q b f0 : Nat) (fs : List Nat) (L R K C W X : Nat → Int32), jt_sl L R K C W b q t → jt_ok L R C t → b + (jt_io t).length ≤ 60 → jt_fr a6 fs → (jt_io t).length ≤ fs.length + 1 → fs.length < 256 →
    (∀ j, 0 < List.count j fs → 0 < j ∧ j < 256) → (∀ j, List.count j (jt_io t) + List.count j (jt_op q) + List.count j fs ≤ 1) →
    (∀ f, f0 ≤ f → ∀ t' g fs' L' R' K' C' W' X', fs = g ++ fs' → jt_rt t' = q → (∀ j, List.count j (jt_io t') = List.count j (jt_op q) + List.count j g) → jt_ok L' R' C' t' → (jt_io t').map (jt_kv K') = (jt_io t).map (jt_kv K) →
      (∀ j, List.count j (jt_op q) + List.count j g = 0 → L' j = L j ∧ R' j = R j ∧ C' j = C j) → (∀ j, List.count j g = 0 → K' j = K j) → (∀ i, i < b → W' i = W i) →
      wX_copyOf_23 post x2 f (nI fs'.length) (nI b) lo hi ex L' R' K' C' a5 a6 W' X' a9 a10 a11 a12 a13) →
    ∀ f, f0 + (jt_io t).length ≤ f → wX_copyOf_23 post x2 f (nI fs.length) (nI (b + jt_sg t)) lo hi ex L R K C a5 a6 W X a9 a10 a11 a12 a13 := by
  intro t
  induction t with
  | leaf u =>
    intro q b f0 fs L R K C W X sl kt hb hfr hne hfl rg nd Co f hf
    have hq : q = 0 := sl
    exact Co f (by have : (jt_io (.leaf u)).length = 0 := rfl; omega) (.leaf u) [] fs L R K C W X rfl hq.symm (fun j => by rw [hq]; rfl) kt rfl (fun _ _ => ⟨rfl, rfl, rfl⟩) (fun _ _ => rfl) (fun _ _ => rfl)
  | branch n l r ihl ihr =>
    intro q b f0 fs L R K C W X sl kt hb hfr hne hfl rg nd Co f hf
    obtain ⟨hq, eW, eL, eR, eC, eK⟩ := sl
    obtain ⟨hn, eL1, eR1, eC1, kl, kr⟩ := kt
    have hq0 : q ≠ 0 := by omega
    rw [jt_lb] at hb hne hf
    simp only [jt_op_c hq0, List.count_append, jt_cc, jt_cb, jt_cf, List.count_nil, jt_c1, Nat.add_zero] at nd
    obtain ⟨f, rfl⟩ : ∃ f', f = f' + 1 := ⟨f - 1, by omega⟩
    have sgl : jt_sg l ≤ 1 := by cases l <;> (first | exact Nat.zero_le 1 | exact Nat.le_refl 1)
    have rest : ∀ c fs1 L1 R1 K1 C1 W1 X1, fs = jt_op c ++ fs1 → jt_sl L1 R1 K1 C1 W1 b c l → L1 q = nI c → (∀ j, List.count j (jt_op c) = 0 → (j ≠ q → L1 j = L j) ∧ R1 j = R j ∧ C1 j = C j ∧ K1 j = K j) → (∀ i, i < b → W1 i = W i) →
        wX_copyOf_87 post (wX_copyOf_23 post x2 f) x2 (nI q) (nI fs1.length) (nI (b + jt_sg l)) lo hi ex L1 R1 K1 C1 a5 a6 W1 X1 a9 a10 a11 a12 a13 := by
      intro c fs1 L1 R1 K1 C1 W1 X1 e1 s1 eL1q fr1 w1
      have nd1 : ∀ j, List.count j (jt_io l) + (jt_o n j + List.count j (jt_io r)) + jt_o q j + (List.count j (jt_op c) + List.count j fs1) ≤ 1 := fun j => by have := nd j; rw [e1] at this; simp only [List.count_append, jt_cc, jt_cb, jt_cf, List.count_nil, jt_c1, Nat.add_zero] at this; exact this
      have len1 : fs.length = (jt_op c).length + fs1.length := by rw [e1, List.length_append]
      have lenl : (jt_op c).length + (jt_io r).length ≤ fs.length := by
        have h1 : (jt_op c).length ≤ (jt_io l).length := by
          cases l with
          | leaf u => have hc0 : c = 0 := s1; rw [hc0]; exact Nat.le_refl 0
          | branch m x y => rw [jt_lb]; unfold jt_op; split <;> simp
        omega
      have opc1 : (jt_op c).length ≤ 1 := by unfold jt_op; split <;> simp
      have kr1 : jt_ok L1 R1 C1 r := jt_ok_fr kr (fun j hj => by
        have h1 := nd1 j
        have h2 := fr1 j (by omega)
        refine ⟨h2.1 (fun e => ?_), h2.2.1, h2.2.2.1⟩
        rw [e, jt_c1] at h1; rw [e] at hj; omega)
      have kl1 : jt_ok L1 R1 C1 l := jt_ok_fr kl (fun j hj => by
        have h1 := nd1 j
        have h2 := fr1 j (by omega)
        refine ⟨h2.1 (fun e => ?_), h2.2.1, h2.2.2.1⟩
        rw [e, jt_c1] at h1; rw [e] at hj; omega)
      have ndq := nd1 q
      rw [jt_c1] at ndq
      have f1q := fr1 q (by omega)
      refine jt_c87 (t := r) (fs := fs1) hq kr1 (f1q.2.1.trans eR) (by omega) (by omega) (jt_fr_ap (by rw [← e1]; exact hfr)) (by omega) (by omega) (fun j hj => rg j (by rw [e1]; simp only [List.count_append, jt_cc, jt_cb, jt_cf, List.count_nil, jt_c1, Nat.add_zero]; omega)) (fun j => by have := nd1 j; omega) ?_
      intro d fs2 L2 R2 K2 C2 W2 X2 e2 s2 eR2q fr2 w2
      have nd2 : ∀ j, List.count j (jt_io l) + (jt_o n j + List.count j (jt_io r)) + jt_o q j + (List.count j (jt_op c) + (List.count j (jt_op d) + List.count j fs2)) ≤ 1 := fun j => by have := nd1 j; rw [e2] at this; simp only [List.count_append, jt_cc, jt_cb, jt_cf, List.count_nil, jt_c1, Nat.add_zero] at this; exact this
      have len2 : fs1.length = (jt_op d).length + fs2.length := by rw [e2, List.length_append]
      have opd1 : (jt_op d).length ≤ 1 := by unfold jt_op; split <;> simp
      have lend : (jt_op d).length ≤ (jt_io r).length := by
        cases r with
        | leaf u => have hd0 : d = 0 := s2; rw [hd0]; exact Nat.le_refl 0
        | branch m x y => rw [jt_lb]; omega
      have lenc : (jt_op c).length ≤ (jt_io l).length := by
        cases l with
        | leaf u => have hc0 : c = 0 := s1; rw [hc0]; exact Nat.le_refl 0
        | branch m x y => rw [jt_lb]; omega
      have kr2 : jt_ok L2 R2 C2 r := jt_ok_fr kr1 (fun j hj => by
        have h1 := nd2 j
        have h2 := fr2 j (by omega)
        refine ⟨h2.1, h2.2.1 (fun e => ?_), h2.2.2.1⟩
        rw [e, jt_c1] at h1; rw [e] at hj; omega)
      have kl2 : jt_ok L2 R2 C2 l := jt_ok_fr kl1 (fun j hj => by
        have h1 := nd2 j
        have h2 := fr2 j (by omega)
        refine ⟨h2.1, h2.2.1 (fun e => ?_), h2.2.2.1⟩
        rw [e, jt_c1] at h1; rw [e] at hj; omega)
      have ndq2 := nd2 q
      rw [jt_c1] at ndq2
      have f2q := fr2 q (by omega)
      have hfr2 : jt_fr a6 fs2 := jt_fr_ap (g := jt_op d) (by rw [← e2]; exact jt_fr_ap (g := jt_op c) (by rw [← e1]; exact hfr))
      have rg2 : ∀ j, 0 < List.count j fs2 → 0 < j ∧ j < 256 := fun j hj => rg j (by rw [e1, e2]; simp only [List.count_append, jt_cc, jt_cb, jt_cf, List.count_nil, jt_c1, Nat.add_zero]; omega)
      refine ihr d (b + jt_sg l) (f0 + (jt_io l).length) fs2 L2 R2 K2 C2 W2 X2 s2 kr2 (by omega) hfr2 (by omega) (by omega) rg2 (fun j => by have := nd2 j; omega) ?_ f (by omega)
      intro f3 hf3 r' g3 fs3 L3 R3 K3 C3 W3 X3 e3 rt3 c3 k3 m3 fr3 kf3 w3
      have nd3 : ∀ j, List.count j (jt_io l) + (jt_o n j + List.count j (jt_io r)) + jt_o q j + (List.count j (jt_op c) + (List.count j (jt_op d) + (List.count j g3 + List.count j fs3))) ≤ 1 := fun j => by have := nd2 j; rw [e3] at this; simp only [List.count_append, jt_cc, jt_cb, jt_cf, List.count_nil, jt_c1, Nat.add_zero] at this; exact this
      have len3 : fs2.length = g3.length + fs3.length := by rw [e3, List.length_append]
      have lr3 : (jt_io r').length = (jt_op d).length + g3.length := by
        have hp : List.Perm (jt_io r') (jt_op d ++ g3) := List.perm_iff_count.mpr (fun j => by rw [c3 j, List.count_append])
        rw [hp.length_eq, List.length_append]
      have lr3' : (jt_io r').length = (jt_io r).length := by have h := congrArg List.length m3; simpa only [List.length_map] using h
      have kl3 : jt_ok L3 R3 C3 l := jt_ok_fr kl2 (fun j hj => fr3 j (by have := nd3 j; omega))
      have s3 : jt_sl L3 R3 K3 C3 W3 b c l := by
        cases l with
        | leaf u => exact s1
        | branch m x y =>
          obtain ⟨hc, eWc, eLc, eRc, eCc, eKc⟩ := s1
          have hc0 : c ≠ 0 := by omega
          have x3 := nd3 c
          have xm := nd3 m
          rw [jt_op_c hc0, jt_c1] at x3
          simp only [List.count_append, jt_cc, jt_cb, jt_cf, List.count_nil, jt_c1, Nat.add_zero] at xm
          have hcq : c ≠ q := fun e => by rw [e, jt_c1] at x3; omega
          have y2 := fr2 c (by omega)
          have y3 := fr3 c (by omega)
          have ym2 := fr2 m (by omega)
          refine ⟨hc, (w3 b (by show b < b + 1; omega)).trans ((w2 b (by show b < b + 1; omega)).trans eWc), y3.1.trans (y2.1.trans eLc), y3.2.1.trans ((y2.2.1 hcq).trans eRc), y3.2.2.trans (y2.2.2.1.trans eCc), ?_⟩
          rw [kf3 c (by omega), kf3 m (by omega), y2.2.2.2, ym2.2.2.2, eKc]
      refine ihl c b f0 fs3 L3 R3 K3 C3 W3 X3 s3 kl3 (by omega) (jt_fr_ap (g := g3) (by rw [← e3]; exact hfr2)) (by omega) (by omega) (fun j hj => rg2 j (by rw [e3]; simp only [List.count_append, jt_cc, jt_cb, jt_cf, List.count_nil, jt_c1, Nat.add_zero]; omega)) (fun j => by have := nd3 j; omega) ?_ f3 (by omega)
      intro f4 hf4 l' g4 fs4 L4 R4 K4 C4 W4 X4 e4 rt4 c4 k4 m4 fr4 kf4 w4
      have nd4 : ∀ j, List.count j (jt_io l) + (jt_o n j + List.count j (jt_io r)) + jt_o q j + (List.count j (jt_op c) + (List.count j (jt_op d) + (List.count j g3 + (List.count j g4 + List.count j fs4)))) ≤ 1 := fun j => by have := nd3 j; rw [e4] at this; simp only [List.count_append, jt_cc, jt_cb, jt_cf, List.count_nil, jt_c1, Nat.add_zero] at this; exact this
      have ll4 : (jt_io l').length = (jt_io l).length := by have h := congrArg List.length m4; simpa only [List.length_map] using h
      have x4 := nd4 q
      rw [jt_c1] at x4
      have q4 := fr4 q (by omega)
      have q3 := fr3 q (by omega)
      have kr4 : jt_ok L4 R4 C4 r' := jt_ok_fr k3 (fun j hj => fr4 j (by have := nd4 j; rw [c3 j] at hj; omega))
      have Kq : K4 q = K n := by rw [kf4 q (by omega), kf3 q (by omega), f2q.2.2.2, f1q.2.2.2, eK]
      have ml : (jt_io l').map (jt_kv K4) = (jt_io l).map (jt_kv K) := by
        rw [m4]
        exact jt_map_fr (fun j hj => by
          have := nd4 j
          rw [kf3 j (by omega), (fr2 j (by omega)).2.2.2, (fr1 j (by omega)).2.2.2])
      have mr : (jt_io r').map (jt_kv K4) = (jt_io r).map (jt_kv K) := by
        rw [jt_map_fr (K := K3) (K' := K4) (fun j hj => kf4 j (by have := nd4 j; rw [c3 j] at hj; omega)), m3]
        exact jt_map_fr (fun j hj => by
          have := nd4 j
          rw [(fr2 j (by omega)).2.2.2, (fr1 j (by omega)).2.2.2])
      refine Co f4 hf4 (.branch q l' r') (jt_op c ++ (jt_op d ++ (g3 ++ g4))) fs4 L4 R4 K4 C4 W4 X4 (by rw [e1, e2, e3, e4]; simp only [List.append_assoc]) rfl ?_ ⟨hq, ?_, ?_, ?_, k4, kr4⟩ ?_ ?_ ?_ ?_
      · intro j
        simp only [jt_op_c hq0, List.count_append, jt_cc, jt_cb, jt_cf, List.count_nil, jt_c1, Nat.add_zero]
        rw [c4 j, c3 j]; omega
      · rw [q4.1, q3.1, f2q.1, eL1q, rt4]
      · rw [q4.2.1, q3.2.1, eR2q, rt3]
      · rw [q4.2.2, q3.2.2, f2q.2.2.1, f1q.2.2.1, eC, ll4, lr3']
      · rw [jt_io_b, jt_io_b, List.map_append, List.map_append, List.map_cons, List.map_cons, ml, mr]
        unfold jt_kv
        rw [Kq]
      · intro j hj
        rw [jt_op_c hq0] at hj
        simp only [List.count_append, jt_cc, jt_cb, jt_cf, List.count_nil, jt_c1, Nat.add_zero] at hj
        have hjq : j ≠ q := fun e => by rw [e, jt_c1] at hj; omega
        have y1 := fr1 j (by omega)
        have y2 := fr2 j (by omega)
        have y3 := fr3 j (by omega)
        have y4 := fr4 j (by omega)
        exact ⟨y4.1.trans (y3.1.trans (y2.1.trans (y1.1 hjq))), y4.2.1.trans (y3.2.1.trans ((y2.2.1 hjq).trans y1.2.1)), y4.2.2.trans (y3.2.2.trans (y2.2.2.1.trans y1.2.2.1))⟩
      · intro j hj
        simp only [List.count_append, jt_cc, jt_cb, jt_cf, List.count_nil, jt_c1, Nat.add_zero] at hj
        rw [kf4 j (by omega), kf3 j (by omega), (fr2 j (by omega)).2.2.2, (fr1 j (by omega)).2.2.2]
      · intro i hi
        rw [w4 i hi, w3 i (by omega), w2 i (by omega), w1 i hi]
    refine pk_le (b + 1) 0 (fun z => absurd z (by omega)) (fun _ => nm_r (nI_pred b) ⟨pk_in b 64 (by omega), ?_⟩)
    rw [nI_clamp (show b < 2 ^ 31 by omega)]
    refine nm_r eW ⟨pk_in q 256 hq.2, ?_⟩
    rw [jt_cl hq.2, eL]
    cases l with
    | leaf u => exact br_t rfl (rest 0 fs L R K C W X rfl rfl eL (fun j _ => ⟨fun _ => rfl, rfl, rfl, rfl⟩) (fun _ _ => rfl))
    | branch m x y =>
      obtain ⟨hm, eLm, eRm, eCm, kx, ky⟩ := kl
      rw [jt_lb] at hb hne
      cases fs with
      | nil => exact absurd hne (by rw [List.length_nil]; omega)
      | cons c fs' =>
        have hc := rg c (by rw [jt_cc, jt_c1]; omega)
        have z := nd c
        simp only [List.count_append, jt_cc, jt_cb, jt_cf, List.count_nil, jt_c1, Nat.add_zero] at z
        have hmc : m ≠ c := fun e => by rw [← e, jt_c1] at z; omega
        have hqc : q ≠ c := fun e => by rw [e, jt_c1] at z; omega
        rw [List.length_cons] at hfl hne
        rw [jt_e_twin_3]
        refine br_f (jt_nz hm) ⟨pk_in q 256 hq.2, ?_⟩
        refine jt_twin (s := m) (n := c) (f := fs'.length) hm.2 hc.2 (by omega) hmc hfr.1 eLm eRm eCm (jt_rt_lt kx) (jt_rt_lt ky) (by omega) ?_
        intro L' R' C' eL2 eR2 eC2 g
        dsimp only
        rw [jt_s16 c hc.2]
        refine ⟨pk_in q 256 hq.2, nm_e ⟨pk_in q 256 hq.2, ?_⟩⟩
        rw [pk_us]
        refine jt_push hc.2 (by omega) rfl ?_
        have hc0 : c ≠ 0 := by omega
        refine rest c fs' (upd L' q (nI c)) R' (upd K c (K m)) C' (upd W b (nI c)) (upd X b 0) (by rw [jt_op_n hc0]; rfl) ⟨hc, pk_us, (pk_un (Ne.symm hqc)).trans eL2, eR2, eC2, ?_⟩ pk_us ?_ ?_
        · rw [pk_us, pk_un hmc]
        · intro j hj
          rw [jt_op_n hc0] at hj
          have gj := g j hj
          have hjc : j ≠ c := fun e => by rw [e, jt_one, jt_c1] at hj; omega
          exact ⟨fun hjq => (pk_un hjq).trans gj.1, gj.2.1, gj.2.2, pk_un hjc⟩
        · exact fun i hi => pk_un (by omega)
theorem jt_copy {post : Int32 → St2 → Prop} {t : jt_T} {fs : List Nat} (h0 : a4 0 = 0) (kt : jt_ok a1 a2 a4 t) (hb : (jt_io t).length ≤ 50) (hfr : jt_fr a6 fs) (hne : (jt_io t).length ≤ fs.length) (hfl : fs.length < 256)
    (rg : ∀ j, 0 < List.count j fs → 0 < j ∧ j < 256) (nd : ∀ j, List.count j (jt_io t) + List.count j fs ≤ 1)
    (H : ∀ t' g fs' we' L' R' K' C' W' X', fs = g ++ fs' → (∀ j, List.count j (jt_io t') = List.count j g) → jt_ok L' R' C' t' → (jt_io t').map (jt_kv K') = (jt_io t).map (jt_kv a3) → jt_ag g a1 a2 a4 L' R' C' → (∀ j, List.count j g = 0 → K' j = a3 j) → C' 0 = 0 →
      post (nI (jt_rt t')) (nI fs'.length, we', lo, hi, ex, L', R', K', C', a5, a6, W', X', a9, a10, a11, a12, a13)) :
    wpX_copyOf post (nI fs.length, we, lo, hi, ex, a1, a2, a3, a4, a5, a6, a7, a8, a9, a10, a11, a12, a13) (nI (jt_rt t)) := by
  unfold wpX_copyOf
  dsimp only
  cases t with
  | leaf u => exact br_t rfl (H (.leaf u) [] fs we a1 a2 a3 a4 a7 a8 rfl (fun j => rfl) kt rfl (jt_ag_refl _ _ _ _) (fun _ _ => rfl) h0)
  | branch n l r =>
    have kt' := kt
    obtain ⟨hn, eL, eR, eC, kl, kr⟩ := kt'
    have hb' := hb
    rw [jt_lb] at hb'
    cases fs with
    | nil => exact absurd hne (by rw [jt_lb, List.length_nil]; omega)
    | cons c fs' =>
      have hc := rg c (by rw [jt_cc, jt_c1]; omega)
      have hc0 : c ≠ 0 := by omega
      have z := nd c
      simp only [List.count_append, jt_cc, jt_cb, jt_cf, List.count_nil, jt_c1, Nat.add_zero] at z
      have hnc : n ≠ c := fun e => by rw [← e, jt_c1] at z; omega
      rw [List.length_cons] at hfl hne
      refine br_f (jt_nz hn) ?_
      refine jt_twin (s := n) (n := c) (f := fs'.length) hn.2 hc.2 (by omega) hnc hfr.1 eL eR eC (jt_rt_lt kl) (jt_rt_lt kr) (by omega) ?_
      intro L' R' C' eL2 eR2 eC2 g
      dsimp only
      refine jt_push (w := 0) hc.2 (by omega) rfl ⟨1 + (jt_io (.branch n l r)).length, ?_⟩
      have kt2 : jt_ok L' R' C' (.branch n l r) := jt_ok_ag kt g (fun j => by have := nd j; simp only [List.count_append, jt_cc, jt_cb, jt_cf, List.count_nil, jt_c1, Nat.add_zero] at this ⊢; omega)
      refine jt_c23 (.branch n l r) c 0 1 fs' L' R' (upd a3 c (a3 n)) C' (upd a7 0 (nI c)) (upd a8 0 0) ⟨hc, pk_us, eL2, eR2, eC2, by rw [pk_us, pk_un hnc]⟩ kt2 (by omega) hfr.2 (by omega) (by omega) (fun j hj => rg j (by rw [jt_cc]; omega)) (fun j => by have := nd j; rw [jt_op_c hc0]; rw [jt_cc] at this; omega) ?_ _ (Nat.le_refl _)
      intro f hf t' g2 fs2 L2 R2 K2 C2 W2 X2 e2 rt2 c2 k2 m2 fr2 kf2 w2
      obtain ⟨f, rfl⟩ : ∃ f', f = f' + 1 := ⟨f - 1, by omega⟩
      refine pk_le 0 0 (fun _ => ?_) (fun q => absurd q (by omega))
      rw [← rt2]
      refine H t' (c :: g2) fs2 (nI 0) L2 R2 K2 C2 W2 X2 (by rw [e2]; rfl) (fun j => by rw [c2 j, jt_op_c hc0, jt_cc]) k2 ?_ ?_ ?_ ?_
      · rw [m2]
        exact jt_map_fr (fun j hj => pk_un (fun e => by rw [e] at hj; simp only [List.count_append, jt_cc, jt_cb, jt_cf, List.count_nil, jt_c1, Nat.add_zero] at hj; omega))
      · exact jt_ag_tr (n1 := [c]) g (n2 := c :: g2) (fun j hj => fr2 j (by rw [jt_op_c hc0]; rw [jt_cc] at hj; exact hj)) (fun j => by simp only [List.count_append, jt_cc, jt_cb, jt_cf, List.count_nil, jt_c1, Nat.add_zero]; omega)
      · intro j hj
        rw [jt_cc] at hj
        rw [kf2 j (by omega)]
        exact pk_un (fun e => by rw [e, jt_c1] at hj; omega)
      · have z0 : List.count 0 (jt_io t') = 0 := jt_c0 k2
        rw [c2 0] at z0
        rw [(fr2 0 z0).2.2]
        have z1 : List.count 0 [c] = 0 := by rw [jt_one, ← jt_op_c hc0]; omega
        rw [(g 0 z1).2.2]
        exact h0
end
end
section
/-- what a combination holds of an element: how 0 unites, 1 meets, 2 takes away -/
def jt_cn (how : Nat) (p q : Prop) : Prop := (how = 0 ∧ (p ∨ q)) ∨ (how = 1 ∧ p ∧ q) ∨ (how = 2 ∧ p ∧ ¬ q)
/-- the first tree's root stays -/
def jt_sy (how bo : Nat) : Prop := how = 0 ∨ (how = 1 ∧ bo = 1) ∨ (how = 2 ∧ bo = 0)
theorem jt_cn_or {how : Nat} {p q : Prop} (h : jt_cn how p q) : p ∨ q := by
  rcases h with ⟨_, h⟩ | ⟨_, h, _⟩ | ⟨_, h, _⟩
  · exact h
  · exact Or.inl h
  · exact Or.inl h
theorem jt_cnk {how bo : Nat} (hh : how ≤ 2) (hbo : bo = 0 ∨ bo = 1) {κ : Int} {p1 p2 pl pr ql qr : Int → Prop} (h1 : ∀ z, p1 z ↔ jt_cn how (pl z) (ql z)) (h2 : ∀ z, p2 z ↔ jt_cn how (pr z) (qr z))
    (l1 : ∀ z, pl z → z < κ) (l2 : ∀ z, ql z → z < κ) (g1 : ∀ z, pr z → κ < z) (g2 : ∀ z, qr z → κ < z) (z : Int) :
    (p1 z ∨ (jt_sy how bo ∧ z = κ) ∨ p2 z) ↔ jt_cn how (pl z ∨ z = κ ∨ pr z) (ql z ∨ (bo = 1 ∧ z = κ) ∨ qr z) := by
  rw [h1 z, h2 z]
  have a1 := l1 z
  have a2 := l2 z
  have a3 := g1 z
  have a4 := g2 z
  rcases Int.lt_trichotomy z κ with h | h | h
  · have b1 : ¬ pr z := fun q => by have := a3 q; omega
    have b2 : ¬ qr z := fun q => by have := a4 q; omega
    have b3 : ¬ z = κ := by omega
    unfold jt_cn jt_sy
    simp only [b1, b2, b3, or_false, and_false, false_and, false_or]
  · have b1 : ¬ pr z := fun q => by have := a3 q; omega
    have b2 : ¬ qr z := fun q => by have := a4 q; omega
    have b3 : ¬ pl z := fun q => by have := a1 q; omega
    have b4 : ¬ ql z := fun q => by have := a2 q; omega
    unfold jt_cn jt_sy
    subst h
    simp only [b1, b2, b3, b4, or_false, and_false, false_and, false_or, and_true, true_and, true_or, not_false_eq_true]
    omega
  · have b1 : ¬ pl z := fun q => by have := a1 q; omega
    have b2 : ¬ ql z := fun q => by have := a2 q; omega
    have b3 : ¬ z = κ := by omega
    unfold jt_cn jt_sy
    simp only [b1, b2, b3, or_false, and_false, false_and, false_or]
def jt_ks (K : Nat → Int32) (t : jt_T) (z : Int) : Prop := ∃ n, n ∈ jt_io t ∧ jt_kv K n = z
theorem jt_ks_nil {K : Nat → Int32} {t : jt_T} (h : jt_io t = []) (z : Int) : ¬ jt_ks K t z := fun ⟨n, hn, _⟩ => by rw [h] at hn; exact absurd hn List.not_mem_nil
theorem jt_plen {fs fs' : List Nat} {t ta tb : jt_T} (h : ∀ j, List.count j fs' + List.count j (jt_io t) = List.count j fs + List.count j (jt_io ta) + List.count j (jt_io tb)) : fs'.length + (jt_io t).length = fs.length + (jt_io ta).length + (jt_io tb).length := by
  have hp : List.Perm (fs' ++ jt_io t) (fs ++ jt_io ta ++ jt_io tb) := List.perm_iff_count.mpr (fun j => by rw [List.count_append, List.count_append, List.count_append]; exact h j)
  have := hp.length_eq
  simpa only [List.length_append] using this
def jt_gg : jt_T → Nat
  | .leaf _ => 1
  | .branch _ l r => 3 + jt_gg l + jt_gg r
theorem jt_gg_1 (t : jt_T) : 1 ≤ jt_gg t := by
  cases t with
  | leaf u => exact Nat.le_refl 1
  | branch n l r => show 1 ≤ 3 + jt_gg l + jt_gg r; omega
section
variable {fc we lo hi ex : Int32} {a1 a2 a3 a4 a5 a6 a7 a8 a9 a10 a11 a12 a13 : Nat → Int32}
theorem jt_wn {post : Int32 → St2 → Prop} {how : Nat} {ta tb : jt_T} {fs : List Nat} (hh : how ≤ 2) (ka : jt_ok a1 a2 a4 ta) (kb : jt_ok a1 a2 a4 tb) (hz : jt_rt ta = 0 ∨ jt_rt tb = 0) (sa : jt_sd a3 (jt_io ta)) (sb : jt_sd a3 (jt_io tb))
    (hs : (jt_io ta).length + (jt_io tb).length ≤ 60) (hfr : jt_fr a6 fs) (hf : fs.length + (jt_io ta).length + (jt_io tb).length ≤ 255)
    (H : ∀ t' fs' we' FN' W' X', jt_ok a1 a2 a4 t' → jt_sd a3 (jt_io t') → (∀ z, jt_ks a3 t' z ↔ jt_cn how (jt_ks a3 ta z) (jt_ks a3 tb z)) → (∀ j, List.count j fs' + List.count j (jt_io t') = List.count j fs + List.count j (jt_io ta) + List.count j (jt_io tb)) → (jt_io t').length ≤ (jt_io ta).length + (jt_io tb).length → (∀ j, List.count j (jt_io t') ≤ List.count j (jt_io ta) + List.count j (jt_io tb)) → jt_fr FN' fs' →
      post (nI (jt_rt t')) (nI fs'.length, we', lo, hi, ex, a1, a2, a3, a4, a5, FN', W', X', a9, a10, a11, a12, a13)) : wpX_withNothing post (nI fs.length, we, lo, hi, ex, a1, a2, a3, a4, a5, a6, a7, a8, a9, a10, a11, a12, a13) (nI how) (nI (jt_rt ta)) (nI (jt_rt tb)) := by
  have la := jt_rt_lt ka
  have lb := jt_rt_lt kb
  have na : jt_rt ta = 0 → ∀ z, ¬ jt_ks a3 ta z := fun h => jt_ks_nil (jt_rt_0 ka h)
  have nb : jt_rt tb = 0 → ∀ z, ¬ jt_ks a3 tb z := fun h => jt_ks_nil (jt_rt_0 kb h)
  unfold wpX_withNothing
  dsimp only
  refine pk_eq how 0 (fun h => ?_) (fun h => ?_)
  · refine pk_eq (jt_rt ta) 0 (fun ha => ?_) (fun ha => ?_)
    · refine H tb fs we a6 a7 a8 kb sb (fun z => ?_) (fun j => by rw [jt_rt_0 ka ha, List.count_nil]; omega) (by omega) (fun j => by omega) hfr
      have := na ha z
      unfold jt_cn
      simp [this, h]
    · have hb : jt_rt tb = 0 := by omega
      refine H ta fs we a6 a7 a8 ka sa (fun z => ?_) (fun j => by rw [jt_rt_0 kb hb, List.count_nil]; omega) (by omega) (fun j => by omega) hfr
      have := nb hb z
      unfold jt_cn
      simp only [this, h, true_and, false_and, and_false, or_false]
      simp
  · refine jt_relT kb (by omega) hfr (by omega) (fun fs1 FN1 W1 X1 c1 l1 hfr1 => ?_)
    dsimp only
    refine pk_eq how 2 (fun h2 => ?_) (fun h2 => ?_)
    · refine H ta fs1 (nI 0) FN1 W1 X1 ka sa (fun z => ?_) (fun j => by rw [c1 j]; omega) (by omega) (fun j => by omega) hfr1
      unfold jt_cn
      rcases hz with ha | hb
      · have := na ha z
        simp only [this, h2, false_and, and_false, or_false]
        simp
      · have := nb hb z
        simp only [this, h2, not_false_eq_true, and_true, true_and, and_false, or_false]
        simp
    · refine jt_relT ka (by omega) hfr1 (by omega) (fun fs2 FN2 W2 X2 c2 l2 hfr2 => ?_)
      refine H (.leaf ()) fs2 (nI 0) FN2 W2 X2 trivial List.Pairwise.nil (fun z => ?_) (fun j => by rw [c2 j, c1 j, jt_cf]; omega) (by show 0 ≤ _; omega) (fun j => by rw [jt_cf]; omega) hfr2
      have h3 : ¬ jt_ks a3 (.leaf ()) z := jt_ks_nil rfl z
      unfold jt_cn
      rcases hz with ha | hb
      · have := na ha z
        simp only [this, h3, h, h2, false_and, and_false, or_false]
      · have := nb hb z
        simp only [this, h3, h, h2, false_and, and_false, or_false]
theorem jt_fin {post : Int32 → St2 → Prop} {how k n bo : Nat} {t1 t2 : jt_T} {fs : List Nat} (hh : how ≤ 2) (hbo : bo = 0 ∨ bo = 1) (hk : k < 32) (hn : 0 < n ∧ n < 256) (h0 : a4 0 = 0) (k1 : jt_ok a1 a2 a4 t1) (k2 : jt_ok a1 a2 a4 t2) (s1 : jt_sd a3 (jt_io t1))
    (e9 : a9 k = nI n) (e11 : a11 k = nI (jt_rt t1)) (e12 : a12 k = nI bo) (nd : ∀ j, List.count j (jt_io t1) + (jt_o n j + List.count j (jt_io t2)) ≤ 1) (hs : (jt_io t1).length + (jt_io t2).length ≤ 58) (hfr : jt_fr a6 fs) (hf : fs.length ≤ 254)
    (H : ∀ t' fs' we' lo' hi' ex' L' R' C' FN' W' X' σ, (jt_sy how bo → σ = [n]) → (¬ jt_sy how bo → σ = []) → jt_ok L' R' C' t' → C' 0 = 0 → jt_io t' = jt_io t1 ++ (σ ++ jt_io t2) → jt_ag (jt_io t1 ++ n :: jt_io t2) a1 a2 a4 L' R' C' → (∀ j, List.count j fs' + List.count j σ = List.count j fs + jt_o n j) → jt_fr FN' fs' →
      post (nI (jt_rt t')) (nI fs'.length, we', lo', hi', ex', L', R', a3, C', a5, FN', W', X', a9, a10, a11, a12, a13)) : wpX_finished post (nI fs.length, we, lo, hi, ex, a1, a2, a3, a4, a5, a6, a7, a8, a9, a10, a11, a12, a13) (nI how) (nI k) (nI (jt_rt t2)) := by
  have E1 : jt_sy how bo → wX_finished_36 post (nI k) (nI (jt_rt t2)) (nI n) 1 (nI fs.length) we lo hi ex a1 a2 a3 a4 a5 a6 a7 a8 a9 a10 a11 a12 a13 := by
    intro hy
    unfold wX_finished_36
    refine br_f (by decide) ⟨pk_in k 32 hk, ?_⟩
    rw [nI_clamp (show k < 2 ^ 31 by omega), e11]
    refine jt_join (b := 0) (ta := t1) (tb := t2) hn h0 k1 k2 (fun j => by have := nd j; simp only [List.count_append, jt_cc, jt_cb, jt_cf, List.count_nil, jt_c1, Nat.add_zero]; omega) (by simp only [List.length_append, List.length_cons]; omega) ?_
    intro L' R' C' W' X' t' h hW
    exact H t' fs (nI 0) lo hi ex L' R' C' a6 W' X' [n] (fun _ => rfl) (fun z => absurd hy z) h.1 (jt_to_0 h h0) h.2.1 h.2.2 (fun j => by rw [jt_one]) hfr
  have E2 : ¬ jt_sy how bo → wX_finished_36 post (nI k) (nI (jt_rt t2)) (nI n) 0 (nI fs.length) we lo hi ex a1 a2 a3 a4 a5 a6 a7 a8 a9 a10 a11 a12 a13 := by
    intro hy
    unfold wX_finished_36
    refine br_t rfl ?_
    refine jt_rel hn.2 (by omega) hfr (fun FN1 fs1 e1 hfr1 => ?_)
    dsimp only
    rw [nI_clamp (show k < 2 ^ 31 by omega), e11]
    refine ⟨pk_in k 32 hk, ?_⟩
    refine jt_joinTwo (ta := t1) (tb := t2) h0 k1 k2 (fun j => by have := nd j; simp only [List.count_append, jt_cc, jt_cb, jt_cf, List.count_nil, jt_c1, Nat.add_zero]; omega) (by simp only [List.length_append]; omega) s1 rfl ?_
    intro L' R' C' W' X' lo' hi' ex' t' h
    refine H t' fs1 (nI 0) lo' hi' ex' L' R' C' FN1 W' X' [] (fun z => absurd z hy) (fun _ => rfl) h.1 (jt_to_0 h h0) h.2.1 (jt_ag_w h.2.2 (fun j => by simp only [List.count_append, jt_cc, jt_cb, jt_cf, List.count_nil, jt_c1, Nat.add_zero]; omega)) (fun j => ?_) hfr1
    rw [e1, jt_op_n (by omega)]
    simp only [List.count_append, jt_cc, jt_cb, jt_cf, List.count_nil, jt_c1, Nat.add_zero]; omega
  unfold wpX_finished
  dsimp only
  rw [nI_clamp (show k < 2 ^ 31 by omega), e12]
  refine ⟨pk_in k 32 hk, nm_r e9 ?_⟩
  unfold wX_finished_28 wX_finished_31
  refine pk_eq how 0 (fun h => E1 (Or.inl h)) (fun h => ⟨pk_in k 32 hk, pk_eq how 1 (fun h1 => ?_) (fun h1 => ?_)⟩)
  · exact pk_eq bo 1 (fun hb => E1 (Or.inr (Or.inl ⟨h1, hb⟩))) (fun hb => E2 (fun z => by unfold jt_sy at z; omega))
  · exact pk_eq bo 0 (fun hb => E1 (Or.inr (Or.inr ⟨by omega, hb⟩))) (fun hb => E2 (fun z => by unfold jt_sy at z; omega))
end
end
section
theorem jt_sd_app {K : Nat → Int32} {A B : List Nat} (h : jt_sd K (A ++ B)) : jt_sd K A ∧ jt_sd K B ∧ ∀ i, i ∈ A → ∀ j, j ∈ B → jt_kv K i < jt_kv K j := List.pairwise_append.mp h
section
variable {fc : Int32} {a3 a5 : Nat → Int32}
theorem jt_comb1 {post : Int32 → St2 → Prop} {how k f0 f : Nat} {ta tb : jt_T} {fs : List Nat} {x7 we lo hi ex : Int32} {L R C FN W X a9 a10 a11 a12 a13 : Nat → Int32} (hh : how ≤ 2) (ka : jt_ok L R C ta) (kb : jt_ok L R C tb) (hz : jt_rt ta = 0 ∨ jt_rt tb = 0) (sa : jt_sd a3 (jt_io ta)) (sb : jt_sd a3 (jt_io tb))
    (hs : (jt_io ta).length + (jt_io tb).length ≤ 50) (hfr : jt_fr FN fs) (hf : fs.length + (jt_io ta).length + (jt_io tb).length ≤ 255) (hff : f0 ≤ f)
    (Co : ∀ f, f0 ≤ f → ∀ t' fs' x5' x6' we' lo' hi' ex' L' R' C' FN' W' X' b9 b10 b11 b12 b13, jt_ok L' R' C' t' → jt_sd a3 (jt_io t') → (∀ z, jt_ks a3 t' z ↔ jt_cn how (jt_ks a3 ta z) (jt_ks a3 tb z)) → (∀ j, List.count j fs' + List.count j (jt_io t') = List.count j fs + List.count j (jt_io ta) + List.count j (jt_io tb)) → (jt_io t').length ≤ (jt_io ta).length + (jt_io tb).length → (∀ j, List.count j (jt_io t') ≤ List.count j (jt_io ta) + List.count j (jt_io tb)) → jt_fr FN' fs' →
      jt_ag (jt_io ta ++ jt_io tb) L R C L' R' C' → (∀ i, i < k → b9 i = a9 i ∧ b10 i = a10 i ∧ b11 i = a11 i ∧ b12 i = a12 i ∧ b13 i = a13 i) →
      wX_combined_15 post (nI how) f (nI k) x5' x6' (nI (jt_rt t')) 0 (nI fs'.length) we' lo' hi' ex' L' R' a3 C' a5 FN' W' X' b9 b10 b11 b12 b13) :
    wX_combined_15 post (nI how) (f + 1) (nI k) (nI (jt_rt ta)) (nI (jt_rt tb)) x7 1 (nI fs.length) we lo hi ex L R a3 C a5 FN W X a9 a10 a11 a12 a13 := by
  have E : wX_combined_131 post (wX_combined_15 post (nI how) f) (nI how) (nI k) (nI (jt_rt ta)) (nI (jt_rt tb)) x7 1 (nI fs.length) we lo hi ex L R a3 C a5 FN W X a9 a10 a11 a12 a13 := by
    unfold wX_combined_131
    refine br_f (by decide) ?_
    refine jt_wn hh ka kb hz sa sb (by omega) hfr hf ?_
    intro t' fs' we' FN' W' X' k1 s1 m1 c1 l1 u1 f1
    exact Co f hff t' fs' _ _ we' _ _ _ L R C FN' W' X' a9 a10 a11 a12 a13 k1 s1 m1 c1 l1 u1 f1 (jt_ag_refl _ _ _ _) (fun _ _ => ⟨rfl, rfl, rfl, rfl, rfl⟩)
  refine br_f (by decide) ?_
  unfold wX_combined_25
  refine br_f (by decide) ?_
  have la := jt_rt_lt ka
  have lb := jt_rt_lt kb
  exact pk_eq (jt_rt ta) 0 (fun _ => E) (fun h => pk_eq (jt_rt tb) 0 (fun _ => E) (fun h2 => absurd hz (by omega)))
theorem jt_comb {post : Int32 → St2 → Prop} {how : Nat} (hh : how ≤ 2) : ∀ (ta tb : jt_T) (k f0 : Nat) (fs : List Nat) (x7 we lo hi ex : Int32) (L R C FN W X a9 a10 a11 a12 a13 : Nat → Int32), C 0 = 0 → jt_ok L R C ta → jt_ok L R C tb → jt_sd a3 (jt_io ta) → jt_sd a3 (jt_io tb) →
    (∀ j, List.count j (jt_io ta) + List.count j (jt_io tb) + List.count j fs ≤ 1) → jt_fr FN fs → fs.length + (jt_io ta).length + (jt_io tb).length ≤ 255 → (jt_io ta).length + (jt_io tb).length ≤ 50 → k + (jt_io ta).length ≤ 32 →
    (∀ f, f0 ≤ f → ∀ t' fs' x5' x6' we' lo' hi' ex' L' R' C' FN' W' X' b9 b10 b11 b12 b13, jt_ok L' R' C' t' → jt_sd a3 (jt_io t') → (∀ z, jt_ks a3 t' z ↔ jt_cn how (jt_ks a3 ta z) (jt_ks a3 tb z)) → (∀ j, List.count j fs' + List.count j (jt_io t') = List.count j fs + List.count j (jt_io ta) + List.count j (jt_io tb)) → (jt_io t').length ≤ (jt_io ta).length + (jt_io tb).length → (∀ j, List.count j (jt_io t') ≤ List.count j (jt_io ta) + List.count j (jt_io tb)) → jt_fr FN' fs' →
      jt_ag (jt_io ta ++ jt_io tb) L R C L' R' C' → (∀ i, i < k → b9 i = a9 i ∧ b10 i = a10 i ∧ b11 i = a11 i ∧ b12 i = a12 i ∧ b13 i = a13 i) →
      wX_combined_15 post (nI how) f (nI k) x5' x6' (nI (jt_rt t')) 0 (nI fs'.length) we' lo' hi' ex' L' R' a3 C' a5 FN' W' X' b9 b10 b11 b12 b13) →
    ∀ f, f0 + jt_gg ta ≤ f → wX_combined_15 post (nI how) f (nI k) (nI (jt_rt ta)) (nI (jt_rt tb)) x7 1 (nI fs.length) we lo hi ex L R a3 C a5 FN W X a9 a10 a11 a12 a13 := by
  intro ta
  induction ta with
  | leaf u =>
    intro tb k f0 fs x7 we lo hi ex L R C FN W X a9 a10 a11 a12 a13 h0 ka kb sa sb nd hfr hf hs hk Co f hff
    have e1 : jt_gg (.leaf u) = 1 := rfl
    obtain ⟨f, rfl⟩ : ∃ f', f = f' + 1 := ⟨f - 1, by omega⟩
    exact jt_comb1 hh ka kb (Or.inl rfl) sa sb hs hfr hf (by omega) Co
  | branch n l r ihl ihr =>
    intro tb k f0 fs x7 we lo hi ex L R C FN W X a9 a10 a11 a12 a13 h0 ka kb sa sb nd hfr hf hs hk Co f hff
    have e1 : jt_gg (.branch n l r) = 3 + jt_gg l + jt_gg r := rfl
    obtain ⟨f, rfl⟩ : ∃ f', f = f' + 1 := ⟨f - 1, by omega⟩
    by_cases htb : jt_rt tb = 0
    · exact jt_comb1 hh ka kb (Or.inr htb) sa sb hs hfr hf (by omega) Co
    obtain ⟨hn, eL, eR, eC, kl, kr⟩ := ka
    have sab := jt_sd_b sa
    have hs' := hs
    have hf' := hf
    have hk' := hk
    rw [jt_lb] at hs' hf' hk'
    have kbl := jt_rt_lt kb
    have nd' : ∀ j, List.count j (jt_io l) + (jt_o n j + List.count j (jt_io r)) + List.count j (jt_io tb) + List.count j fs ≤ 1 := fun j => by have := nd j; simp only [List.count_append, jt_cc, jt_cb, jt_cf, List.count_nil, jt_c1, Nat.add_zero] at this; exact this
    refine br_f (by decide) ?_
    unfold wX_combined_25
    refine br_f (by decide) (br_f (jt_nz hn) (br_f (nI_ne0 (by omega) (by omega)) ⟨pk_in n 256 hn.2, ?_⟩))
    dsimp only [jt_rt]
    rw [jt_cl hn.2]
    refine jt_split (t := tb) h0 kb (fun j => by have := nd j; omega) (by omega) sb ?_
    intro L1 R1 C1 W1 X1 tl th e k1 k2 i1 q1 q2 q3 q4 g1 z1
    have hkv : ∀ m, m = e → e ≠ 0 → jt_kv a3 m = jt_kv a3 n := fun m hm he => by rw [hm]; unfold jt_kv; rw [q4 he]
    have stb := sb
    rw [i1] at stb
    have s2 := jt_sd_app stb
    have stl := s2.1
    have sth := (jt_sd_app s2.2.1).2.1
    have lt1 : (jt_io tb).length = (jt_io tl).length + ((jt_op e).length + (jt_io th).length) := by rw [i1, List.length_append, List.length_append]
    have ope : (jt_op e).length ≤ 1 := by unfold jt_op; split <;> simp
    have ct1 : ∀ j, List.count j (jt_io tb) = List.count j (jt_io tl) + (List.count j (jt_op e) + List.count j (jt_io th)) := fun j => by rw [i1, List.count_append, List.count_append]
    have kl1 : jt_ok L1 R1 C1 l := jt_ok_ag kl g1 (fun j => by have := nd' j; omega)
    have kr1 : jt_ok L1 R1 C1 r := jt_ok_ag kr g1 (fun j => by have := nd' j; omega)
    have nn := nd' n
    rw [jt_c1] at nn
    have gn1 := g1 n (by omega)
    obtain ⟨bo, hbo, hbe⟩ : ∃ bo : Nat, (bo = 0 ∨ bo = 1) ∧ (bo = 1 ↔ e ≠ 0) := by
      by_cases he : e = 0
      · exact ⟨0, Or.inl rfl, by omega⟩
      · exact ⟨1, Or.inr rfl, by omega⟩
    -- the work behind the split, whatever the flag
    have E : wX_combined_93 post (wX_combined_15 post (nI how) f) (nI how) (nI k) (nI n) x7 1 (nI bo) (nI k) (nI fs.length) (nI 0) (nI (jt_rt tl)) (nI (jt_rt th)) (nI e) L1 R1 a3 C1 a5 FN W1 X1 (upd a9 k (nI n)) (upd a10 k (nI (jt_rt th))) a11 a12 a13 := by
      unfold wX_combined_93
      rw [nI_clamp (show k < 2 ^ 31 by omega), show vp_nar .boolean (nI bo) = nI bo by rcases hbo with h | h <;> (rw [h]; rfl)]
      refine ⟨pk_in k 32 (by omega), nm_e ⟨pk_in k 32 (by omega), nm_e ?_⟩⟩
      refine jt_rel q3 (by omega) hfr (fun FN1 fs1 e2 hfr1 => ?_)
      have lf1 : fs1.length = (jt_op e).length + fs.length := by rw [e2, List.length_append]
      have cf1 : ∀ j, List.count j fs1 = List.count j (jt_op e) + List.count j fs := fun j => by rw [e2, List.count_append]
      dsimp only
      rw [nI_1, jt_cl hn.2, gn1.1, eL]
      refine nm_e ⟨pk_in n 256 hn.2, nm_e ?_⟩
      refine ihl tl (k + 1) (f0 + 2 + jt_gg r) fs1 x7 _ _ _ _ L1 R1 C1 FN1 W1 X1 _ _ _ _ _ z1 kl1 k1 sab.1 stl (fun j => by have := nd' j; have := ct1 j; rw [cf1 j]; omega) hfr1 (by omega) (by omega) (by omega) ?_ f (by omega)
      intro f2 hf2 t1 fs2 x5' x6' we2 lo2 hi2 ex2 L2 R2 C2 FN2 W2 X2 b9 b10 b11 b12 b13 kt1 st1 mt1 c2 len2 sub2 hfr2 g2 fr2
      have pl2 := jt_plen c2
      obtain ⟨f2, rfl⟩ : ∃ f', f2 = f' + 1 := ⟨f2 - 1, by omega⟩
      have fk := fr2 k (by omega)
      have nn2 : List.count n (jt_io l) + List.count n (jt_io tl) = 0 := by have := ct1 n; omega
      have gn2 := g2 n (by simp only [List.count_append, jt_cc, jt_cb, jt_cf, List.count_nil, jt_c1, Nat.add_zero]; omega)
      have kr2 : jt_ok L2 R2 C2 r := jt_ok_ag kr1 g2 (fun j => by have := nd' j; have := ct1 j; simp only [List.count_append, jt_cc, jt_cb, jt_cf, List.count_nil, jt_c1, Nat.add_zero]; omega)
      have kh2 : jt_ok L2 R2 C2 th := jt_ok_ag k2 g2 (fun j => by have := nd' j; have := ct1 j; simp only [List.count_append, jt_cc, jt_cb, jt_cf, List.count_nil, jt_c1, Nat.add_zero]; omega)
      have z2 : C2 0 = 0 := by rw [(g2 0 (by have := jt_c0 kl1; have := jt_c0 k1; simp only [List.count_append, jt_cc, jt_cb, jt_cf, List.count_nil, jt_c1, Nat.add_zero]; omega)).2.2]; exact z1
      refine br_t rfl (pk_le (k + 1) 0 (fun z => absurd z (by omega)) (fun _ => ?_))
      unfold wX_combined_25
      refine br_t rfl ?_
      unfold wX_combined_131
      refine br_t rfl (nm_r (nI_pred k) ⟨pk_in k 32 (by omega), ?_⟩)
      rw [nI_clamp (show k < 2 ^ 31 by omega), fk.2.2.2.2, fk.1, fk.2.1, pk_us, pk_us, pk_us, jt_cl hn.2, gn2.2.1, gn1.2.1, eR, jt_s16 _ (jt_rt_lt kt1)]
      refine br_t rfl ⟨pk_in k 32 (by omega), nm_e ⟨pk_in k 32 (by omega), nm_e ⟨pk_in k 32 (by omega), pk_in n 256 hn.2, nm_e ⟨pk_in k 32 (by omega), nm_e ?_⟩⟩⟩⟩
      refine ihr th (k + 1) (f0 + 1) fs2 (nI (jt_rt t1)) _ _ _ _ L2 R2 C2 FN2 W2 X2 _ _ _ _ _ z2 kr2 kh2 sab.2.1 sth (fun j => by have := nd' j; have := ct1 j; have := c2 j; have := cf1 j; omega) hfr2 (by omega) (by omega) (by omega) ?_ f2 (by omega)
      intro f3 hf3 t2 fs3 x5'' x6'' we3 lo3 hi3 ex3 L3 R3 C3 FN3 W3 X3 d9 d10 d11 d12 d13 kt2 st2 mt2 c3 len3 sub3 hfr3 g3 fr3
      have pl3 := jt_plen c3
      obtain ⟨f3, rfl⟩ : ∃ f', f3 = f' + 1 := ⟨f3 - 1, by omega⟩
      have fk3 := fr3 k (by omega)
      have k13 : jt_ok L3 R3 C3 t1 := jt_ok_ag kt1 g3 (fun j => by have := nd' j; have := ct1 j; have := c2 j; have := cf1 j; simp only [List.count_append, jt_cc, jt_cb, jt_cf, List.count_nil, jt_c1, Nat.add_zero]; omega)
      have z3 : C3 0 = 0 := by rw [(g3 0 (by have := jt_c0 kr2; have := jt_c0 kh2; simp only [List.count_append, jt_cc, jt_cb, jt_cf, List.count_nil, jt_c1, Nat.add_zero]; omega)).2.2]; exact z2
      refine br_t rfl (pk_le (k + 1) 0 (fun z => absurd z (by omega)) (fun _ => ?_))
      unfold wX_combined_25
      refine br_t rfl ?_
      unfold wX_combined_131
      refine br_t rfl (nm_r (nI_pred k) ⟨pk_in k 32 (by omega), ?_⟩)
      rw [nI_clamp (show k < 2 ^ 31 by omega), fk3.2.2.2.2, pk_us]
      refine br_f (by decide) ?_
      refine jt_fin (n := n) (bo := bo) (t1 := t1) (t2 := t2) (fs := fs3) hh hbo (by omega) hn z3 k13 kt2 st1 ?_ ?_ ?_ (fun j => by have := nd' j; have := ct1 j; have := c2 j; have := cf1 j; have := c3 j; omega) (by omega) hfr3 (by omega) ?_
      · rw [fk3.1, fk.1, pk_us]
      · rw [fk3.2.2.1, pk_us]
      · rw [fk3.2.2.2.1, fk.2.2.2.1, pk_us]
      intro t4 fs4 we4 lo4 hi4 ex4 L4 R4 C4 FN4 W4 X4 σ σ1 σ2 kt4 z4 i4 g4 c4 hfr4
      dsimp only
      rw [pk_m1]
      have mem1 : ∀ i, i ∈ jt_io t1 → jt_kv a3 i < jt_kv a3 n := by
        intro i hi
        rcases jt_cn_or ((mt1 (jt_kv a3 i)).mp ⟨i, hi, rfl⟩) with ⟨m, hm, em⟩ | ⟨m, hm, em⟩
        · rw [← em]; exact sab.2.2.1 m hm
        · rw [← em]; exact q1 m hm
      have mem2 : ∀ i, i ∈ jt_io t2 → jt_kv a3 n < jt_kv a3 i := by
        intro i hi
        rcases jt_cn_or ((mt2 (jt_kv a3 i)).mp ⟨i, hi, rfl⟩) with ⟨m, hm, em⟩ | ⟨m, hm, em⟩
        · rw [← em]; exact sab.2.2.2 m hm
        · rw [← em]; exact q2 m hm
      have σn : ∀ i, i ∈ σ → i = n := by
        intro i hi
        by_cases hy : jt_sy how bo
        · rw [σ1 hy] at hi; exact List.mem_singleton.mp hi
        · rw [σ2 hy] at hi; exact absurd hi List.not_mem_nil
      have cσ : ∀ j, List.count j σ ≤ jt_o n j := by
        intro j
        by_cases hy : jt_sy how bo
        · rw [σ1 hy, jt_one]; exact Nat.le_refl _
        · rw [σ2 hy]; exact Nat.zero_le _
      refine nm_e ?_
      refine Co f3 (by omega) t4 fs4 _ _ we4 lo4 hi4 ex4 L4 R4 C4 FN4 W4 X4 d9 d10 d11 d12 d13 kt4 ?_ ?_ ?_ ?_ ?_ hfr4 ?_ ?_
      · rw [i4]
        refine List.pairwise_append.mpr ⟨st1, List.pairwise_append.mpr ⟨?_, st2, fun i hi j hj => by rw [σn i hi]; exact mem2 j hj⟩, fun i hi j hj => ?_⟩
        · by_cases hy : jt_sy how bo
          · rw [σ1 hy]; exact List.pairwise_singleton _ _
          · rw [σ2 hy]; exact List.Pairwise.nil
        · rcases List.mem_append.mp hj with h | h
          · rw [σn j h]; exact mem1 i hi
          · exact Int.lt_trans (mem1 i hi) (mem2 j h)
      · intro z
        have key := jt_cnk (how := how) (bo := bo) hh hbo (κ := jt_kv a3 n) mt1 mt2 (fun z ⟨m, hm, em⟩ => by rw [← em]; exact sab.2.2.1 m hm) (fun z ⟨m, hm, em⟩ => by rw [← em]; exact q1 m hm) (fun z ⟨m, hm, em⟩ => by rw [← em]; exact sab.2.2.2 m hm) (fun z ⟨m, hm, em⟩ => by rw [← em]; exact q2 m hm) z
        have A : jt_ks a3 t4 z ↔ (jt_ks a3 t1 z ∨ (jt_sy how bo ∧ z = jt_kv a3 n) ∨ jt_ks a3 t2 z) := by
          constructor
          · rintro ⟨m, hm, em⟩
            rw [i4] at hm
            rcases List.mem_append.mp hm with h | h
            · exact Or.inl ⟨m, h, em⟩
            · rcases List.mem_append.mp h with h | h
              · have hmn := σn m h
                refine Or.inr (Or.inl ⟨?_, by rw [← em, hmn]⟩)
                by_cases hy : jt_sy how bo
                · exact hy
                · rw [σ2 hy] at h; exact absurd h List.not_mem_nil
              · exact Or.inr (Or.inr ⟨m, h, em⟩)
          · rintro (⟨m, hm, em⟩ | ⟨hy, em⟩ | ⟨m, hm, em⟩)
            · exact ⟨m, by rw [i4]; exact List.mem_append.mpr (Or.inl hm), em⟩
            · exact ⟨n, by rw [i4, σ1 hy]; exact List.mem_append.mpr (Or.inr (List.mem_append.mpr (Or.inl (List.mem_singleton.mpr rfl)))), em.symm⟩
            · exact ⟨m, by rw [i4]; exact List.mem_append.mpr (Or.inr (List.mem_append.mpr (Or.inr hm))), em⟩
        have B : jt_ks a3 (.branch n l r) z ↔ (jt_ks a3 l z ∨ z = jt_kv a3 n ∨ jt_ks a3 r z) := by
          constructor
          · rintro ⟨m, hm, em⟩
            rw [jt_io_b] at hm
            rcases List.mem_append.mp hm with h | h
            · exact Or.inl ⟨m, h, em⟩
            · rcases List.mem_cons.mp h with h | h
              · exact Or.inr (Or.inl (by rw [← em, h]))
              · exact Or.inr (Or.inr ⟨m, h, em⟩)
          · rintro (⟨m, hm, em⟩ | em | ⟨m, hm, em⟩)
            · exact ⟨m, by rw [jt_io_b]; exact List.mem_append.mpr (Or.inl hm), em⟩
            · exact ⟨n, by rw [jt_io_b]; exact List.mem_append.mpr (Or.inr List.mem_cons_self), em.symm⟩
            · exact ⟨m, by rw [jt_io_b]; exact List.mem_append.mpr (Or.inr (List.mem_cons_of_mem _ hm)), em⟩
        have D : jt_ks a3 tb z ↔ (jt_ks a3 tl z ∨ (bo = 1 ∧ z = jt_kv a3 n) ∨ jt_ks a3 th z) := by
          constructor
          · rintro ⟨m, hm, em⟩
            rw [i1] at hm
            rcases List.mem_append.mp hm with h | h
            · exact Or.inl ⟨m, h, em⟩
            · rcases List.mem_append.mp h with h | h
              · by_cases he : e = 0
                · rw [he, jt_op_0] at h; exact absurd h List.not_mem_nil
                · rw [jt_op_n he] at h
                  exact Or.inr (Or.inl ⟨hbe.mpr he, by rw [← em]; exact hkv m (List.mem_singleton.mp h) he⟩)
              · exact Or.inr (Or.inr ⟨m, h, em⟩)
          · rintro (⟨m, hm, em⟩ | ⟨hb, em⟩ | ⟨m, hm, em⟩)
            · exact ⟨m, by rw [i1]; exact List.mem_append.mpr (Or.inl hm), em⟩
            · have he := hbe.mp hb
              exact ⟨e, by rw [i1, jt_op_n he]; exact List.mem_append.mpr (Or.inr (List.mem_append.mpr (Or.inl (List.mem_singleton.mpr rfl)))), by rw [em]; exact hkv e rfl he⟩
            · exact ⟨m, by rw [i1]; exact List.mem_append.mpr (Or.inr (List.mem_append.mpr (Or.inr hm))), em⟩
        rw [A, B, D]
        exact key
      · intro j
        have h2 := c2 j
        have h3 := c3 j
        have h4 := c4 j
        have h5 := ct1 j
        have h6 := cf1 j
        rw [i4]
        simp only [List.count_append, jt_cc, jt_cb, jt_cf, List.count_nil, jt_c1, Nat.add_zero]
        omega
      · have lσ : σ.length ≤ 1 := by
          by_cases hy : jt_sy how bo
          · rw [σ1 hy]; exact Nat.le_refl 1
          · rw [σ2 hy]; exact Nat.zero_le 1
        rw [i4, jt_lb]
        simp only [List.length_append]
        omega
      · intro j
        have h2 := sub2 j
        have h3 := sub3 j
        have h5 := ct1 j
        have h6 := cσ j
        rw [i4]
        simp only [List.count_append, jt_cc, jt_cb, jt_cf, List.count_nil, jt_c1, Nat.add_zero]
        omega
      · refine jt_ag_tr (n1 := jt_io (.branch n l r) ++ jt_io tb) (jt_ag_tr (n1 := jt_io (.branch n l r) ++ jt_io tb) (jt_ag_tr g1 g2 ?_) g3 ?_) (jt_ag_w (ns := jt_io (.branch n l r) ++ jt_io tb) (jt_ag_w g4 (ns := jt_io t1 ++ n :: jt_io t2) (fun j => by omega)) ?_) (fun j => by omega)
        · intro j; have := ct1 j; simp only [List.count_append, jt_cc, jt_cb, jt_cf, List.count_nil, jt_c1, Nat.add_zero]; omega
        · intro j; have := ct1 j; simp only [List.count_append, jt_cc, jt_cb, jt_cf, List.count_nil, jt_c1, Nat.add_zero]; omega
        · intro j
          have h2 := sub2 j
          have h3 := sub3 j
          have h5 := ct1 j
          simp only [List.count_append, jt_cc, jt_cb, jt_cf, List.count_nil, jt_c1, Nat.add_zero]
          omega
      · intro i hi
        have h2 := fr2 i (by omega)
        have h3 := fr3 i (by omega)
        refine ⟨h3.1.trans (h2.1.trans (pk_un (by omega))), h3.2.1.trans (h2.2.1.trans (pk_un (by omega))), h3.2.2.1.trans ((pk_un (by omega)).trans h2.2.2.1), h3.2.2.2.1.trans (h2.2.2.2.1.trans (pk_un (by omega))), h3.2.2.2.2.trans ((pk_un (by omega)).trans (h2.2.2.2.2.trans (pk_un (by omega))))⟩
    dsimp only
    rw [nI_clamp (show k < 2 ^ 31 by omega), jt_s16 n hn.2, jt_s16 _ (jt_rt_lt k2)]
    refine ⟨pk_in k 32 (by omega), nm_e ⟨pk_in k 32 (by omega), nm_e ?_⟩⟩
    refine pk_eq e 0 (fun he => ?_) (fun he => ?_)
    · have hb0 : bo = 0 := by omega
      rw [hb0] at E
      exact E
    · have hb1 : bo = 1 := by omega
      rw [hb1] at E
      exact E
end
end
section
theorem jt_e_j226 : @wX_join_2_226 = @wX_join_226 := by
  unfold wX_join_2_226 wX_join_226
  rw [jt_e_balanced_2] <;> rfl
theorem jt_e_j161 : @wX_join_2_161 = @wX_join_161 := by
  funext post x6 n
  induction n with
  | zero => rfl
  | succ n ih =>
    unfold wX_join_2_161 wX_join_161
    rw [ih, jt_e_j226] <;> rfl
theorem jt_e_j136 : @wX_join_2_136 = @wX_join_136 := by
  unfold wX_join_2_136 wX_join_136
  rw [jt_e_balanced_2, jt_e_j161] <;> rfl
theorem jt_e_j96 : @wX_join_2_96 = @wX_join_96 := by
  funext post x1 x2 x4 x6 x8 n
  induction n with
  | zero => rfl
  | succ n ih =>
    unfold wX_join_2_96 wX_join_96
    rw [ih, jt_e_j136, jt_e_pushWay_2] <;> rfl
theorem jt_e_j56 : @wX_join_2_56 = @wX_join_56 := by
  funext post x1 x2 x3 x5 x6 x7 x8 n
  induction n with
  | zero => rfl
  | succ n ih =>
    unfold wX_join_2_56 wX_join_56
    rw [ih, jt_e_j96, jt_e_pushWay_2] <;> rfl
theorem jt_e_j32 : @wX_join_2_32 = @wX_join_32 := by
  unfold wX_join_2_32 wX_join_32
  rw [jt_e_j56] <;> rfl
theorem jt_e_join_2 : @wpX_join_2 = @wpX_join := by
  unfold wpX_join_2 wpX_join
  rw [jt_e_j32] <;> rfl
theorem jt_e_s101 : @wX_splitTree_2_101 = @wX_splitTree_101 := by
  funext post x3 n
  induction n with
  | zero => rfl
  | succ n ih =>
    unfold wX_splitTree_2_101 wX_splitTree_101
    rw [ih, jt_e_join_2] <;> rfl
theorem jt_e_s83 : @wX_splitTree_2_83 = @wX_splitTree_83 := by
  unfold wX_splitTree_2_83 wX_splitTree_83
  rw [jt_e_s101] <;> rfl
theorem jt_e_s69 : @wX_splitTree_2_69 = @wX_splitTree_69 := by
  unfold wX_splitTree_2_69 wX_splitTree_69
  rw [jt_e_s83] <;> rfl
theorem jt_e_s36 : @wX_splitTree_2_36 = @wX_splitTree_36 := by
  unfold wX_splitTree_2_36 wX_splitTree_36
  rw [jt_e_pushWay_2] <;> rfl
theorem jt_e_s7 : @wX_splitTree_2_7 = @wX_splitTree_7 := by
  funext post x2 n
  induction n with
  | zero => rfl
  | succ n ih =>
    unfold wX_splitTree_2_7 wX_splitTree_7
    rw [ih, jt_e_s69, jt_e_s36] <;> rfl
theorem jt_e_splitTree_2 : @wpX_splitTree_2 = @wpX_splitTree := by
  unfold wpX_splitTree_2 wpX_splitTree
  rw [jt_e_s7] <;> rfl
theorem jt_e_j8 : @wX_joinTwo_2_8 = @wX_joinTwo_8 := by
  funext post x1 x2 fc we lo hi ex a1 a2 a3 a4 a5 a6 a7 a8 a9 a10 a11 a12 a13 n
  induction n with
  | zero => rfl
  | succ n ih =>
    unfold wX_joinTwo_2_8 wX_joinTwo_8
    rw [ih, jt_e_splitTree_2, jt_e_join_2] <;> rfl
theorem jt_e_joinTwo_2 : @wpX_joinTwo_2 = @wpX_joinTwo := by
  unfold wpX_joinTwo_2 wpX_joinTwo
  rw [jt_e_j8] <;> rfl
end
section
/-- the four sets' trees -/
def jt_live (T : Nat → jt_T) (j : Nat) : Nat := List.count j (jt_io (T 0)) + List.count j (jt_io (T 1)) + List.count j (jt_io (T 2)) + List.count j (jt_io (T 3))
def jt_lvN (T : Nat → jt_T) : Nat := (jt_io (T 0)).length + (jt_io (T 1)).length + (jt_io (T 2)).length + (jt_io (T 3)).length
def jt_tu {α : Type} (T : Nat → α) (d : Nat) (t : α) : Nat → α := fun i => if i = d then t else T i
theorem jt_tu_s {α : Type} (T : Nat → α) (d : Nat) (t : α) : jt_tu T d t d = t := if_pos rfl
theorem jt_tu_n {α : Type} {T : Nat → α} {d i : Nat} {t : α} (h : i ≠ d) : jt_tu T d t i = T i := if_neg h
theorem jt_4 {s : Nat} (h : s < 4) : s = 0 ∨ s = 1 ∨ s = 2 ∨ s = 3 := by omega
theorem jt_live_u {T : Nat → jt_T} {d : Nat} {t : jt_T} (hd : d < 4) (j : Nat) : jt_live (jt_tu T d t) j + List.count j (jt_io (T d)) = jt_live T j + List.count j (jt_io t) := by
  unfold jt_live jt_tu
  rcases jt_4 hd with h | h | h | h <;> subst h <;> simp <;> omega
theorem jt_lvN_u {T : Nat → jt_T} {d : Nat} {t : jt_T} (hd : d < 4) : jt_lvN (jt_tu T d t) + (jt_io (T d)).length = jt_lvN T + (jt_io t).length := by
  unfold jt_lvN jt_tu
  rcases jt_4 hd with h | h | h | h <;> subst h <;> simp <;> omega
theorem jt_live_i {T : Nat → jt_T} {d : Nat} (hd : d < 4) (j : Nat) : List.count j (jt_io (T d)) ≤ jt_live T j := by
  unfold jt_live
  rcases jt_4 hd with h | h | h | h <;> subst h <;> omega
def jt_set (L R K C RO : Nat → Int32) (t : jt_T) (m : List Int) (i : Nat) : Prop := RO i = nI (jt_rt t) ∧ jt_ok L R C t ∧ (jt_io t).map (jt_kv K) = m ∧ List.Pairwise (fun a b => a < b) m ∧ m.length ≤ 8
def jt_C (M : Nat → List Int) (T : Nat → jt_T) (fs E : List Nat) (sk : Nat) (fc : Int32) (L R K C RO FN : Nat → Int32) : Prop :=
  fc = nI fs.length ∧ jt_fr FN fs ∧ C 0 = 0 ∧ (∀ i, i < 4 → i ≠ sk → jt_set L R K C RO (T i) (M i) i) ∧ (sk < 4 → jt_io (T sk) = []) ∧
  (∀ j, List.count j fs + jt_live T j + List.count j E ≤ 1) ∧ (∀ j, 0 < List.count j fs + jt_live T j + List.count j E → 0 < j ∧ j < 256) ∧ fs.length + jt_lvN T + E.length = 255
def jt_I (M : Nat → List Int) (u : St2) : Prop := match u with
  | (fc, we, lo, hi, ex, a1, a2, a3, a4, a5, a6, a7, a8, a9, a10, a11, a12, a13) => ∃ T fs, jt_C M T fs [] 4 fc a1 a2 a3 a4 a5 a6
theorem jt_sd_iff {K : Nat → Int32} {l : List Nat} : jt_sd K l ↔ List.Pairwise (fun a b : Int => a < b) (l.map (jt_kv K)) := by
  unfold jt_sd
  rw [List.pairwise_map]
theorem jt_ks_iff {K : Nat → Int32} {t : jt_T} {z : Int} : jt_ks K t z ↔ z ∈ (jt_io t).map (jt_kv K) := by
  unfold jt_ks
  rw [List.mem_map]
theorem jt_uniq : ∀ {l l' : List Int}, List.Pairwise (fun a b => a < b) l → List.Pairwise (fun a b => a < b) l' → (∀ z, z ∈ l ↔ z ∈ l') → l = l'
  | [], [], _, _, _ => rfl
  | [], y :: ys, _, _, h => absurd ((h y).mpr List.mem_cons_self) List.not_mem_nil
  | x :: xs, [], _, _, h => absurd ((h x).mp List.mem_cons_self) List.not_mem_nil
  | x :: xs, y :: ys, h1, h2, h => by
    rw [List.pairwise_cons] at h1 h2
    have e : x = y := by
      rcases List.mem_cons.mp ((h x).mp List.mem_cons_self) with a | a
      · exact a
      · rcases List.mem_cons.mp ((h y).mpr List.mem_cons_self) with b | b
        · exact b.symm
        · have c1 := h2.1 x a
          have c2 := h1.1 y b
          omega
    subst e
    have := jt_uniq h1.2 h2.2 (fun z => by
      constructor
      · intro hz
        rcases List.mem_cons.mp ((h z).mp (List.mem_cons_of_mem _ hz)) with a | a
        · have := h1.1 z hz
          omega
        · exact a
      · intro hz
        rcases List.mem_cons.mp ((h z).mpr (List.mem_cons_of_mem _ hz)) with a | a
        · have := h2.1 z hz
          omega
        · exact a)
    rw [this]
theorem jt_C_out {M : Nat → List Int} {T : Nat → jt_T} {fs E : List Nat} {s : Nat} {fc : Int32} {L R K C RO FN : Nat → Int32} (h : jt_C M T fs E 4 fc L R K C RO FN) (hs : s < 4) : jt_C M (jt_tu T s (.leaf ())) fs (jt_io (T s) ++ E) s fc L R K C RO FN := by
  obtain ⟨h1, h2, h3, h4, h5, h6, h7, h8⟩ := h
  have e : ∀ j, List.count j fs + jt_live (jt_tu T s (.leaf ())) j + List.count j (jt_io (T s) ++ E) = List.count j fs + jt_live T j + List.count j E := fun j => by
    have := jt_live_u (T := T) (t := .leaf ()) hs j
    rw [jt_cf] at this
    rw [List.count_append]
    omega
  refine ⟨h1, h2, h3, fun i hi his => ?_, fun _ => by rw [jt_tu_s]; rfl, fun j => by rw [e j]; exact h6 j, fun j hj => by rw [e j] at hj; exact h7 j hj, ?_⟩
  · rw [jt_tu_n his]; exact h4 i hi (by omega)
  · have := jt_lvN_u (T := T) (t := .leaf ()) hs
    have e0 : (jt_io (.leaf ())).length = 0 := rfl
    rw [List.length_append]
    omega
theorem jt_C_in {M : Nat → List Int} {T : Nat → jt_T} {fs E : List Nat} {s : Nat} {fc : Int32} {L R K C RO FN : Nat → Int32} {t : jt_T} {X : List Int} (h : jt_C M T fs (jt_io t ++ E) s fc L R K C RO FN) (hs : s < 4) (kt : jt_ok L R C t) (em : (jt_io t).map (jt_kv K) = X) (hX : List.Pairwise (fun a b => a < b) X) (hl : X.length ≤ 8) :
    jt_C (jt_tu M s X) (jt_tu T s t) fs E 4 fc L R K C (upd RO s (nI (jt_rt t))) FN := by
  obtain ⟨h1, h2, h3, h4, h5, h6, h7, h8⟩ := h
  have e : ∀ j, List.count j fs + jt_live (jt_tu T s t) j + List.count j E = List.count j fs + jt_live T j + List.count j (jt_io t ++ E) := fun j => by
    have := jt_live_u (T := T) (t := t) hs j
    rw [h5 hs, List.count_nil] at this
    rw [List.count_append]
    omega
  refine ⟨h1, h2, h3, fun i hi _ => ?_, fun z => absurd z (by omega), fun j => by rw [e j]; exact h6 j, fun j hj => by rw [e j] at hj; exact h7 j hj, ?_⟩
  · by_cases his : i = s
    · subst his
      rw [jt_tu_s, jt_tu_s]
      exact ⟨pk_us, kt, em, hX, hl⟩
    · rw [jt_tu_n his, jt_tu_n his]
      have := h4 i hi his
      exact ⟨(pk_un his).trans this.1, this.2⟩
  · have := jt_lvN_u (T := T) (t := t) hs
    rw [h5 hs, List.length_nil] at this
    rw [List.length_append] at h8
    omega
theorem jt_C_mod {M : Nat → List Int} {T : Nat → jt_T} {fs fs' E E' ns : List Nat} {sk : Nat} {fc : Int32} {L R K C RO FN L' R' K' C' FN' : Nat → Int32} (h : jt_C M T fs E sk fc L R K C RO FN) (g : jt_ag ns L R C L' R' C') (gk : ∀ j, List.count j ns = 0 → K' j = K j)
    (sub : ∀ j, 0 < List.count j ns → 0 < List.count j fs + List.count j E) (e : ∀ j, List.count j fs' + List.count j E' = List.count j fs + List.count j E) (hfr : jt_fr FN' fs') (h0 : C' 0 = 0) : jt_C M T fs' E' sk (nI fs'.length) L' R' K' C' RO FN' := by
  obtain ⟨h1, h2, h3, h4, h5, h6, h7, h8⟩ := h
  refine ⟨rfl, hfr, h0, fun i hi his => ?_, h5, fun j => ?_, fun j hj => ?_, ?_⟩
  · obtain ⟨q1, q2, q3, q4, q5⟩ := h4 i hi his
    have z : ∀ j, 0 < List.count j (jt_io (T i)) → List.count j ns = 0 := fun j hj => by
      have a := jt_live_i (T := T) hi j
      have b := h6 j
      have c := sub j
      omega
    refine ⟨q1, jt_ok_fr q2 (fun j hj => g j (z j hj)), ?_, q4, q5⟩
    rw [← q3]
    exact jt_map_fr (fun j hj => gk j (z j hj))
  · have a := h6 j
    have b := e j
    omega
  · have b := e j
    exact h7 j (by omega)
  · have hp : List.Perm (fs' ++ E') (fs ++ E) := List.perm_iff_count.mpr (fun j => by rw [List.count_append, List.count_append]; exact e j)
    have := hp.length_eq
    rw [List.length_append, List.length_append] at this
    omega
section
variable {fc we lo hi ex : Int32} {a1 a2 a3 a4 a5 a6 a7 a8 a9 a10 a11 a12 a13 : Nat → Int32}
theorem jt_combined {post : Int32 → St2 → Prop} {how : Nat} {ta tb : jt_T} {fs : List Nat} (hh : how ≤ 2) (h0 : a4 0 = 0) (ka : jt_ok a1 a2 a4 ta) (kb : jt_ok a1 a2 a4 tb) (sa : jt_sd a3 (jt_io ta)) (sb : jt_sd a3 (jt_io tb))
    (nd : ∀ j, List.count j (jt_io ta) + List.count j (jt_io tb) + List.count j fs ≤ 1) (hfr : jt_fr a6 fs) (hf : fs.length + (jt_io ta).length + (jt_io tb).length ≤ 255) (hs : (jt_io ta).length + (jt_io tb).length ≤ 50) (hk : (jt_io ta).length ≤ 32)
    (H : ∀ t' fs' we' lo' hi' ex' L' R' C' FN' W' X' b9 b10 b11 b12 b13, jt_ok L' R' C' t' → jt_sd a3 (jt_io t') → (∀ z, jt_ks a3 t' z ↔ jt_cn how (jt_ks a3 ta z) (jt_ks a3 tb z)) → (∀ j, List.count j fs' + List.count j (jt_io t') = List.count j fs + List.count j (jt_io ta) + List.count j (jt_io tb)) → (jt_io t').length ≤ (jt_io ta).length + (jt_io tb).length → (∀ j, List.count j (jt_io t') ≤ List.count j (jt_io ta) + List.count j (jt_io tb)) → jt_fr FN' fs' →
      jt_ag (jt_io ta ++ jt_io tb) a1 a2 a4 L' R' C' → C' 0 = 0 → post (nI (jt_rt t')) (nI fs'.length, we', lo', hi', ex', L', R', a3, C', a5, FN', W', X', b9, b10, b11, b12, b13)) :
    wpX_combined post (nI fs.length, we, lo, hi, ex, a1, a2, a3, a4, a5, a6, a7, a8, a9, a10, a11, a12, a13) (nI how) (nI (jt_rt ta)) (nI (jt_rt tb)) := by
  unfold wpX_combined
  dsimp only
  refine ⟨1 + jt_gg ta, jt_comb hh ta tb 0 1 fs 0 we lo hi ex a1 a2 a4 a6 a7 a8 a9 a10 a11 a12 a13 h0 ka kb sa sb nd hfr hf hs (by omega) ?_ _ (Nat.le_refl _)⟩
  intro f hf0 t' fs' x5' x6' we' lo' hi' ex' L' R' C' FN' W' X' b9 b10 b11 b12 b13 k1 s1 m1 c1 l1 u1 f1 g1 _
  obtain ⟨f, rfl⟩ : ∃ f', f = f' + 1 := ⟨f - 1, by omega⟩
  have z0 : C' 0 = 0 := by rw [(g1 0 (by have := jt_c0 ka; have := jt_c0 kb; rw [List.count_append]; omega)).2.2]; exact h0
  exact br_t rfl (pk_le 0 0 (fun _ => H t' fs' we' lo' hi' ex' L' R' C' FN' W' X' b9 b10 b11 b12 b13 k1 s1 m1 c1 l1 u1 f1 g1 z0) (fun z => absurd z (by omega)))
theorem jt_X_copy {post : Int32 → St2 → Prop} {M : Nat → List Int} {T : Nat → jt_T} {fs E : List Nat} {sk i : Nat} (h : jt_C M T fs E sk fc a1 a2 a3 a4 a5 a6) (hi4 : i < 4) (his : i ≠ sk) (hroom : 8 ≤ fs.length)
    (H : ∀ t' fs' we' L' R' K' C' W' X', jt_C M T fs' (jt_io t' ++ E) sk (nI fs'.length) L' R' K' C' a5 a6 → jt_ok L' R' C' t' → (jt_io t').map (jt_kv K') = M i →
      (∀ t, jt_ok a1 a2 a4 t → (∀ j, List.count j (jt_io t) ≤ List.count j E) → jt_ok L' R' C' t ∧ (jt_io t).map (jt_kv K') = (jt_io t).map (jt_kv a3)) → fs.length = fs'.length + (M i).length → post (nI (jt_rt t')) (nI fs'.length, we', lo, hi, ex, L', R', K', C', a5, a6, W', X', a9, a10, a11, a12, a13)) :
    wpX_copyOf post (fc, we, lo, hi, ex, a1, a2, a3, a4, a5, a6, a7, a8, a9, a10, a11, a12, a13) (a5 i) := by
  have hh := h
  obtain ⟨h1, h2, h3, h4, h5, h6, h7, h8⟩ := hh
  obtain ⟨q1, q2, q3, q4, q5⟩ := h4 i hi4 his
  have len : (jt_io (T i)).length = (M i).length := by rw [← q3, List.length_map]
  rw [q1, h1]
  refine jt_copy h3 q2 (by omega) h2 (by omega) (by omega) (fun j hj => h7 j (by omega)) (fun j => by have := h6 j; have := jt_live_i (T := T) hi4 j; omega) ?_
  intro t' g fs' we' L' R' K' C' W' X' e1 c1 k1 m1 g1 kf z0
  have len2 : fs.length = fs'.length + (M i).length := by
    have hp : List.Perm (jt_io t') g := List.perm_iff_count.mpr c1
    have a := hp.length_eq
    have b := congrArg List.length m1
    rw [List.length_map, List.length_map] at b
    rw [e1, List.length_append]
    omega
  have cf : ∀ j, List.count j fs = List.count j g + List.count j fs' := fun j => by rw [e1, List.count_append]
  refine H t' fs' we' L' R' K' C' W' X' (jt_C_mod h g1 kf (fun j hj => by rw [cf j]; omega) (fun j => by rw [List.count_append, cf j, c1 j]; omega) (jt_fr_ap (g := g) (by rw [← e1]; exact h2)) z0) k1 (m1.trans q3) ?_ len2
  intro t kt ht
  have z : ∀ j, 0 < List.count j (jt_io t) → List.count j g = 0 := fun j hj => by
    have a := ht j
    have b := h6 j
    have c := cf j
    omega
  exact ⟨jt_ok_fr kt (fun j hj => g1 j (z j hj)), jt_map_fr (fun j hj => kf j (z j hj))⟩
theorem jt_X_comb {post : Int32 → St2 → Prop} {M : Nat → List Int} {T : Nat → jt_T} {fs E : List Nat} {sk how : Nat} {ta tb : jt_T} (hh : how ≤ 2) (h : jt_C M T fs (jt_io ta ++ (jt_io tb ++ E)) sk fc a1 a2 a3 a4 a5 a6) (ka : jt_ok a1 a2 a4 ta) (kb : jt_ok a1 a2 a4 tb) (sa : jt_sd a3 (jt_io ta)) (sb : jt_sd a3 (jt_io tb))
    (hs : (jt_io ta).length + (jt_io tb).length ≤ 50) (hk : (jt_io ta).length ≤ 32)
    (H : ∀ t' fs' we' lo' hi' ex' L' R' C' FN' W' X' b9 b10 b11 b12 b13, jt_C M T fs' (jt_io t' ++ E) sk (nI fs'.length) L' R' a3 C' a5 FN' → jt_ok L' R' C' t' → jt_sd a3 (jt_io t') → (∀ z, jt_ks a3 t' z ↔ jt_cn how (jt_ks a3 ta z) (jt_ks a3 tb z)) → (jt_io t').length ≤ (jt_io ta).length + (jt_io tb).length → fs.length ≤ fs'.length →
      (∀ t, jt_ok a1 a2 a4 t → (∀ j, List.count j (jt_io t) ≤ List.count j E) → jt_ok L' R' C' t) → post (nI (jt_rt t')) (nI fs'.length, we', lo', hi', ex', L', R', a3, C', a5, FN', W', X', b9, b10, b11, b12, b13)) :
    wpX_combined post (fc, we, lo, hi, ex, a1, a2, a3, a4, a5, a6, a7, a8, a9, a10, a11, a12, a13) (nI how) (nI (jt_rt ta)) (nI (jt_rt tb)) := by
  have hq := h
  obtain ⟨h1, h2, h3, h4, h5, h6, h7, h8⟩ := hq
  simp only [List.count_append, List.length_append] at h6 h8
  rw [h1]
  refine jt_combined hh h3 ka kb sa sb (fun j => by have := h6 j; omega) h2 (by omega) hs hk ?_
  intro t' fs' we' lo' hi' ex' L' R' C' FN' W' X' b9 b10 b11 b12 b13 k1 s1 m1 c1 l1 u1 f1 g1 z0
  have pl := jt_plen c1
  refine H t' fs' we' lo' hi' ex' L' R' C' FN' W' X' b9 b10 b11 b12 b13 (jt_C_mod h g1 (fun _ _ => rfl) (fun j hj => by rw [List.count_append] at hj; simp only [List.count_append]; omega) (fun j => by have := c1 j; simp only [List.count_append]; omega) f1 z0) k1 s1 m1 l1 (by omega) ?_
  intro t kt ht
  exact jt_ok_ag kt g1 (fun j => by have := h6 j; have := ht j; rw [List.count_append]; omega)
theorem jt_X_rel {post : St2 → Prop} {M : Nat → List Int} {T : Nat → jt_T} {fs E : List Nat} {sk : Nat} {t : jt_T} (h : jt_C M T fs (jt_io t ++ E) sk fc a1 a2 a3 a4 a5 a6) (kt : jt_ok a1 a2 a4 t) (hs : (jt_io t).length ≤ 60)
    (H : ∀ fs' FN' W' X', jt_C M T fs' E sk (nI fs'.length) a1 a2 a3 a4 a5 FN' → post (nI fs'.length, nI 0, lo, hi, ex, a1, a2, a3, a4, a5, FN', W', X', a9, a10, a11, a12, a13)) : wpX_releaseTree post (fc, we, lo, hi, ex, a1, a2, a3, a4, a5, a6, a7, a8, a9, a10, a11, a12, a13) (nI (jt_rt t)) := by
  have hq := h
  obtain ⟨h1, h2, h3, h4, h5, h6, h7, h8⟩ := hq
  rw [List.length_append] at h8
  rw [h1]
  refine jt_relT kt hs h2 (by omega) (fun fs' FN' W' X' c1 l1 f1 => ?_)
  exact H fs' FN' W' X' (jt_C_mod (ns := []) h (jt_ag_refl _ _ _ _) (fun _ _ => rfl) (fun j hj => absurd hj (by rw [List.count_nil]; omega)) (fun j => by rw [c1 j, List.count_append]; omega) f1 h3)
end
end
section
theorem jt_ks_b {K : Nat → Int32} {n : Nat} {l r : jt_T} {z : Int} : jt_ks K (.branch n l r) z ↔ (jt_ks K l z ∨ z = jt_kv K n ∨ jt_ks K r z) := by
  constructor
  · rintro ⟨m, hm, em⟩
    rw [jt_io_b] at hm
    rcases List.mem_append.mp hm with h | h
    · exact Or.inl ⟨m, h, em⟩
    · rcases List.mem_cons.mp h with h | h
      · exact Or.inr (Or.inl (by rw [← em, h]))
      · exact Or.inr (Or.inr ⟨m, h, em⟩)
  · rintro (⟨m, hm, em⟩ | em | ⟨m, hm, em⟩)
    · exact ⟨m, by rw [jt_io_b]; exact List.mem_append.mpr (Or.inl hm), em⟩
    · exact ⟨n, by rw [jt_io_b]; exact List.mem_append.mpr (Or.inr List.mem_cons_self), em.symm⟩
    · exact ⟨m, by rw [jt_io_b]; exact List.mem_append.mpr (Or.inr (List.mem_cons_of_mem _ hm)), em⟩
def jt_rk (K : Nat → Int32) (x : Int) (l : List Nat) : Nat := l.countP (fun n => decide (jt_kv K n < x))
theorem jt_rk_app (K : Nat → Int32) (x : Int) (l r : List Nat) (n : Nat) : jt_rk K x (l ++ n :: r) = jt_rk K x l + ((if jt_kv K n < x then 1 else 0) + jt_rk K x r) := by
  unfold jt_rk
  rw [List.countP_append, List.countP_cons]
  simp only [decide_eq_true_eq]
  omega
theorem jt_rk_0 {K : Nat → Int32} {x : Int} {l : List Nat} (h : ∀ i, i ∈ l → ¬ jt_kv K i < x) : jt_rk K x l = 0 := by
  unfold jt_rk
  rw [List.countP_eq_zero]
  intro a ha
  simpa using h a ha
theorem jt_rk_all {K : Nat → Int32} {x : Int} {l : List Nat} (h : ∀ i, i ∈ l → jt_kv K i < x) : jt_rk K x l = l.length := by
  unfold jt_rk
  rw [List.countP_eq_length]
  intro a ha
  simpa using h a ha
section
variable {fc we lo hi ex : Int32} {a1 a2 a3 a4 a5 a6 a7 a8 a9 a10 a11 a12 a13 : Nat → Int32}
theorem jt_isSet {post : Int32 → Prop} {s : Nat} (hs : s < 4) (H : post 1) : wpX_isSet post (fc, we, lo, hi, ex, a1, a2, a3, a4, a5, a6, a7, a8, a9, a10, a11, a12, a13) (nI s) := by
  unfold wpX_isSet
  dsimp only
  exact pk_lt s 0 (fun z => absurd z (by omega)) (fun _ => pk_lt 3 s (fun z => absurd z (by omega)) (fun _ => H))
theorem jt_has17 {post : Int32 → Prop} {x : Int32} : ∀ (t : jt_T), jt_ok a1 a2 a4 t → jt_sd a3 (jt_io t) → (jt_ks a3 t x.toInt → post 1) → (¬ jt_ks a3 t x.toInt → post 0) → ∃ n, wX_has_17 post x fc we lo hi ex a1 a2 a3 a4 a5 a6 a7 a8 a9 a10 a11 a12 a13 n (nI (jt_rt t)) := by
  intro t
  induction t with
  | leaf u => exact fun _ _ _ H0 => ⟨1, br_t rfl (br_t rfl (H0 (jt_ks_nil rfl _)))⟩
  | branch n l r ihl ihr =>
    intro kt sd H1 H0
    obtain ⟨hn, eL, eR, eC, kl, kr⟩ := kt
    have sb := jt_sd_b sd
    have ec : (nI (jt_rt (.branch n l r))).toNatClampNeg = n := jt_cl hn.2
    rw [jt_ks_b] at H1 H0
    have nl : x.toInt ≥ jt_kv a3 n → ¬ jt_ks a3 l x.toInt := fun h ⟨m, hm, em⟩ => by have := sb.2.2.1 m hm; omega
    have nr : x.toInt ≤ jt_kv a3 n → ¬ jt_ks a3 r x.toInt := fun h ⟨m, hm, em⟩ => by have := sb.2.2.2 m hm; omega
    by_cases hx : a3 n = x
    · refine ⟨1, br_f (jt_nz hn) ⟨pk_in n 256 hn.2, ?_⟩⟩
      rw [ec]
      exact br_t hx (br_f (jt_nz hn) (H1 (Or.inr (Or.inl (congrArg Int32.toInt hx).symm))))
    · have hne : ¬ x.toInt = jt_kv a3 n := fun z => hx (jt_eq_i.mpr z.symm)
      by_cases hg : a3 n ≤ x
      · have hle : jt_kv a3 n ≤ x.toInt := jt_le_i.mp hg
        have n1 := nl hle
        obtain ⟨f, hf⟩ := ihr kr sb.2.1 (fun h => H1 (Or.inr (Or.inr h))) (fun h => H0 (fun z => z.elim n1 (fun z => z.elim hne h)))
        refine ⟨f + 1, br_f (jt_nz hn) ⟨pk_in n 256 hn.2, ?_⟩⟩
        rw [ec]
        exact br_f hx ⟨pk_in n 256 hn.2, br_t hg ⟨pk_in n 256 hn.2, nm_r eR hf⟩⟩
      · have hle : x.toInt ≤ jt_kv a3 n := by
          have h1 : ¬ (a3 n).toInt ≤ x.toInt := fun z => hg (jt_le_i.mpr z)
          show x.toInt ≤ (a3 n).toInt
          omega
        have n1 := nr hle
        obtain ⟨f, hf⟩ := ihl kl sb.1 (fun h => H1 (Or.inl h)) (fun h => H0 (fun z => z.elim h (fun z => z.elim hne n1)))
        refine ⟨f + 1, br_f (jt_nz hn) ⟨pk_in n 256 hn.2, ?_⟩⟩
        rw [ec]
        exact br_f hx ⟨pk_in n 256 hn.2, br_f hg ⟨pk_in n 256 hn.2, nm_r eL hf⟩⟩
theorem jt_rank20 {post : Int32 → Prop} {x : Int32} (h0 : a4 0 = 0) : ∀ (t : jt_T) (acc : Nat), jt_ok a1 a2 a4 t → jt_sd a3 (jt_io t) → post (nI (acc + jt_rk a3 x.toInt (jt_io t))) → ∃ n, wX_rank_20 post x fc we lo hi ex a1 a2 a3 a4 a5 a6 a7 a8 a9 a10 a11 a12 a13 n (nI (jt_rt t)) (nI acc) := by
  intro t
  induction t with
  | leaf u => exact fun acc _ _ H => ⟨1, br_t rfl H⟩
  | branch n l r ihl ihr =>
    intro acc kt sd H
    obtain ⟨hn, eL, eR, eC, kl, kr⟩ := kt
    have sb := jt_sd_b sd
    have ec : (nI (jt_rt (.branch n l r))).toNatClampNeg = n := jt_cl hn.2
    rw [jt_io_b, jt_rk_app] at H
    by_cases hg : x ≤ a3 n
    · have hle : x.toInt ≤ jt_kv a3 n := jt_le_i.mp hg
      rw [if_neg (by omega), jt_rk_0 (l := jt_io r) (fun i hi => by have := sb.2.2.2 i hi; omega)] at H
      obtain ⟨f, hf⟩ := ihl acc kl sb.1 H
      refine ⟨f + 1, br_f (jt_nz hn) ⟨pk_in n 256 hn.2, ?_⟩⟩
      rw [ec]
      exact br_t hg ⟨pk_in n 256 hn.2, nm_r eL hf⟩
    · have hlt : jt_kv a3 n < x.toInt := by
        have h1 : ¬ x.toInt ≤ (a3 n).toInt := fun z => hg (jt_le_i.mpr z)
        show (a3 n).toInt < x.toInt
        omega
      rw [if_pos hlt, jt_rk_all (l := jt_io l) (fun i hi => by have := sb.2.2.1 i hi; omega)] at H
      obtain ⟨f, hf⟩ := ihr (acc + ((jt_io l).length + 1)) kr sb.2.1 (by rw [show acc + ((jt_io l).length + 1) + jt_rk a3 x.toInt (jt_io r) = acc + ((jt_io l).length + (1 + jt_rk a3 x.toInt (jt_io r))) by omega]; exact H)
      refine ⟨f + 1, br_f (jt_nz hn) ⟨pk_in n 256 hn.2, ?_⟩⟩
      rw [ec]
      refine br_f hg ⟨pk_in n 256 hn.2, ?_⟩
      rw [eL, jt_cl (jt_rt_lt kl), jt_cnt kl h0, nI_1, nI_add]
      exact ⟨pk_in (jt_rt l) 256 (jt_rt_lt kl), nm_e ⟨pk_in n 256 hn.2, nm_r eR hf⟩⟩
theorem jt_at39 {post : Int32 → Prop} (h0 : a4 0 = 0) : ∀ (t : jt_T) (k m : Nat), jt_ok a1 a2 a4 t → (jt_io t).length ≤ 100 → (jt_io t)[k]? = some m → post (a3 m) → ∃ n, wX_at_39 post fc we lo hi ex a1 a2 a3 a4 a5 a6 a7 a8 a9 a10 a11 a12 a13 n (nI (jt_rt t)) (nI k) := by
  intro t
  induction t with
  | leaf u => intro k m _ _ h; exact absurd h (by simp [jt_io])
  | branch n l r ihl ihr =>
    intro k m kt hs hm H
    obtain ⟨hn, eL, eR, eC, kl, kr⟩ := kt
    have ec : (nI (jt_rt (.branch n l r))).toNatClampNeg = n := jt_cl hn.2
    have hkl : k < (jt_io (.branch n l r)).length := by
      rcases Nat.lt_or_ge k (jt_io (.branch n l r)).length with h | h
      · exact h
      · rw [List.getElem?_eq_none h] at hm; exact absurd hm (by simp)
    rw [jt_io_b] at hm
    rw [jt_lb] at hs hkl
    rcases Nat.lt_trichotomy k (jt_io l).length with h | h | h
    · rw [List.getElem?_append_left h] at hm
      obtain ⟨f, hf⟩ := ihl k m kl (by omega) hm H
      refine ⟨f + 1, pk_in n 256 hn.2, ?_⟩
      rw [ec, eL, jt_cl (jt_rt_lt kl), jt_cnt kl h0]
      refine ⟨pk_in (jt_rt l) 256 (jt_rt_lt kl), pk_eq k (jt_io l).length (fun z => absurd z (by omega)) (fun _ => ⟨pk_in n 256 hn.2, pk_in (jt_rt l) 256 (jt_rt_lt kl), pk_le (jt_io l).length k (fun z => absurd z (by omega)) (fun _ => ⟨pk_in n 256 hn.2, nm_e hf⟩)⟩)⟩
    · refine ⟨1, pk_in n 256 hn.2, ?_⟩
      rw [ec, eL, jt_cl (jt_rt_lt kl), jt_cnt kl h0]
      rw [List.getElem?_append_right (by omega), h, Nat.sub_self, List.getElem?_cons_zero] at hm
      have hmn : n = m := Option.some.inj hm
      refine ⟨pk_in (jt_rt l) 256 (jt_rt_lt kl), pk_eq k (jt_io l).length (fun _ => ⟨pk_in n 256 hn.2, by rw [hmn]; exact H⟩) (fun z => absurd h z)⟩
    · rw [List.getElem?_append_right (by omega), show k - (jt_io l).length = (k - ((jt_io l).length + 1)) + 1 by omega, List.getElem?_cons_succ] at hm
      obtain ⟨f, hf⟩ := ihr (k - ((jt_io l).length + 1)) m kr (by omega) hm H
      refine ⟨f + 1, pk_in n 256 hn.2, ?_⟩
      rw [ec, eL, jt_cl (jt_rt_lt kl), jt_cnt kl h0, nI_1, pk_sub (show (jt_io l).length + 1 ≤ k by omega)]
      refine ⟨pk_in (jt_rt l) 256 (jt_rt_lt kl), pk_eq k (jt_io l).length (fun z => absurd z (by omega)) (fun _ => ⟨pk_in n 256 hn.2, pk_in (jt_rt l) 256 (jt_rt_lt kl), pk_le (jt_io l).length k (fun _ => ⟨pk_in n 256 hn.2, pk_in (jt_rt l) 256 (jt_rt_lt kl), nm_e ⟨pk_in n 256 hn.2, nm_r eR hf⟩⟩) (fun z => absurd z (by omega))⟩)⟩
end
theorem jt_has {post : Int32 → Prop} {M : Nat → List Int} {u : St2} {s : Nat} {x : Int32} (hI : jt_I M u) (hs : s < 4) (H1 : x.toInt ∈ M s → post 1) (H0 : x.toInt ∉ M s → post 0) : wpX_has post u (nI s) x := by
  obtain ⟨fc, we, lo, hi, ex, a1, a2, a3, a4, a5, a6, a7, a8, a9, a10, a11, a12, a13⟩ := u
  obtain ⟨T, fs, h1, h2, h3, h4, h5, h6, h7, h8⟩ := hI
  obtain ⟨q1, q2, q3, q4, q5⟩ := h4 s hs (by omega)
  unfold wpX_has
  dsimp only
  refine jt_isSet hs (br_f (by decide) ⟨pk_in s 4 hs, ?_⟩)
  rw [nI_clamp (show s < 2 ^ 31 by omega), q1]
  refine nm_e (jt_has17 (T s) q2 (jt_sd_iff.mpr (by rw [q3]; exact q4)) (fun h => H1 ?_) (fun h => H0 (fun z => h ?_)))
  · rw [← q3]; exact jt_ks_iff.mp h
  · rw [← q3] at z; exact jt_ks_iff.mpr z
theorem jt_rank {post : Int32 → Prop} {M : Nat → List Int} {u : St2} {s : Nat} {x : Int32} (hI : jt_I M u) (hs : s < 4) (H : post (nI ((M s).countP (fun z => decide (z < x.toInt))))) : wpX_rank post u (nI s) x := by
  obtain ⟨fc, we, lo, hi, ex, a1, a2, a3, a4, a5, a6, a7, a8, a9, a10, a11, a12, a13⟩ := u
  obtain ⟨T, fs, h1, h2, h3, h4, h5, h6, h7, h8⟩ := hI
  obtain ⟨q1, q2, q3, q4, q5⟩ := h4 s hs (by omega)
  unfold wpX_rank
  dsimp only
  refine jt_isSet hs (br_f (by decide) ⟨pk_in s 4 hs, ?_⟩)
  rw [nI_clamp (show s < 2 ^ 31 by omega), q1]
  refine nm_e (jt_rank20 h3 (T s) 0 q2 (jt_sd_iff.mpr (by rw [q3]; exact q4)) ?_)
  rw [Nat.zero_add]
  rw [← q3, List.countP_map] at H
  exact H
theorem jt_ceiling {post : Int32 → Prop} {M : Nat → List Int} {u : St2} {s c : Nat} {x : Int32} (hI : jt_I M u) (hs : s < 4) (hc : (M s).countP (fun z => decide (z < x.toInt)) = c) (H1 : c < (M s).length → post (nI c)) (H0 : (M s).length ≤ c → post (-3)) : wpX_ceiling post u (nI s) x := by
  obtain ⟨fc, we, lo, hi, ex, a1, a2, a3, a4, a5, a6, a7, a8, a9, a10, a11, a12, a13⟩ := u
  have hI' := hI
  obtain ⟨T, fs, h1, h2, h3, h4, h5, h6, h7, h8⟩ := hI'
  obtain ⟨q1, q2, q3, q4, q5⟩ := h4 s hs (by omega)
  have len : (jt_io (T s)).length = (M s).length := by rw [← q3, List.length_map]
  have hcl : c ≤ (M s).length := by rw [← hc]; exact List.countP_le_length
  unfold wpX_ceiling
  dsimp only
  refine jt_isSet hs (br_f (by decide) (jt_rank hI hs ?_))
  rw [hc, nI_clamp (show s < 2 ^ 31 by omega), q1, jt_cl (jt_rt_lt q2), jt_cnt q2 h3, len]
  exact ⟨pk_in s 4 hs, pk_in (jt_rt (T s)) 256 (jt_rt_lt q2), pk_le (M s).length c H0 H1⟩
theorem jt_at {post : Int32 → Prop} {M : Nat → List Int} {u : St2} {s k : Nat} {z : Int} (hI : jt_I M u) (hs : s < 4) (hk : (M s)[k]? = some z) (H : ∀ v : Int32, v.toInt = z → post v) : wpX_at post u (nI s) (nI k) := by
  obtain ⟨fc, we, lo, hi, ex, a1, a2, a3, a4, a5, a6, a7, a8, a9, a10, a11, a12, a13⟩ := u
  obtain ⟨T, fs, h1, h2, h3, h4, h5, h6, h7, h8⟩ := hI
  obtain ⟨q1, q2, q3, q4, q5⟩ := h4 s hs (by omega)
  have len : (jt_io (T s)).length = (M s).length := by rw [← q3, List.length_map]
  have hkl : k < (M s).length := by
    rcases Nat.lt_or_ge k (M s).length with h | h
    · exact h
    · rw [List.getElem?_eq_none h] at hk; exact absurd hk (by simp)
  rw [← q3, List.getElem?_map] at hk
  obtain ⟨m, hm, em⟩ := Option.map_eq_some_iff.mp hk
  unfold wpX_at
  dsimp only
  refine jt_isSet hs (br_f (by decide) (pk_lt k 0 (fun z => absurd z (by omega)) (fun _ => ⟨pk_in s 4 hs, ?_⟩)))
  rw [nI_clamp (show s < 2 ^ 31 by omega), q1, jt_cl (jt_rt_lt q2), jt_cnt q2 h3, len]
  refine ⟨pk_in (jt_rt (T s)) 256 (jt_rt_lt q2), pk_lt k (M s).length (fun _ => ⟨pk_in s 4 hs, nm_e (jt_at39 h3 (T s) k m q2 (by omega) hm (H _ em))⟩) (fun z => absurd z (by omega))⟩
theorem jt_size {post : Int32 → Prop} {M : Nat → List Int} {u : St2} {s : Nat} (hI : jt_I M u) (hs : s < 4) (H : post (nI (M s).length)) : wpX_size post u (nI s) := by
  obtain ⟨fc, we, lo, hi, ex, a1, a2, a3, a4, a5, a6, a7, a8, a9, a10, a11, a12, a13⟩ := u
  obtain ⟨T, fs, h1, h2, h3, h4, h5, h6, h7, h8⟩ := hI
  obtain ⟨q1, q2, q3, q4, q5⟩ := h4 s hs (by omega)
  have len : (jt_io (T s)).length = (M s).length := by rw [← q3, List.length_map]
  unfold wpX_size
  dsimp only
  refine jt_isSet hs (br_f (by decide) ⟨pk_in s 4 hs, ?_⟩)
  rw [nI_clamp (show s < 2 ^ 31 by omega), q1, jt_cl (jt_rt_lt q2), jt_cnt q2 h3, len]
  exact ⟨pk_in (jt_rt (T s)) 256 (jt_rt_lt q2), H⟩
end
section
theorem jt_C_E {M : Nat → List Int} {T : Nat → jt_T} {fs E E' : List Nat} {sk : Nat} {fc : Int32} {L R K C RO FN : Nat → Int32} (h : jt_C M T fs E sk fc L R K C RO FN) (e : ∀ j, List.count j E' = List.count j E) : jt_C M T fs E' sk fc L R K C RO FN := by
  have := jt_C_mod (ns := []) (fs' := fs) (E' := E') h (jt_ag_refl _ _ _ _) (fun _ _ => rfl) (fun j hj => absurd hj (by rw [List.count_nil]; omega)) (fun j => by rw [e j]) h.2.1 h.2.2.1
  rw [← h.1] at this
  exact this
theorem jt_C_lv {M : Nat → List Int} {T : Nat → jt_T} {fs E : List Nat} {sk : Nat} {fc : Int32} {L R K C RO FN : Nat → Int32} (h : jt_C M T fs E sk fc L R K C RO FN) : jt_lvN T ≤ 32 ∧ 223 ≤ fs.length + E.length ∧ fs.length + E.length ≤ 255 := by
  obtain ⟨h1, h2, h3, h4, h5, h6, h7, h8⟩ := h
  have z : ∀ i, i < 4 → (jt_io (T i)).length ≤ 8 := by
    intro i hi
    by_cases his : i = sk
    · rw [his, h5 (by omega)]; exact Nat.zero_le 8
    · obtain ⟨q1, q2, q3, q4, q5⟩ := h4 i hi his
      rw [← q3, List.length_map] at q5
      exact q5
  have a0 := z 0 (by decide)
  have a1 := z 1 (by decide)
  have a2 := z 2 (by decide)
  have a3 := z 3 (by decide)
  unfold jt_lvN at h8 ⊢
  omega
section
variable {fc we lo hi ex : Int32} {a1 a2 a3 a4 a5 a6 a7 a8 a9 a10 a11 a12 a13 : Nat → Int32}
theorem jt_X_split {post : St2 → Prop} {M : Nat → List Int} {T : Nat → jt_T} {fs E : List Nat} {sk : Nat} {t : jt_T} {x : Int32} (h : jt_C M T fs (jt_io t ++ E) sk fc a1 a2 a3 a4 a5 a6) (kt : jt_ok a1 a2 a4 t) (hs : (jt_io t).length ≤ 60) (sd : jt_sd a3 (jt_io t))
    (H : ∀ L' R' C' W' X' tl th e, jt_C M T fs (jt_io tl ++ (jt_op e ++ (jt_io th ++ E))) sk fc L' R' a3 C' a5 a6 → jt_ok L' R' C' tl → jt_ok L' R' C' th → jt_io t = jt_io tl ++ (jt_op e ++ jt_io th) → (∀ n, n ∈ jt_io tl → jt_kv a3 n < x.toInt) → (∀ n, n ∈ jt_io th → x.toInt < jt_kv a3 n) → e < 256 → (e ≠ 0 → a3 e = x) →
      (∀ t2, jt_ok a1 a2 a4 t2 → (∀ j, List.count j (jt_io t2) ≤ List.count j E) → jt_ok L' R' C' t2) → post (fc, nI 0, nI (jt_rt tl), nI (jt_rt th), nI e, L', R', a3, C', a5, a6, W', X', a9, a10, a11, a12, a13)) :
    wpX_splitTree post (fc, we, lo, hi, ex, a1, a2, a3, a4, a5, a6, a7, a8, a9, a10, a11, a12, a13) (nI (jt_rt t)) x := by
  have hq := h
  obtain ⟨h1, h2, h3, h4, h5, h6, h7, h8⟩ := hq
  simp only [List.count_append] at h6
  refine jt_split h3 kt (fun j => by have := h6 j; omega) hs sd ?_
  intro L' R' C' W' X' tl th e k1 k2 i1 q1 q2 q3 q4 g z0
  have ct : ∀ j, List.count j (jt_io t) = List.count j (jt_io tl) + (List.count j (jt_op e) + List.count j (jt_io th)) := fun j => by rw [i1, List.count_append, List.count_append]
  refine H L' R' C' W' X' tl th e ?_ k1 k2 i1 q1 q2 q3 q4 (fun t2 k ht => jt_ok_ag k g (fun j => by have := h6 j; have := ht j; omega))
  have m := jt_C_mod (fs' := fs) (E' := jt_io tl ++ (jt_op e ++ (jt_io th ++ E))) h g (K' := a3) (fun _ _ => rfl) (fun j hj => by rw [List.count_append]; omega) (fun j => by have := ct j; simp only [List.count_append]; omega) h2 z0
  rw [← h1] at m
  exact m
theorem jt_X_rel1 {post : St2 → Prop} {M : Nat → List Int} {T : Nat → jt_T} {fs E : List Nat} {sk e : Nat} (h : jt_C M T fs (jt_op e ++ E) sk fc a1 a2 a3 a4 a5 a6) (he : e < 256)
    (H : ∀ fs' FN', jt_C M T fs' E sk (nI fs'.length) a1 a2 a3 a4 a5 FN' → post (nI fs'.length, we, lo, hi, ex, a1, a2, a3, a4, a5, FN', a7, a8, a9, a10, a11, a12, a13)) : wpX_release post (fc, we, lo, hi, ex, a1, a2, a3, a4, a5, a6, a7, a8, a9, a10, a11, a12, a13) (nI e) := by
  have hq := h
  obtain ⟨h1, h2, h3, h4, h5, h6, h7, h8⟩ := hq
  rw [h1]
  refine jt_rel he (by omega) h2 (fun FN' fs' e1 f1 => H fs' FN' ?_)
  exact jt_C_mod (ns := []) h (jt_ag_refl _ _ _ _) (fun _ _ => rfl) (fun j hj => absurd hj (by rw [List.count_nil]; omega)) (fun j => by rw [e1]; simp only [List.count_append]; omega) f1 h3
theorem jt_X_join {post : Int32 → St2 → Prop} {M : Nat → List Int} {T : Nat → jt_T} {fs E : List Nat} {sk m : Nat} {ta tb : jt_T} (h : jt_C M T fs (jt_io ta ++ (m :: (jt_io tb ++ E))) sk fc a1 a2 a3 a4 a5 a6) (hw : we = nI 0) (ka : jt_ok a1 a2 a4 ta) (kb : jt_ok a1 a2 a4 tb) (hs : (jt_io ta).length + (jt_io tb).length ≤ 60)
    (H : ∀ t' L' R' C' W' X', jt_C M T fs (jt_io t' ++ E) sk fc L' R' a3 C' a5 a6 → jt_ok L' R' C' t' → jt_io t' = jt_io ta ++ m :: jt_io tb → (∀ t2, jt_ok a1 a2 a4 t2 → (∀ j, List.count j (jt_io t2) ≤ List.count j E) → jt_ok L' R' C' t2) → post (nI (jt_rt t')) (fc, nI 0, lo, hi, ex, L', R', a3, C', a5, a6, W', X', a9, a10, a11, a12, a13)) :
    wpX_join post (fc, we, lo, hi, ex, a1, a2, a3, a4, a5, a6, a7, a8, a9, a10, a11, a12, a13) (nI (jt_rt ta)) (nI m) (nI (jt_rt tb)) := by
  have hq := h
  obtain ⟨h1, h2, h3, h4, h5, h6, h7, h8⟩ := hq
  have hm := h7 m (by simp only [List.count_append, jt_cc, jt_cb, jt_cf, List.count_nil, jt_c1, Nat.add_zero]; omega)
  simp only [List.count_append, jt_cc, jt_cb, jt_cf, List.count_nil, jt_c1, Nat.add_zero] at h6
  rw [hw]
  refine jt_join (b := 0) hm h3 ka kb (fun j => by have := h6 j; simp only [List.count_append, jt_cc, jt_cb, jt_cf, List.count_nil, jt_c1, Nat.add_zero]; omega) (by simp only [List.length_append, List.length_cons]; omega) ?_
  intro L' R' C' W' X' t' hto _
  refine H t' L' R' C' W' X' ?_ hto.1 hto.2.1 (fun t2 k ht => jt_ok_ag k hto.2.2 (fun j => by have := h6 j; have := ht j; simp only [List.count_append, jt_cc, jt_cb, jt_cf, List.count_nil, jt_c1, Nat.add_zero]; omega))
  have mm := jt_C_mod (fs' := fs) (E' := jt_io t' ++ E) h hto.2.2 (K' := a3) (fun _ _ => rfl) (fun j hj => by simp only [List.count_append, jt_cc, jt_cb, jt_cf, List.count_nil, jt_c1, Nat.add_zero] at hj ⊢; omega) (fun j => by rw [hto.2.1]; simp only [List.count_append, jt_cc, jt_cb, jt_cf, List.count_nil, jt_c1, Nat.add_zero]; omega) h2 (jt_to_0 hto h3)
  rw [← h1] at mm
  exact mm
theorem jt_X_joinTwo {post : Int32 → St2 → Prop} {M : Nat → List Int} {T : Nat → jt_T} {fs E : List Nat} {sk : Nat} {ta tb : jt_T} (h : jt_C M T fs (jt_io ta ++ (jt_io tb ++ E)) sk fc a1 a2 a3 a4 a5 a6) (hw : we = nI 0) (ka : jt_ok a1 a2 a4 ta) (kb : jt_ok a1 a2 a4 tb) (hs : (jt_io ta).length + (jt_io tb).length ≤ 60) (sa : jt_sd a3 (jt_io ta))
    (H : ∀ t' L' R' C' W' X' lo' hi' ex', jt_C M T fs (jt_io t' ++ E) sk fc L' R' a3 C' a5 a6 → jt_ok L' R' C' t' → jt_io t' = jt_io ta ++ jt_io tb → post (nI (jt_rt t')) (fc, nI 0, lo', hi', ex', L', R', a3, C', a5, a6, W', X', a9, a10, a11, a12, a13)) :
    wpX_joinTwo post (fc, we, lo, hi, ex, a1, a2, a3, a4, a5, a6, a7, a8, a9, a10, a11, a12, a13) (nI (jt_rt ta)) (nI (jt_rt tb)) := by
  have hq := h
  obtain ⟨h1, h2, h3, h4, h5, h6, h7, h8⟩ := hq
  simp only [List.count_append, jt_cc, jt_cb, jt_cf, List.count_nil, jt_c1, Nat.add_zero] at h6
  refine jt_joinTwo h3 ka kb (fun j => by have := h6 j; simp only [List.count_append, jt_cc, jt_cb, jt_cf, List.count_nil, jt_c1, Nat.add_zero]; omega) (by simp only [List.length_append]; omega) sa hw ?_
  intro L' R' C' W' X' lo' hi' ex' t' hto
  refine H t' L' R' C' W' X' lo' hi' ex' ?_ hto.1 hto.2.1
  have mm := jt_C_mod (fs' := fs) (E' := jt_io t' ++ E) h hto.2.2 (K' := a3) (fun _ _ => rfl) (fun j hj => by simp only [List.count_append, jt_cc, jt_cb, jt_cf, List.count_nil, jt_c1, Nat.add_zero] at hj ⊢; omega) (fun j => by rw [hto.2.1]; simp only [List.count_append, jt_cc, jt_cb, jt_cf, List.count_nil, jt_c1, Nat.add_zero]; omega) h2 (jt_to_0 hto h3)
  rw [← h1] at mm
  exact mm
end
end
section
theorem jt_ks_m {K : Nat → Int32} {t : jt_T} {m : List Int} (e : (jt_io t).map (jt_kv K) = m) (z : Int) : jt_ks K t z ↔ z ∈ m := by rw [jt_ks_iff, e]
theorem jt_sd_m {K : Nat → Int32} {t : jt_T} {m : List Int} (e : (jt_io t).map (jt_kv K) = m) (h : List.Pairwise (fun a b => a < b) m) : jt_sd K (jt_io t) := by rw [jt_sd_iff, e]; exact h
theorem jt_len_m {K : Nat → Int32} {t : jt_T} {m : List Int} (e : (jt_io t).map (jt_kv K) = m) : (jt_io t).length = m.length := by rw [← e, List.length_map]
theorem jt_within {post : Int32 → St2 → Prop} {M : Nat → List Int} {u : St2} {a b : Nat} (hI : jt_I M u) (ha : a < 4) (hb : b < 4) (H1 : (∀ z, z ∈ M a → z ∈ M b) → ∀ u', jt_I M u' → post 1 u') (H0 : ¬ (∀ z, z ∈ M a → z ∈ M b) → ∀ u', jt_I M u' → post 0 u') : wpX_within post u (nI a) (nI b) := by
  obtain ⟨fc, we, lo, hi, ex, a1, a2, a3, a4, a5, a6, a7, a8, a9, a10, a11, a12, a13⟩ := u
  obtain ⟨T, fs, h⟩ := hI
  have room := jt_C_lv h
  rw [List.length_nil] at room
  have sA := h.2.2.2.1 a ha (by omega)
  have sB := h.2.2.2.1 b hb (by omega)
  unfold wpX_within
  dsimp only
  refine jt_isSet ha (br_f (by decide) (jt_isSet hb (br_f (by decide) ⟨pk_in a 4 ha, ?_⟩)))
  rw [nI_clamp (show a < 2 ^ 31 by omega)]
  refine jt_X_copy h ha (by omega) (by omega) ?_
  intro t1 fs1 we1 L1 R1 K1 C1 W1 X1 h1 k1 m1 p1 len1
  have hl1 := sA.2.2.2.2
  have hl2 := sB.2.2.2.2
  dsimp only
  rw [nI_clamp (show b < 2 ^ 31 by omega)]
  refine ⟨pk_in b 4 hb, ?_⟩
  refine jt_X_copy h1 hb (by omega) (by omega) ?_
  intro t2 fs2 we2 L2 R2 K2 C2 W2 X2 h2 k2 m2 p2 len2
  dsimp only
  obtain ⟨k12, m12⟩ := p2 t1 k1 (fun j => by rw [List.count_append]; omega)
  rw [m1] at m12
  have e1 := jt_len_m m12
  have e2 := jt_len_m m2
  refine jt_X_comb (how := 2) (ta := t1) (tb := t2) (E := []) (by decide) (jt_C_E h2 (fun j => by simp only [List.count_append, List.count_nil]; omega)) k12 k2 (jt_sd_m m12 sA.2.2.2.1) (jt_sd_m m2 sB.2.2.2.1) (by omega) (by omega) ?_
  intro t3 fs3 we3 lo3 hi3 ex3 L3 R3 C3 FN3 W3 X3 b9 b10 b11 b12 b13 h3 k3 s3 ks3 l3 fl3 p3
  dsimp only
  refine pk_eq (jt_rt t3) 0 (fun z => ?_) (fun z => ?_) (ha := by have := jt_rt_lt k3; omega)
  · unfold wX_within_61
    refine jt_X_rel h3 k3 (by omega) (fun fs4 FN4 W4 X4 h4 => ⟨narrow_b1, H1 ?_ _ ⟨T, fs4, h4⟩⟩)
    intro y hy
    by_cases hyb : y ∈ M b
    · exact hyb
    · refine absurd ((ks3 y).mpr (Or.inr (Or.inr ⟨rfl, (jt_ks_m m12 y).mpr hy, fun q => hyb ((jt_ks_m m2 y).mp q)⟩))) (jt_ks_nil (jt_rt_0 k3 z) y)
  · unfold wX_within_61
    refine jt_X_rel h3 k3 (by omega) (fun fs4 FN4 W4 X4 h4 => ⟨narrow_b0, H0 ?_ _ ⟨T, fs4, h4⟩⟩)
    intro hall
    obtain ⟨n, l, r, rfl⟩ := jt_rt_n z
    have hk : jt_ks K2 (.branch n l r) (jt_kv K2 n) := jt_ks_b.mpr (Or.inr (Or.inl rfl))
    rcases (ks3 _).mp hk with ⟨q, _⟩ | ⟨q, _⟩ | ⟨_, q1, q2⟩
    · exact absurd q (by decide)
    · exact absurd q (by decide)
    · exact q2 ((jt_ks_m m2 _).mpr (hall _ ((jt_ks_m m12 _).mp q1)))
theorem jt_same {post : Int32 → St2 → Prop} {M : Nat → List Int} {u : St2} {a b : Nat} (hI : jt_I M u) (ha : a < 4) (hb : b < 4) (H1 : (∀ z, z ∈ M a ↔ z ∈ M b) → ∀ u', jt_I M u' → post 1 u') (H0 : ¬ (∀ z, z ∈ M a ↔ z ∈ M b) → ∀ u', jt_I M u' → post 0 u') : wpX_same post u (nI a) (nI b) := by
  obtain ⟨fc, we, lo, hi, ex, a1, a2, a3, a4, a5, a6, a7, a8, a9, a10, a11, a12, a13⟩ := u
  unfold wpX_same
  dsimp only
  refine jt_within hI ha hb (fun hs u' hu => ?_) (fun hs u' hu => ?_)
  · obtain ⟨fc, we, lo, hi, ex, a1, a2, a3, a4, a5, a6, a7, a8, a9, a10, a11, a12, a13⟩ := u'
    refine br_f (by decide) (jt_within hu hb ha (fun hs2 u'' hu2 => ?_) (fun hs2 u'' hu2 => ?_))
    · obtain ⟨fc, we, lo, hi, ex, a1, a2, a3, a4, a5, a6, a7, a8, a9, a10, a11, a12, a13⟩ := u''
      exact br_f (by decide) (H1 (fun z => ⟨hs z, hs2 z⟩) _ hu2)
    · obtain ⟨fc, we, lo, hi, ex, a1, a2, a3, a4, a5, a6, a7, a8, a9, a10, a11, a12, a13⟩ := u''
      exact br_t rfl (H0 (fun q => hs2 (fun z hz => (q z).mpr hz)) _ hu2)
  · obtain ⟨fc, we, lo, hi, ex, a1, a2, a3, a4, a5, a6, a7, a8, a9, a10, a11, a12, a13⟩ := u'
    exact br_t rfl (H0 (fun q => hs (fun z hz => (q z).mp hz)) _ hu)
def jt_c4 (how : Nat) (p q : Prop) : Prop := jt_cn how p q ∨ (how = 3 ∧ ((p ∧ ¬ q) ∨ (q ∧ ¬ p)))
section
variable {fc we lo hi ex : Int32} {a1 a2 a3 a4 a5 a6 a7 a8 a9 a10 a11 a12 a13 : Nat → Int32}
theorem jt_either {post : Int32 → St2 → Prop} {M : Nat → List Int} {T : Nat → jt_T} {fs : List Nat} {a b : Nat} {t1 t2 : jt_T} (ha : a < 4) (hb : b < 4) (h : jt_C M T fs (jt_io t1 ++ (jt_io t2 ++ [])) 4 fc a1 a2 a3 a4 a5 a6) (k1 : jt_ok a1 a2 a4 t1) (k2 : jt_ok a1 a2 a4 t2) (m1 : (jt_io t1).map (jt_kv a3) = M a) (m2 : (jt_io t2).map (jt_kv a3) = M b)
    (H : ∀ t' fs' we' lo' hi' ex' L' R' K' C' FN' W' X' b9 b10 b11 b12 b13, jt_C M T fs' (jt_io t' ++ []) 4 (nI fs'.length) L' R' K' C' a5 FN' → jt_ok L' R' C' t' → jt_sd K' (jt_io t') → (∀ z, jt_ks K' t' z ↔ ((z ∈ M a ∧ ¬ z ∈ M b) ∨ (z ∈ M b ∧ ¬ z ∈ M a))) → (jt_io t').length ≤ 50 →
      post (nI (jt_rt t')) (nI fs'.length, we', lo', hi', ex', L', R', K', C', a5, FN', W', X', b9, b10, b11, b12, b13)) :
    wpX_combinedEither post (fc, we, lo, hi, ex, a1, a2, a3, a4, a5, a6, a7, a8, a9, a10, a11, a12, a13) (nI a) (nI b) (nI (jt_rt t1)) (nI (jt_rt t2)) := by
  have room := jt_C_lv h
  have sA := h.2.2.2.1 a ha (by omega)
  have sB := h.2.2.2.1 b hb (by omega)
  have hl1 := sA.2.2.2.2
  have hl2 := sB.2.2.2.2
  have e1 := jt_len_m m1
  have e2 := jt_len_m m2
  simp only [List.length_append, List.length_nil] at room
  unfold wpX_combinedEither
  dsimp only
  refine jt_X_comb (how := 2) (ta := t1) (tb := t2) (E := []) (by decide) h k1 k2 (jt_sd_m m1 sA.2.2.2.1) (jt_sd_m m2 sB.2.2.2.1) (by omega) (by omega) ?_
  intro t3 fs3 we3 lo3 hi3 ex3 L3 R3 C3 FN3 W3 X3 b9 b10 b11 b12 b13 h3 k3 s3 ks3 l3 fl3 p3
  dsimp only
  rw [nI_clamp (show a < 2 ^ 31 by omega)]
  refine ⟨pk_in a 4 ha, ?_⟩
  refine jt_X_copy h3 ha (by omega) (by omega) ?_
  intro t4 fs4 we4 L4 R4 K4 C4 W4 X4 h4 k4 m4 p4 len4
  dsimp only
  rw [nI_clamp (show b < 2 ^ 31 by omega)]
  refine ⟨pk_in b 4 hb, ?_⟩
  refine jt_X_copy h4 hb (by omega) (by omega) ?_
  intro t5 fs5 we5 L5 R5 K5 C5 W5 X5 h5 k5 m5 p5 len5
  dsimp only
  obtain ⟨k34, m34⟩ := p4 t3 k3 (fun j => by rw [List.count_append]; omega)
  obtain ⟨k35, m35⟩ := p5 t3 k34 (fun j => by simp only [List.count_append]; omega)
  obtain ⟨k45, m45⟩ := p5 t4 k4 (fun j => by simp only [List.count_append]; omega)
  rw [m4] at m45
  have e4 := jt_len_m m45
  have e5 := jt_len_m m5
  have m3' : (jt_io t3).map (jt_kv K5) = (jt_io t3).map (jt_kv a3) := m35.trans m34
  have s35 : jt_sd K5 (jt_io t3) := by rw [jt_sd_iff, m3', ← jt_sd_iff]; exact s3
  refine jt_X_comb (how := 2) (ta := t5) (tb := t4) (E := jt_io t3 ++ []) (by decide) h5 k5 k45 (jt_sd_m m5 sB.2.2.2.1) (jt_sd_m m45 sA.2.2.2.1) (by omega) (by omega) ?_
  intro t6 fs6 we6 lo6 hi6 ex6 L6 R6 C6 FN6 W6 X6 c9 c10 c11 c12 c13 h6 k6 s6 ks6 l6 fl6 p6
  dsimp only
  have k36 := p6 t3 k35 (fun j => by rw [List.count_append]; omega)
  refine jt_X_comb (how := 0) (ta := t3) (tb := t6) (E := []) (by decide) (jt_C_E h6 (fun j => by simp only [List.count_append]; omega)) k36 k6 s35 s6 (by omega) (by omega) ?_
  intro t7 fs7 we7 lo7 hi7 ex7 L7 R7 C7 FN7 W7 X7 d9 d10 d11 d12 d13 h7 k7 s7 ks7 l7 fl7 p7
  refine H t7 fs7 we7 lo7 hi7 ex7 L7 R7 K5 C7 FN7 W7 X7 d9 d10 d11 d12 d13 h7 k7 s7 (fun z => ?_) (by omega)
  have q1 := jt_ks_m m1 z
  have q2 := jt_ks_m m2 z
  have q5 := jt_ks_m m5 z
  have q4 := jt_ks_m m45 z
  have q3 : jt_ks K5 t3 z ↔ jt_ks a3 t3 z := by rw [jt_ks_iff, m3', ← jt_ks_iff]
  rw [ks7 z, q3, ks3 z, ks6 z, q1, q2, q5, q4]
  unfold jt_cn
  constructor
  · rintro (⟨_, q | q⟩ | ⟨q, _⟩ | ⟨q, _⟩)
    · rcases q with ⟨q, _⟩ | ⟨q, _⟩ | ⟨_, q⟩
      · exact absurd q (by decide)
      · exact absurd q (by decide)
      · exact Or.inl q
    · rcases q with ⟨q, _⟩ | ⟨q, _⟩ | ⟨_, q⟩
      · exact absurd q (by decide)
      · exact absurd q (by decide)
      · exact Or.inr q
    · exact absurd q (by decide)
    · exact absurd q (by decide)
  · rintro (q | q)
    · exact Or.inl ⟨rfl, Or.inl (Or.inr (Or.inr ⟨rfl, q⟩))⟩
    · exact Or.inl ⟨rfl, Or.inr (Or.inr (Or.inr ⟨rfl, q⟩))⟩
theorem jt_cmb89 {post : Int32 → St2 → Prop} {M : Nat → List Int} {T : Nat → jt_T} {fs : List Nat} {d : Nat} {t : jt_T} {X : List Int} (hd : d < 4) (h : jt_C M T fs (jt_io t ++ []) 4 fc a1 a2 a3 a4 a5 a6) (kt : jt_ok a1 a2 a4 t) (em : (jt_io t).map (jt_kv a3) = X) (hX : List.Pairwise (fun a b => a < b) X) (hl : X.length ≤ 8)
    (H : ∀ u', jt_I (jt_tu M d X) u' → post (nI X.length) u') : wX_combine_89 post (nI d) (nI (jt_rt t)) fc we lo hi ex a1 a2 a3 a4 a5 a6 a7 a8 a9 a10 a11 a12 a13 := by
  have sD := h.2.2.2.1 d hd (by omega)
  have eD := jt_len_m sD.2.2.1
  have e1 := jt_len_m em
  have hd5 := sD.2.2.2.2
  unfold wX_combine_89
  rw [jt_cl (jt_rt_lt kt), jt_cnt kt h.2.2.1, nI_clamp (show d < 2 ^ 31 by omega), sD.1]
  refine ⟨pk_in (jt_rt t) 256 (jt_rt_lt kt), pk_le (jt_io t).length 20 (fun _ => ⟨pk_in d 4 hd, ?_⟩) (fun z => absurd z (by omega))⟩
  refine jt_X_rel (t := T d) (jt_C_out h hd) sD.2.1 (by omega) (fun fs' FN' W' X' h' => ?_)
  dsimp only
  rw [jt_s16 _ (jt_rt_lt kt), jt_cnt kt h.2.2.1, e1]
  exact ⟨pk_in d 4 hd, nm_e ⟨pk_in (jt_rt t) 256 (jt_rt_lt kt), H _ ⟨_, fs', jt_C_in h' hd kt em hX hl⟩⟩⟩
end
theorem jt_combine {post : Int32 → St2 → Prop} {M : Nat → List Int} {u : St2} {how d a b : Nat} {X : List Int} (hI : jt_I M u) (hh : how < 4) (hd : d < 4) (ha : a < 4) (hb : b < 4) (hX : List.Pairwise (fun a b => a < b) X) (hl : X.length ≤ 8) (hm : ∀ z, z ∈ X ↔ jt_c4 how (z ∈ M a) (z ∈ M b))
    (H : ∀ u', jt_I (jt_tu M d X) u' → post (nI X.length) u') : wpX_combine post u (nI how) (nI d) (nI a) (nI b) := by
  obtain ⟨fc, we, lo, hi, ex, a1, a2, a3, a4, a5, a6, a7, a8, a9, a10, a11, a12, a13⟩ := u
  obtain ⟨T, fs, h⟩ := hI
  have room := jt_C_lv h
  rw [List.length_nil] at room
  have sA := h.2.2.2.1 a ha (by omega)
  have sB := h.2.2.2.1 b hb (by omega)
  unfold wpX_combine
  dsimp only
  refine pk_lt how 0 (fun z => absurd z (by omega)) (fun _ => pk_lt 3 how (fun z => absurd z (by omega)) (fun _ => ?_))
  refine jt_isSet hd (br_f (by decide) (jt_isSet ha (br_f (by decide) (jt_isSet hb (br_f (by decide) ⟨pk_in a 4 ha, ?_⟩)))))
  rw [nI_clamp (show a < 2 ^ 31 by omega)]
  refine jt_X_copy h ha (by omega) (by omega) ?_
  intro t1 fs1 we1 L1 R1 K1 C1 W1 X1 h1 k1 m1 p1 len1
  have hl1 := sA.2.2.2.2
  have hl2 := sB.2.2.2.2
  dsimp only
  rw [nI_clamp (show b < 2 ^ 31 by omega)]
  refine ⟨pk_in b 4 hb, ?_⟩
  refine jt_X_copy h1 hb (by omega) (by omega) ?_
  intro t2 fs2 we2 L2 R2 K2 C2 W2 X2 h2 k2 m2 p2 len2
  dsimp only
  obtain ⟨k12, m12⟩ := p2 t1 k1 (fun j => by rw [List.count_append]; omega)
  rw [m1] at m12
  have e1 := jt_len_m m12
  have e2 := jt_len_m m2
  have h2' : jt_C M T fs2 (jt_io t1 ++ (jt_io t2 ++ [])) 4 (nI fs2.length) L2 R2 K2 C2 a5 a6 := jt_C_E h2 (fun j => by simp only [List.count_append, List.count_nil]; omega)
  refine pk_eq how 3 (fun h3 => ?_) (fun h3 => ?_)
  · refine jt_either ha hb h2' k12 k2 m12 m2 ?_
    intro t' fs' we' lo' hi' ex' L' R' K' C' FN' W' X' b9 b10 b11 b12 b13 hc kt sd ks hlen
    refine jt_cmb89 hd hc kt ?_ hX hl H
    refine jt_uniq (jt_sd_iff.mp sd) hX (fun z => ?_)
    rw [← jt_ks_iff, ks z, hm z]
    unfold jt_c4 jt_cn
    constructor
    · exact fun q => Or.inr ⟨h3, q⟩
    · rintro ((⟨q, _⟩ | ⟨q, _⟩ | ⟨q, _⟩) | ⟨_, q⟩)
      · omega
      · omega
      · omega
      · exact q
  · refine jt_X_comb (how := how) (ta := t1) (tb := t2) (E := []) (by omega) h2' k12 k2 (jt_sd_m m12 sA.2.2.2.1) (jt_sd_m m2 sB.2.2.2.1) (by omega) (by omega) ?_
    intro t' fs' we' lo' hi' ex' L' R' C' FN' W' X' b9 b10 b11 b12 b13 hc kt sd ks l3 fl3 p3
    refine jt_cmb89 hd hc kt ?_ hX hl H
    refine jt_uniq (jt_sd_iff.mp sd) hX (fun z => ?_)
    rw [← jt_ks_iff, ks z, hm z, jt_ks_m m12 z, jt_ks_m m2 z]
    unfold jt_c4
    constructor
    · exact fun q => Or.inl q
    · rintro (q | ⟨q, _⟩)
      · exact q
      · omega
end
section
theorem jt_mem_l {K : Nat → Int32} {l : List Nat} {z : Int} : z ∈ l.map (jt_kv K) ↔ ∃ n, n ∈ l ∧ jt_kv K n = z := List.mem_map
/-- the three parts of a sorted row of keys that is cut at x -/
theorem jt_cut {K : Nat → Int32} {l r : List Nat} {e : Nat} {x : Int32} {m : List Int} (em : (l ++ (jt_op e ++ r)).map (jt_kv K) = m) (hm : List.Pairwise (fun a b => a < b) m) (q1 : ∀ n, n ∈ l → jt_kv K n < x.toInt) (q2 : ∀ n, n ∈ r → x.toInt < jt_kv K n) (q4 : e ≠ 0 → K e = x) :
    List.Pairwise (fun a b => a < b) (l.map (jt_kv K)) ∧ List.Pairwise (fun a b => a < b) (r.map (jt_kv K)) ∧ (∀ z, z ∈ l.map (jt_kv K) ↔ z ∈ m ∧ z < x.toInt) ∧ (∀ z, z ∈ r.map (jt_kv K) ↔ z ∈ m ∧ x.toInt < z) ∧ (e ≠ 0 ↔ x.toInt ∈ m) := by
  have key : ∀ n, n ∈ jt_op e → jt_kv K n = x.toInt ∧ e ≠ 0 := by
    intro n hn
    by_cases he : e = 0
    · rw [he, jt_op_0] at hn; exact absurd hn List.not_mem_nil
    · rw [jt_op_n he] at hn
      rw [List.mem_singleton.mp hn]
      exact ⟨congrArg Int32.toInt (q4 he), he⟩
  rw [← em] at hm ⊢
  simp only [List.map_append] at hm ⊢
  rw [List.pairwise_append, List.pairwise_append] at hm
  refine ⟨hm.1, hm.2.1.2.1, fun z => ?_, fun z => ?_, ?_⟩
  · simp only [List.mem_append]
    constructor
    · intro h
      obtain ⟨n, hn, en⟩ := jt_mem_l.mp h
      exact ⟨Or.inl h, by rw [← en]; exact q1 n hn⟩
    · rintro ⟨h | h | h, hz⟩
      · exact h
      · obtain ⟨n, hn, en⟩ := jt_mem_l.mp h
        have := (key n hn).1
        omega
      · obtain ⟨n, hn, en⟩ := jt_mem_l.mp h
        have := q2 n hn
        omega
  · simp only [List.mem_append]
    constructor
    · intro h
      obtain ⟨n, hn, en⟩ := jt_mem_l.mp h
      exact ⟨Or.inr (Or.inr h), by rw [← en]; exact q2 n hn⟩
    · rintro ⟨h | h | h, hz⟩
      · obtain ⟨n, hn, en⟩ := jt_mem_l.mp h
        have := q1 n hn
        omega
      · obtain ⟨n, hn, en⟩ := jt_mem_l.mp h
        have := (key n hn).1
        omega
      · exact h
  · simp only [List.mem_append]
    constructor
    · intro he
      exact Or.inr (Or.inl (jt_mem_l.mpr ⟨e, by rw [jt_op_n he]; exact List.mem_singleton.mpr rfl, congrArg Int32.toInt (q4 he)⟩))
    · rintro (h | h | h)
      · obtain ⟨n, hn, en⟩ := jt_mem_l.mp h
        have := q1 n hn
        omega
      · obtain ⟨n, hn, en⟩ := jt_mem_l.mp h
        exact (key n hn).2
      · obtain ⟨n, hn, en⟩ := jt_mem_l.mp h
        have := q2 n hn
        omega
theorem jt_add {post : Int32 → St2 → Prop} {M : Nat → List Int} {u : St2} {s : Nat} {x : Int32} {X : List Int} (hI : jt_I M u) (hs : s < 4) (hx : x.toInt ∉ M s) (hX : List.Pairwise (fun a b => a < b) X) (hl : X.length ≤ 8) (hm : ∀ z, z ∈ X ↔ (z ∈ M s ∨ z = x.toInt))
    (H : ∀ u', jt_I (jt_tu M s X) u' → post 1 u') : wpX_add post u (nI s) x := by
  obtain ⟨fc, we, lo, hi, ex, a1, a2, a3, a4, a5, a6, a7, a8, a9, a10, a11, a12, a13⟩ := u
  have hI' := hI
  obtain ⟨T, fs, h⟩ := hI'
  have sS := h.2.2.2.1 s hs (by omega)
  obtain ⟨q1, q2, q3, q4, q5⟩ := sS
  have len := jt_len_m q3
  have ho := jt_C_out h hs
  have room := jt_C_lv ho
  simp only [List.length_append, List.length_nil] at room
  unfold wpX_add
  dsimp only
  refine jt_isSet hs (br_f (by decide) (jt_has hI hs (fun z => absurd z hx) (fun _ => br_t rfl ⟨pk_in s 4 hs, ?_⟩)))
  rw [nI_clamp (show s < 2 ^ 31 by omega), q1, jt_cl (jt_rt_lt q2), jt_cnt q2 h.2.2.1]
  refine ⟨pk_in (jt_rt (T s)) 256 (jt_rt_lt q2), pk_lt (jt_io (T s)).length 20 (fun _ => ⟨pk_in s 4 hs, ?_⟩) (fun z => absurd z (by omega))⟩
  refine jt_X_split (t := T s) ho q2 (by omega) (jt_sd_m q3 q4) ?_
  intro L1 R1 C1 W1 X1 tl th e h1 k1 k2 i1 r1 r2 r3 r4 p1
  have em : (jt_io tl ++ (jt_op e ++ jt_io th)).map (jt_kv a3) = M s := by rw [← i1]; exact q3
  obtain ⟨c1, c2, c3, c4, c5⟩ := jt_cut em q4 r1 r2 r4
  have he : e = 0 := by
    by_cases z : e = 0
    · exact z
    · exact absurd (c5.mp z) hx
  rw [he, jt_op_0] at h1 em i1
  have li := congrArg List.length i1
  simp only [List.length_append, List.length_nil] at li
  dsimp only
  cases fs with
  | nil => rw [List.length_nil] at room; omega
  | cons c fs' =>
    have hq := h1
    obtain ⟨g1, g2, g3, g4, g5, g6, g7, g8⟩ := hq
    have hc := g7 c (by simp only [List.count_append, jt_cc, jt_cb, jt_cf, List.count_nil, jt_c1, Nat.add_zero]; omega)
    have hc0 : c ≠ 0 := by omega
    have g6c := g6 c
    simp only [List.count_append, jt_cc, jt_cb, jt_cf, List.count_nil, jt_c1, Nat.add_zero] at g6c
    have g1' : fc = nI (fs'.length + 1) := g1
    rw [g1']
    rw [List.length_cons] at g8
    refine jt_new (n := c) (f := fs'.length) hc.2 (by omega) g2.1 ?_
    dsimp only
    have h2 : jt_C M (jt_tu T s (.leaf ())) fs' (jt_io tl ++ (c :: (jt_io th ++ []))) s (nI fs'.length) (upd L1 c 0) (upd R1 c 0) (upd a3 c x) (upd C1 c 1) a5 a6 := by
      refine jt_C_mod (ns := [c]) h1 ?_ ?_ ?_ ?_ g2.2 ((pk_un (Ne.symm hc0)).trans g3)
      · intro j hj
        have hjc : j ≠ c := fun q => by rw [q, jt_one, jt_c1] at hj; omega
        exact ⟨pk_un hjc, pk_un hjc, pk_un hjc⟩
      · intro j hj
        exact pk_un (fun q => by rw [q, jt_one, jt_c1] at hj; omega)
      · intro j hj
        simp only [List.count_append, jt_cc, jt_cb, jt_cf, List.count_nil, jt_c1, Nat.add_zero] at hj ⊢; omega
      · intro j
        simp only [List.count_append, jt_cc, jt_cb, jt_cf, List.count_nil, jt_c1, Nat.add_zero]; omega
    have k1' : jt_ok (upd L1 c 0) (upd R1 c 0) (upd C1 c 1) tl := jt_okL (jt_okR (jt_okC k1 (by omega)) (by omega)) (by omega)
    have k2' : jt_ok (upd L1 c 0) (upd R1 c 0) (upd C1 c 1) th := jt_okL (jt_okR (jt_okC k2 (by omega)) (by omega)) (by omega)
    rw [jt_e_join_2]
    refine jt_X_join (ta := tl) (tb := th) (m := c) h2 rfl k1' k2' (by omega) ?_
    intro t' L' R' C' W' X' h3 k3 i3 p3
    dsimp only
    rw [jt_s16 _ (jt_rt_lt k3)]
    have ml : (jt_io tl).map (jt_kv (upd a3 c x)) = (jt_io tl).map (jt_kv a3) := jt_map_fr (fun j hj => pk_un (fun q => by rw [q] at hj; omega))
    have mr : (jt_io th).map (jt_kv (upd a3 c x)) = (jt_io th).map (jt_kv a3) := jt_map_fr (fun j hj => pk_un (fun q => by rw [q] at hj; omega))
    have mt : (jt_io t').map (jt_kv (upd a3 c x)) = (jt_io tl).map (jt_kv a3) ++ x.toInt :: (jt_io th).map (jt_kv a3) := by
      rw [i3, List.map_append, List.map_cons, ml, mr]
      unfold jt_kv
      rw [pk_us]
    have eX : (jt_io t').map (jt_kv (upd a3 c x)) = X := by
      rw [mt]
      refine jt_uniq ?_ hX (fun z => ?_)
      · refine List.pairwise_append.mpr ⟨c1, List.pairwise_cons.mpr ⟨fun y hy => ((c4 y).mp hy).2, c2⟩, fun y hy w hw => ?_⟩
        have hy' := ((c3 y).mp hy).2
        rcases List.mem_cons.mp hw with q | q
        · omega
        · have := ((c4 w).mp q).2
          omega
      · rw [hm z, List.mem_append, List.mem_cons, c3 z, c4 z]
        constructor
        · rintro (q | q | q)
          · exact Or.inl q.1
          · exact Or.inr q
          · exact Or.inl q.1
        · rintro (q | q)
          · have hne : z ≠ x.toInt := fun w => hx (by rw [← w]; exact q)
            rcases Int.lt_or_gt_of_ne hne with w | w
            · exact Or.inl ⟨q, w⟩
            · exact Or.inr (Or.inr ⟨q, w⟩)
          · exact Or.inr (Or.inl q)
    exact ⟨pk_in s 4 hs, nm_e (H _ ⟨_, fs', jt_C_in h3 hs k3 eX hX hl⟩)⟩
section
variable {fc we lo hi ex : Int32} {a1 a2 a3 a4 a5 a6 a7 a8 a9 a10 a11 a12 a13 : Nat → Int32}
theorem jt_spl61 {post : Int32 → St2 → Prop} {M : Nat → List Int} {T : Nat → jt_T} {fs : List Nat} {s d : Nat} {tl th : jt_T} {X1 X2 : List Int} (hs : s < 4) (hd : d < 4) (h : jt_C M T fs (jt_io tl ++ (jt_io th ++ [])) s fc a1 a2 a3 a4 a5 a6) (k1 : jt_ok a1 a2 a4 tl) (k2 : jt_ok a1 a2 a4 th)
    (e1 : (jt_io tl).map (jt_kv a3) = X1) (e2 : (jt_io th).map (jt_kv a3) = X2) (hX1 : List.Pairwise (fun a b => a < b) X1) (hX2 : List.Pairwise (fun a b => a < b) X2) (hl1 : X1.length ≤ 8) (hl2 : X2.length ≤ 8)
    (H : ∀ u', jt_I (jt_tu (jt_tu M s X1) d X2) u' → post (nI X2.length) u') : wX_split_61 post (nI s) (nI d) (nI (jt_rt tl)) (nI (jt_rt th)) fc we lo hi ex a1 a2 a3 a4 a5 a6 a7 a8 a9 a10 a11 a12 a13 := by
  have h1 := jt_C_in h hs k1 e1 hX1 hl1
  have sD := h1.2.2.2.1 d hd (by omega)
  have eD := jt_len_m sD.2.2.1
  have hd5 := sD.2.2.2.2
  have l2 := jt_len_m e2
  unfold wX_split_61
  rw [nI_clamp (show s < 2 ^ 31 by omega), nI_clamp (show d < 2 ^ 31 by omega), jt_s16 _ (jt_rt_lt k1), jt_s16 _ (jt_rt_lt k2), jt_cl (jt_rt_lt k2)]
  refine ⟨pk_in s 4 hs, nm_e ⟨pk_in d 4 hd, ?_⟩⟩
  rw [sD.1]
  refine jt_X_rel (t := jt_tu T s tl d) (jt_C_out h1 hd) sD.2.1 (by omega) (fun fs' FN' W' X' h' => ?_)
  dsimp only
  rw [jt_cnt k2 h.2.2.1, l2]
  exact ⟨pk_in d 4 hd, nm_e ⟨pk_in (jt_rt th) 256 (jt_rt_lt k2), H _ ⟨_, fs', jt_C_in h' hd k2 e2 hX2 hl2⟩⟩⟩
end
theorem jt_splitS {post : Int32 → St2 → Prop} {M : Nat → List Int} {u : St2} {s d : Nat} {x : Int32} {X1 X2 : List Int} (hI : jt_I M u) (hs : s < 4) (hd : d < 4) (hX1 : List.Pairwise (fun a b => a < b) X1) (hX2 : List.Pairwise (fun a b => a < b) X2) (hl1 : X1.length ≤ 8) (hl2 : X2.length ≤ 8)
    (hm1 : ∀ z, z ∈ X1 ↔ (z ∈ M s ∧ z < x.toInt)) (hm2 : ∀ z, z ∈ X2 ↔ (z ∈ M s ∧ x.toInt ≤ z))
    (H : ∀ u', jt_I (jt_tu (jt_tu M s X1) d X2) u' → post (nI X2.length) u') : wpX_split post u (nI s) x (nI d) := by
  obtain ⟨fc, we, lo, hi, ex, a1, a2, a3, a4, a5, a6, a7, a8, a9, a10, a11, a12, a13⟩ := u
  obtain ⟨T, fs, h⟩ := hI
  obtain ⟨q1, q2, q3, q4, q5⟩ := h.2.2.2.1 s hs (by omega)
  have len := jt_len_m q3
  have ho := jt_C_out h hs
  unfold wpX_split
  dsimp only
  refine jt_isSet hs (br_f (by decide) (jt_isSet hd (br_f (by decide) ⟨pk_in s 4 hs, ?_⟩)))
  rw [nI_clamp (show s < 2 ^ 31 by omega), q1]
  refine jt_X_split (t := T s) ho q2 (by omega) (jt_sd_m q3 q4) ?_
  intro L1 R1 C1 W1 X1' tl th e h1 k1 k2 i1 r1 r2 r3 r4 p1
  have em : (jt_io tl ++ (jt_op e ++ jt_io th)).map (jt_kv a3) = M s := by rw [← i1]; exact q3
  obtain ⟨c1, c2, c3, c4, c5⟩ := jt_cut em q4 r1 r2 r4
  have li := congrArg List.length i1
  simp only [List.length_append] at li
  have eX1 : (jt_io tl).map (jt_kv a3) = X1 := jt_uniq c1 hX1 (fun z => by rw [c3 z, hm1 z])
  dsimp only
  refine pk_eq e 0 (fun he => ?_) (fun he => ?_)
  · rw [he, jt_op_0] at h1
    have hx : x.toInt ∉ M s := fun z => absurd he (c5.mpr z)
    have eX2 : (jt_io th).map (jt_kv a3) = X2 := by
      refine jt_uniq c2 hX2 (fun z => ?_)
      rw [c4 z, hm2 z]
      constructor
      · exact fun q => ⟨q.1, by omega⟩
      · rintro ⟨q, w⟩
        have hne : z ≠ x.toInt := fun v => hx (by rw [← v]; exact q)
        exact ⟨q, by omega⟩
    exact jt_spl61 hs hd h1 k1 k2 eX1 eX2 hX1 hX2 hl1 hl2 H
  · have hx : x.toInt ∈ M s := c5.mp he
    have h1' : jt_C M (jt_tu T s (.leaf ())) fs (jt_io (.leaf ()) ++ (e :: (jt_io th ++ (jt_io tl ++ [])))) s fc L1 R1 a3 C1 a5 a6 := jt_C_E h1 (fun j => by rw [jt_op_n he]; simp only [List.count_append, jt_cc, jt_cb, jt_cf, List.count_nil, jt_c1, Nat.add_zero]; omega)
    refine jt_X_join (ta := .leaf ()) (tb := th) (m := e) h1' rfl trivial k2 (by show 0 + _ ≤ 60; omega) ?_
    intro t' L' R' C' W' X' h3 k3 i3 p3
    have kl' := p3 tl k1 (fun j => by rw [List.count_append]; omega)
    have i3' : jt_io t' = e :: jt_io th := i3
    have eX2 : (jt_io t').map (jt_kv a3) = X2 := by
      have hk : jt_kv a3 e = x.toInt := congrArg Int32.toInt (r4 he)
      rw [i3', List.map_cons, hk]
      refine jt_uniq (List.pairwise_cons.mpr ⟨fun y hy => ((c4 y).mp hy).2, c2⟩) hX2 (fun z => ?_)
      rw [List.mem_cons, c4 z, hm2 z]
      constructor
      · rintro (q | q)
        · exact ⟨by rw [q]; exact hx, by omega⟩
        · exact ⟨q.1, by omega⟩
      · rintro ⟨q, w⟩
        by_cases hz : z = x.toInt
        · exact Or.inl hz
        · exact Or.inr ⟨q, by omega⟩
    exact jt_spl61 hs hd (jt_C_E h3 (fun j => by simp only [List.count_append, List.count_nil]; omega)) kl' k3 eX1 eX2 hX1 hX2 hl1 hl2 H
theorem jt_rr0 {post : Int32 → St2 → Prop} {u : St2} {s : Nat} {x y : Int32} (hs : s < 4) (hxy : ¬ x ≤ y) (H : post 0 u) : wpX_removeRange post u (nI s) x y := by
  obtain ⟨fc, we, lo, hi, ex, a1, a2, a3, a4, a5, a6, a7, a8, a9, a10, a11, a12, a13⟩ := u
  unfold wpX_removeRange
  dsimp only
  exact jt_isSet hs (br_f (by decide) (br_f hxy H))
theorem jt_rr1 {post : Int32 → St2 → Prop} {M : Nat → List Int} {u : St2} {s : Nat} {x y : Int32} {X : List Int} (hI : jt_I M u) (hs : s < 4) (hxy : x ≤ y) (hX : List.Pairwise (fun a b => a < b) X) (hl : X.length ≤ 8) (hm : ∀ z, z ∈ X ↔ (z ∈ M s ∧ (z < x.toInt ∨ y.toInt < z))) (hle : X.length ≤ (M s).length)
    (H : ∀ u', jt_I (jt_tu M s X) u' → post (nI ((M s).length - X.length)) u') : wpX_removeRange post u (nI s) x y := by
  obtain ⟨fc, we, lo, hi, ex, a1, a2, a3, a4, a5, a6, a7, a8, a9, a10, a11, a12, a13⟩ := u
  obtain ⟨T, fs, h⟩ := hI
  obtain ⟨q1, q2, q3, q4, q5⟩ := h.2.2.2.1 s hs (by omega)
  have len := jt_len_m q3
  have ho := jt_C_out h hs
  have hxy' := jt_le_i.mp hxy
  unfold wpX_removeRange
  dsimp only
  refine jt_isSet hs (br_f (by decide) (br_t hxy ⟨pk_in s 4 hs, ?_⟩))
  rw [nI_clamp (show s < 2 ^ 31 by omega), q1, jt_cl (jt_rt_lt q2), jt_cnt q2 h.2.2.1, len]
  refine ⟨pk_in (jt_rt (T s)) 256 (jt_rt_lt q2), nm_e ⟨pk_in s 4 hs, ?_⟩⟩
  refine jt_X_split (t := T s) ho q2 (by omega) (jt_sd_m q3 q4) ?_
  intro L1 R1 C1 W1 X1 tl th e h1 k1 k2 i1 r1 r2 r3 r4 p1
  have em : (jt_io tl ++ (jt_op e ++ jt_io th)).map (jt_kv a3) = M s := by rw [← i1]; exact q3
  obtain ⟨c1, c2, c3, c4, c5⟩ := jt_cut em q4 r1 r2 r4
  have li := congrArg List.length i1
  simp only [List.length_append] at li
  dsimp only
  refine jt_X_rel1 (e := e) (E := jt_io th ++ (jt_io tl ++ [])) (jt_C_E h1 (fun j => by simp only [List.count_append, List.count_nil]; omega)) r3 ?_
  intro fs2 FN2 h2
  dsimp only
  refine jt_X_split (t := th) h2 k2 (by omega) (jt_sd_iff.mpr c2) ?_
  intro L3 R3 C3 W3 X3 tm tu e2 h3 k3 k4 i3 s1 s2 s3 s4 p3
  have kl3 := p3 tl k1 (fun j => by rw [List.count_append]; omega)
  have em2 : (jt_io tm ++ (jt_op e2 ++ jt_io tu)).map (jt_kv a3) = (jt_io th).map (jt_kv a3) := by rw [← i3]
  obtain ⟨d1, d2, d3, d4, d5⟩ := jt_cut em2 c2 s1 s2 s4
  have li3 := congrArg List.length i3
  simp only [List.length_append] at li3
  dsimp only
  refine jt_X_rel1 (e := e2) (E := jt_io tm ++ (jt_io tl ++ (jt_io tu ++ []))) (jt_C_E h3 (fun j => by simp only [List.count_append, List.count_nil]; omega)) s3 ?_
  intro fs4 FN4 h4
  dsimp only
  refine jt_X_rel (t := tm) h4 k3 (by omega) ?_
  intro fs5 FN5 W5 X5 h5
  dsimp only
  rw [jt_e_joinTwo_2]
  refine jt_X_joinTwo (ta := tl) (tb := tu) h5 rfl kl3 k4 (by omega) (jt_sd_iff.mpr c1) ?_
  intro t' L' R' C' W' X' lo' hi' ex' h6 k6 i6
  have eX : (jt_io t').map (jt_kv a3) = X := by
    rw [i6, List.map_append]
    refine jt_uniq (List.pairwise_append.mpr ⟨c1, d2, fun y1 hy1 w hw => ?_⟩) hX (fun z => ?_)
    · have a1 := ((c3 y1).mp hy1).2
      have a2 := ((d4 w).mp hw).2
      omega
    · rw [List.mem_append, c3 z, d4 z, c4 z, hm z]
      constructor
      · rintro (q | q)
        · exact ⟨q.1, Or.inl q.2⟩
        · exact ⟨q.1.1, Or.inr q.2⟩
      · rintro ⟨q, w | w⟩
        · exact Or.inl ⟨q, w⟩
        · exact Or.inr ⟨⟨q, by omega⟩, w⟩
  have l6 := jt_len_m eX
  dsimp only
  rw [jt_s16 _ (jt_rt_lt k6)]
  refine ⟨pk_in s 4 hs, nm_e ⟨pk_in s 4 hs, ?_⟩⟩
  rw [pk_us, jt_cl (jt_rt_lt k6), jt_cnt k6 h6.2.2.1, l6, pk_sub hle]
  exact ⟨pk_in (jt_rt t') 256 (jt_rt_lt k6), H _ ⟨_, fs5, jt_C_in h6 hs k6 eX hX hl⟩⟩
theorem jt_clear {post : Int32 → St2 → Prop} {M : Nat → List Int} {u : St2} {s : Nat} (hI : jt_I M u) (hs : s < 4) (H : ∀ u', jt_I (jt_tu M s []) u' → post (nI (M s).length) u') : wpX_clear post u (nI s) := by
  obtain ⟨fc, we, lo, hi, ex, a1, a2, a3, a4, a5, a6, a7, a8, a9, a10, a11, a12, a13⟩ := u
  obtain ⟨T, fs, h⟩ := hI
  obtain ⟨q1, q2, q3, q4, q5⟩ := h.2.2.2.1 s hs (by omega)
  have len := jt_len_m q3
  have ho := jt_C_out h hs
  unfold wpX_clear
  dsimp only
  refine jt_isSet hs (br_f (by decide) ⟨pk_in s 4 hs, ?_⟩)
  rw [nI_clamp (show s < 2 ^ 31 by omega), q1, jt_cl (jt_rt_lt q2), jt_cnt q2 h.2.2.1, len]
  refine ⟨pk_in (jt_rt (T s)) 256 (jt_rt_lt q2), nm_e ⟨pk_in s 4 hs, ?_⟩⟩
  refine jt_X_rel (t := T s) ho q2 (by omega) (fun fs' FN' W' X' h' => ?_)
  dsimp only
  refine ⟨pk_in s 4 hs, nm_e (H _ ⟨_, fs', jt_C_in (t := .leaf ()) (X := []) h' hs trivial rfl List.Pairwise.nil (by decide)⟩)⟩
end
section
/-! the family 'Int32 by its bits' of kit/laws/BITS.to-paste, its names changed -/
def jt_bt (x : Int32) (i : Nat) : Bool := x.toBitVec.getLsbD i
theorem jt_b_ext {x y : Int32} (h : ∀ i, i < 32 → jt_bt x i = jt_bt y i) : x = y := Int32.toBitVec_inj.mp (BitVec.eq_of_getLsbD_eq (fun i hi => h i hi))
theorem jt_b_or (x y : Int32) (i : Nat) : jt_bt (x ||| y) i = (jt_bt x i || jt_bt y i) := by unfold jt_bt; rw [Int32.toBitVec_or, BitVec.getLsbD_or]
theorem jt_b_and (x y : Int32) (i : Nat) : jt_bt (x &&& y) i = (jt_bt x i && jt_bt y i) := by unfold jt_bt; rw [Int32.toBitVec_and, BitVec.getLsbD_and]
theorem jt_b_xor (x y : Int32) (i : Nat) : jt_bt (x ^^^ y) i = (jt_bt x i ^^ jt_bt y i) := by unfold jt_bt; rw [Int32.toBitVec_xor, BitVec.getLsbD_xor]
theorem jt_b_big {x : Int32} {i : Nat} (h : 32 ≤ i) : jt_bt x i = false := BitVec.getLsbD_of_ge _ _ h
theorem jt_b_255 (i : Nat) : jt_bt 255 i = decide (i < 8) := by
  rcases Nat.lt_or_ge i 32 with h | h
  · exact (by decide +kernel : ∀ i, i < 32 → jt_bt 255 i = decide (i < 8)) i h
  · rw [jt_b_big h, decide_eq_false (by omega)]
theorem jt_b_1 (i : Nat) : jt_bt 1 i = decide (i = 0) := by
  rcases Nat.lt_or_ge i 32 with h | h
  · exact (by decide +kernel : ∀ i, i < 32 → jt_bt 1 i = decide (i = 0)) i h
  · rw [jt_b_big h, decide_eq_false (by omega)]
theorem jt_b_m1 : ∀ i, i < 32 → jt_bt (-1) i = true := by decide +kernel
theorem jt_b_0 (i : Nat) : jt_bt 0 i = false := BitVec.getLsbD_zero
theorem jt_s_l : ∀ n, n < 32 → ((nI n &&& 31).toBitVec.smod 32).toNat = n := by decide +kernel
theorem jt_b_shl (n : Nat) (hn : n < 32) (x : Int32) {i : Nat} (hi : i < 32) : jt_bt (x <<< (nI n &&& 31)) i = (decide (n ≤ i) && jt_bt x (i - n)) := by
  unfold jt_bt
  rw [Int32.toBitVec_shiftLeft]
  show (x.toBitVec <<< ((nI n &&& 31).toBitVec.smod 32).toNat).getLsbD i = _
  rw [jt_s_l n hn, BitVec.getLsbD_shiftLeft]
  rcases Nat.lt_or_ge i n with h | h
  · simp [h, Nat.not_le.mpr h]
  · simp [hi, h, Nat.not_lt.mpr h]
theorem jt_b_sshr (n : Nat) (hn : n < 32) (x : Int32) {i : Nat} (hi : i < 32) : jt_bt (x >>> (nI n &&& 31)) i = if n + i < 32 then jt_bt x (n + i) else jt_bt x 31 := by
  unfold jt_bt
  rw [Int32.toBitVec_shiftRight]
  show (x.toBitVec.sshiftRight ((nI n &&& 31).toBitVec.smod 32).toNat).getLsbD i = _
  rw [jt_s_l n hn, BitVec.getLsbD_sshiftRight, BitVec.msb_eq_getLsbD_last]
  simp [hi]
/-! masks of eight bits -/
def jt_w8 (x : Int32) : Prop := ∀ i, 8 ≤ i → jt_bt x i = false
theorem jt_w8_and {x y : Int32} (h : jt_w8 x) : jt_w8 (x &&& y) := fun i hi => by rw [jt_b_and, h i hi]; rfl
theorem jt_w8_255 (x : Int32) : jt_w8 (x &&& 255) := fun i hi => by rw [jt_b_and, jt_b_255, decide_eq_false (by omega)]; exact Bool.and_false _
theorem jt_w8_or {x y : Int32} (h : jt_w8 x) (h2 : jt_w8 y) : jt_w8 (x ||| y) := fun i hi => by rw [jt_b_or, h i hi, h2 i hi]; rfl
theorem jt_w8_xor {x y : Int32} (h : jt_w8 x) (h2 : jt_w8 y) : jt_w8 (x ^^^ y) := fun i hi => by rw [jt_b_xor, h i hi, h2 i hi]; rfl
theorem jt_b_not (x : Int32) {i : Nat} (hi : i < 32) : jt_bt (x ^^^ (-1)) i = !jt_bt x i := by rw [jt_b_xor, jt_b_m1 i hi]; exact Bool.xor_true _
theorem jt_b_shr8 {x : Int32} (h : jt_w8 x) {n : Nat} (hn : n < 8) (i : Nat) : jt_bt (x >>> (nI n &&& 31)) i = jt_bt x (n + i) := by
  rcases Nat.lt_or_ge i 32 with hi | hi
  · rw [jt_b_sshr n (by omega) x hi]
    split
    · rfl
    · rw [h 31 (by omega), h (n + i) (by omega)]
  · rw [jt_b_big hi, h (n + i) (by omega)]
theorem jt_w8_shr {x : Int32} (h : jt_w8 x) {n : Nat} (hn : n < 8) : jt_w8 (x >>> (nI n &&& 31)) := fun i hi => by rw [jt_b_shr8 h hn]; exact h _ (by omega)
theorem jt_b_cut {x : Int32} (h : jt_w8 x) {n : Nat} (hn : n < 8) (i : Nat) : jt_bt ((x >>> (nI n &&& 31)) <<< (nI n &&& 31)) i = (decide (n ≤ i) && jt_bt x i) := by
  rcases Nat.lt_or_ge i 32 with hi | hi
  · rw [jt_b_shl n (by omega) _ hi, jt_b_shr8 h hn]
    by_cases hc : n ≤ i
    · rw [show n + (i - n) = i by omega]
    · rw [decide_eq_false hc]; rfl
  · rw [jt_b_big hi, h i (by omega)]; exact (Bool.and_false _).symm
theorem jt_w8_cut {x : Int32} (h : jt_w8 x) {n : Nat} (hn : n < 8) : jt_w8 ((x >>> (nI n &&& 31)) <<< (nI n &&& 31)) := fun i hi => by rw [jt_b_cut h hn, h i hi]; exact Bool.and_false _
theorem jt_w8_test {x : Int32} (h : jt_w8 x) {n : Nat} (hn : n < 8) : ((x >>> (nI n &&& 31)) &&& 1) = 0 ↔ jt_bt x n = false := by
  constructor
  · intro e
    have := congrArg (fun y => jt_bt y 0) e
    simp only [jt_b_and, jt_b_shr8 h hn, jt_b_1, jt_b_0, Nat.add_zero, decide_true, Bool.and_true] at this
    exact this
  · intro e
    refine jt_b_ext (fun i hi => ?_)
    rw [jt_b_and, jt_b_shr8 h hn, jt_b_1, jt_b_0]
    by_cases hi0 : i = 0
    · rw [hi0, Nat.add_zero, e]; rfl
    · rw [decide_eq_false hi0]; exact Bool.and_false _
theorem jt_w8_eq {x y : Int32} (h : jt_w8 x) (h2 : jt_w8 y) : x = y ↔ ∀ p, p < 8 → jt_bt x p = jt_bt y p := by
  constructor
  · intro e p _; rw [e]
  · intro e
    refine jt_b_ext (fun i hi => ?_)
    rcases Nat.lt_or_ge i 8 with q | q
    · exact e i q
    · rw [h i q, h2 i q]
theorem jt_w8_0 : jt_w8 0 := fun i _ => jt_b_0 i
theorem jt_w8_less {x y : Int32} (h : jt_w8 x) : (x &&& (y ^^^ (-1))) = 0 ↔ ∀ p, p < 8 → jt_bt x p = true → jt_bt y p = true := by
  rw [jt_w8_eq (jt_w8_and h) jt_w8_0]
  constructor
  · intro e p hp hx
    have := e p hp
    rw [jt_b_and, jt_b_not y (by omega), jt_b_0, hx] at this
    simpa using this
  · intro e p hp
    rw [jt_b_and, jt_b_not y (by omega), jt_b_0]
    have := e p hp
    cases hx : jt_bt x p with
    | false => rfl
    | true => rw [this hx]; rfl
theorem jt_w8_nI {x : Int32} (h : jt_w8 x) : ∃ m, m < 256 ∧ x = nI m ∧ ∀ p, jt_bt x p = m.testBit p := by
  refine ⟨x.toBitVec.toNat, ?_, ?_, fun p => rfl⟩
  · exact Nat.lt_pow_two_of_testBit (n := 8) _ (fun i hi => h i hi)
  · apply Int32.toBitVec_inj.mp
    show x.toBitVec = BitVec.ofNat 32 x.toBitVec.toNat
    apply BitVec.eq_of_toNat_eq
    simp
def jt_pc (P : Nat → Bool) : Nat := (List.range 8).countP P
theorem jt_pc_congr {P Q : Nat → Bool} (h : ∀ p, p < 8 → P p = Q p) : jt_pc P = jt_pc Q := List.countP_congr (fun p hp => by rw [h p (List.mem_range.mp hp)])
theorem jt_pc_le (P : Nat → Bool) : jt_pc P ≤ 8 := List.countP_le_length
theorem jt_ones_d : ∀ m, m < 256 → ((((nI m &&& 85) + ((nI m >>> ((1 : Int32) &&& 31)) &&& 85)) &&& 51) + ((((nI m &&& 85) + ((nI m >>> ((1 : Int32) &&& 31)) &&& 85)) >>> ((2 : Int32) &&& 31)) &&& 51) &&& 15) + (((((nI m &&& 85) + ((nI m >>> ((1 : Int32) &&& 31)) &&& 85)) &&& 51) + ((((nI m &&& 85) + ((nI m >>> ((1 : Int32) &&& 31)) &&& 85)) >>> ((2 : Int32) &&& 31)) &&& 51)) >>> ((4 : Int32) &&& 31)) = nI ((List.range 8).countP (fun p => m.testBit p)) := by decide +kernel
theorem jt_ones {post : Int32 → Prop} {x : Int32} (h : jt_w8 x) (H : post (nI (jt_pc (jt_bt x)))) : wpL_ones post () x := by
  obtain ⟨m, hm, e, b⟩ := jt_w8_nI h
  have eb : jt_bt x = fun p => m.testBit p := funext b
  rw [eb] at H
  rw [e]
  unfold wpL_ones
  refine nm_e (nm_e ?_)
  have := jt_ones_d m hm
  rw [this]
  exact H
/-! the keys of a mask -/
def jt_S (F : Int) (P : Nat → Bool) : List Int := ((List.range 8).filter P).map (fun p : Nat => F + 10 * (p : Int))
theorem jt_S_sd (F : Int) (P : Nat → Bool) : List.Pairwise (fun a b => a < b) (jt_S F P) := by
  unfold jt_S
  rw [List.pairwise_map]
  refine List.Pairwise.imp (fun {a b} (h : a < b) => ?_) (List.Pairwise.filter P List.pairwise_lt_range)
  omega
theorem jt_S_len (F : Int) (P : Nat → Bool) : (jt_S F P).length = jt_pc P := by
  unfold jt_S jt_pc
  rw [List.length_map, List.countP_eq_length_filter]
theorem jt_S_mem {F : Int} {P : Nat → Bool} {z : Int} : z ∈ jt_S F P ↔ ∃ p, p < 8 ∧ P p = true ∧ z = F + 10 * (p : Int) := by
  unfold jt_S
  rw [List.mem_map]
  constructor
  · rintro ⟨p, hp, e⟩
    rw [List.mem_filter, List.mem_range] at hp
    exact ⟨p, hp.1, hp.2, e.symm⟩
  · rintro ⟨p, h1, h2, e⟩
    exact ⟨p, by rw [List.mem_filter, List.mem_range]; exact ⟨h1, h2⟩, e.symm⟩
theorem jt_S_k {F : Int} {P : Nat → Bool} {k : Nat} (hk : k < 8) : F + 10 * (k : Int) ∈ jt_S F P ↔ P k = true := by
  rw [jt_S_mem]
  constructor
  · rintro ⟨p, _, h2, e⟩
    have : p = k := by omega
    rw [← this]; exact h2
  · intro h; exact ⟨k, hk, h, rfl⟩
theorem jt_S_congr {F : Int} {P Q : Nat → Bool} (h : ∀ p, p < 8 → P p = Q p) : jt_S F P = jt_S F Q :=
  jt_uniq (jt_S_sd F P) (jt_S_sd F Q) (fun z => by
    rw [jt_S_mem, jt_S_mem]
    constructor
    · rintro ⟨p, h1, h2, e⟩; exact ⟨p, h1, by rw [← h p h1]; exact h2, e⟩
    · rintro ⟨p, h1, h2, e⟩; exact ⟨p, h1, by rw [h p h1]; exact h2, e⟩)
theorem jt_S_rank {F x : Int} {P : Nat → Bool} {k : Nat} (hx : ∀ p, p < 8 → (F + 10 * ((p : Nat) : Int) < x ↔ p < k)) : (jt_S F P).countP (fun z => decide (z < x)) = jt_pc (fun p => P p && decide (p < k)) := by
  unfold jt_S jt_pc
  rw [List.countP_map, List.countP_filter]
  refine List.countP_congr (fun p hp => ?_)
  have := hx p (List.mem_range.mp hp)
  simp only [Function.comp, Bool.and_eq_true, decide_eq_true_eq]
  rw [this, and_comm]
theorem jt_at_g (P : Nat → Bool) (k : Nat) (hP : P k = true) : ∀ n, k < n → ((List.range n).filter P)[(List.range n).countP (fun p => P p && decide (p < k))]? = some k := by
  intro n
  induction n with
  | zero => intro h; omega
  | succ n ih =>
    intro h
    rw [List.range_succ, List.filter_append, List.countP_append]
    by_cases hk : k < n
    · have e0 : List.countP (fun p => P p && decide (p < k)) [n] = 0 := by
        rw [List.countP_eq_zero]
        intro a ha
        rw [List.mem_singleton.mp ha]
        simp
        intro _
        omega
      have i := ih hk
      have hl : (List.range n).countP (fun p => P p && decide (p < k)) < ((List.range n).filter P).length := by
        rcases Nat.lt_or_ge ((List.range n).countP (fun p => P p && decide (p < k))) ((List.range n).filter P).length with q | q
        · exact q
        · rw [List.getElem?_eq_none q] at i; exact absurd i (by simp)
      rw [e0, Nat.add_zero, List.getElem?_append_left hl]
      exact i
    · have hkn : k = n := by omega
      subst hkn
      have e0 : List.countP (fun p => P p && decide (p < k)) [k] = 0 := by
        rw [List.countP_eq_zero]
        intro a ha
        rw [List.mem_singleton.mp ha]
        simp
      have e1 : (List.range k).countP (fun p => P p && decide (p < k)) = ((List.range k).filter P).length := by
        rw [← List.countP_eq_length_filter]
        refine List.countP_congr (fun p hp => ?_)
        have := List.mem_range.mp hp
        simp [this]
      rw [e0, Nat.add_zero, e1, List.getElem?_append_right (Nat.le_refl _), Nat.sub_self]
      simp [hP]
theorem jt_S_at {F : Int} {P : Nat → Bool} {k : Nat} (hk : k < 8) (hP : P k = true) : (jt_S F P)[jt_pc (fun p => P p && decide (p < k))]? = some (F + 10 * (k : Int)) := by
  unfold jt_S jt_pc
  rw [List.getElem?_map, jt_at_g P k hP 8 hk]
  rfl
theorem jt_pc_g (P : Nat → Bool) (k : Nat) : ∀ n, k < n → (List.range n).countP (fun p => P p && decide (p < k + 1)) = (List.range n).countP (fun p => P p && decide (p < k)) + (if P k = true then 1 else 0) := by
  intro n
  induction n with
  | zero => intro h; omega
  | succ n ih =>
    intro h
    rw [List.range_succ, List.countP_append, List.countP_append, List.countP_singleton, List.countP_singleton]
    by_cases hk : k < n
    · rw [ih hk]
      have a : decide (n < k + 1) = false := decide_eq_false (by omega)
      have b : decide (n < k) = false := decide_eq_false (by omega)
      rw [a, b, Bool.and_false]
      omega
    · have hkn : k = n := by omega
      subst hkn
      have e1 : (List.range k).countP (fun p => P p && decide (p < k + 1)) = (List.range k).countP (fun p => P p && decide (p < k)) := by
        refine List.countP_congr (fun p hp => ?_)
        have := List.mem_range.mp hp
        have a : p < k + 1 := by omega
        simp [this, a]
      rw [e1]
      have a : decide (k < k + 1) = true := decide_eq_true (by omega)
      have b : decide (k < k) = false := decide_eq_false (by omega)
      rw [a, b, Bool.and_false, Bool.and_true]
      simp
theorem jt_pc_step {P : Nat → Bool} {k : Nat} (hk : k < 8) : jt_pc (fun p => P p && decide (p < k + 1)) = jt_pc (fun p => P p && decide (p < k)) + (if P k = true then 1 else 0) := jt_pc_g P k 8 hk
theorem jt_pc_0 (P : Nat → Bool) : jt_pc (fun p => P p && decide (p < 0)) = 0 := by
  unfold jt_pc
  rw [List.countP_eq_zero]
  intro a _
  simp
/-! places -/
theorem jt_fk {x : Int32} (h1 : -2000000000 ≤ x.toInt) (h2 : x.toInt ≤ 2000000000) {k : Nat} (hk : k ≤ 100) : (x + 10 * nI k).toInt = x.toInt + 10 * (k : Int) := by
  rw [show (10 : Int32) * nI k = nI (10 * k) from pk_mul 10 k, Int32.toInt_add, nI_toInt (by omega)]
  rw [Int.bmod_eq_of_le (by omega) (by omega)]
  omega
theorem jt_fc {x : Int32} (h1 : -2000000000 ≤ x.toInt) (h2 : x.toInt ≤ 2000000000) {k : Nat} (hk : k ≤ 1000) : (x + nI k).toInt = x.toInt + (k : Int) := by
  rw [Int32.toInt_add, nI_toInt (by omega)]
  rw [Int.bmod_eq_of_le (by omega) (by omega)]
theorem jt_f3 {x : Int32} (h1 : -2000000000 ≤ x.toInt) (h2 : x.toInt ≤ 2000000000) {k : Nat} (hk : k ≤ 100) : (x + 10 * nI k - 3).toInt = x.toInt + 10 * (k : Int) - 3 := by
  rw [Int32.toInt_sub, jt_fk h1 h2 hk, show (3 : Int32).toInt = 3 from rfl]
  rw [Int.bmod_eq_of_le (by omega) (by omega)]
end
section
/-- the four sets by their masks -/
def jt_V (F : Int) (P : Nat → Nat → Bool) : Nat → List Int := fun i => jt_S F (P i)
theorem jt_V_tu (F : Int) (P : Nat → Nat → Bool) (d : Nat) (Q : Nat → Bool) : jt_tu (jt_V F P) d (jt_S F Q) = jt_V F (jt_tu P d Q) := by
  funext i
  unfold jt_tu jt_V
  by_cases h : i = d
  · simp only [h, if_true]
  · simp only [h, if_false]
theorem jt_S_8 (F : Int) (P : Nat → Bool) : (jt_S F P).length ≤ 8 := by rw [jt_S_len]; exact jt_pc_le P
theorem jt_S_emp (F : Int) : jt_S F (fun _ => false) = [] := by
  unfold jt_S
  rw [List.filter_eq_nil_iff.mpr (by intro a _; simp)]
  rfl
theorem jt_pc_and (P A : Nat → Bool) : jt_pc P = jt_pc (fun p => P p && A p) + jt_pc (fun p => P p && !A p) := by
  unfold jt_pc
  rw [List.countP_eq_countP_filter_add (List.range 8) P A, List.countP_filter, List.countP_filter]
theorem jt_pc_sum (P : Nat → Bool) : jt_pc P = (if P 0 = true then 1 else 0) + (if P 1 = true then 1 else 0) + (if P 2 = true then 1 else 0) + (if P 3 = true then 1 else 0) + (if P 4 = true then 1 else 0) + (if P 5 = true then 1 else 0) + (if P 6 = true then 1 else 0) + (if P 7 = true then 1 else 0) := by
  unfold jt_pc
  rw [show List.range 8 = [0, 1, 2, 3, 4, 5, 6, 7] from rfl]
  simp only [List.countP_cons, List.countP_nil]
  omega
theorem jt_pc_shift {P : Nat → Bool} (h : ∀ i, 8 ≤ i → P i = false) {k : Nat} (hk : k < 8) : jt_pc (fun p => P (k + p)) = jt_pc (fun p => P p && decide (k ≤ p)) := by
  have e : k = 0 ∨ k = 1 ∨ k = 2 ∨ k = 3 ∨ k = 4 ∨ k = 5 ∨ k = 6 ∨ k = 7 := by omega
  have a8 := h 8 (by decide)
  have a9 := h 9 (by decide)
  have a10 := h 10 (by decide)
  have a11 := h 11 (by decide)
  have a12 := h 12 (by decide)
  have a13 := h 13 (by decide)
  have a14 := h 14 (by decide)
  rw [jt_pc_sum, jt_pc_sum]
  rcases e with e | e | e | e | e | e | e | e <;> subst e <;> simp [a8, a9, a10, a11, a12, a13, a14] <;> omega
section
variable {F : Int} {P : Nat → Nat → Bool} {u : St2}
theorem jt_addV {post : Int32 → St2 → Prop} {s k : Nat} {x : Int32} (hI : jt_I (jt_V F P) u) (hs : s < 4) (hk : k < 8) (h : P s k = false) (hx : x.toInt = F + 10 * (k : Int))
    (H : ∀ u', jt_I (jt_V F (jt_tu P s (fun p => P s p || decide (p = k)))) u' → post 1 u') : wpX_add post u (nI s) x := by
  refine jt_add (X := jt_S F (fun p => P s p || decide (p = k))) hI hs ?_ (jt_S_sd _ _) (jt_S_8 _ _) (fun z => ?_) (fun u' hu => H u' (by rw [jt_V_tu] at hu; exact hu))
  · intro z
    rw [hx] at z
    have := (jt_S_k (P := P s) hk).mp z
    rw [h] at this
    exact absurd this (by decide)
  · show z ∈ jt_S F _ ↔ z ∈ jt_S F (P s) ∨ _
    rw [jt_S_mem, jt_S_mem, hx]
    constructor
    · rintro ⟨p, h1, h2, e⟩
      rw [Bool.or_eq_true, decide_eq_true_eq] at h2
      rcases h2 with q | q
      · exact Or.inl ⟨p, h1, q, e⟩
      · exact Or.inr (by rw [e, q])
    · rintro (⟨p, h1, h2, e⟩ | e)
      · exact ⟨p, h1, by rw [h2]; rfl, e⟩
      · exact ⟨k, hk, by rw [decide_eq_true rfl, Bool.or_true], e⟩
theorem jt_memV {p : Nat} {i : Nat} (hp : p < 8) : F + 10 * (p : Int) ∈ jt_V F P i ↔ P i p = true := jt_S_k hp
theorem jt_combineV {post : Int32 → St2 → Prop} {how d a b : Nat} {Q : Nat → Bool} (hI : jt_I (jt_V F P) u) (hh : how < 4) (hd : d < 4) (ha : a < 4) (hb : b < 4) (hQ : ∀ p, p < 8 → (Q p = true ↔ jt_c4 how (P a p = true) (P b p = true)))
    (H : ∀ u', jt_I (jt_V F (jt_tu P d Q)) u' → post (nI (jt_pc Q)) u') : wpX_combine post u (nI how) (nI d) (nI a) (nI b) := by
  refine jt_combine (X := jt_S F Q) hI hh hd ha hb (jt_S_sd _ _) (jt_S_8 _ _) (fun z => ?_) (fun u' hu => ?_)
  · have key : ∀ i, z ∈ jt_V F P i → ∃ p : Nat, p < 8 ∧ z = F + 10 * (p : Int) := fun i h => by
      obtain ⟨p, h1, h2, e⟩ := jt_S_mem.mp h
      exact ⟨p, h1, e⟩
    constructor
    · intro h
      obtain ⟨p, h1, h2, e⟩ := jt_S_mem.mp h
      have := (hQ p h1).mp h2
      rw [e, jt_memV h1, jt_memV h1]
      exact this
    · intro h
      have hz : ∃ p : Nat, p < 8 ∧ z = F + 10 * (p : Int) := by
        rcases h with h | ⟨_, h | h⟩
        · rcases jt_cn_or h with q | q
          · exact key a q
          · exact key b q
        · exact key a h.1
        · exact key b h.1
      obtain ⟨p, h1, e⟩ := hz
      rw [e, jt_memV h1, jt_memV h1] at h
      rw [e]
      exact (jt_S_k h1).mpr ((hQ p h1).mpr h)
  · rw [jt_S_len]
    rw [jt_V_tu] at hu
    exact H u' hu
theorem jt_withinV {post : Int32 → St2 → Prop} {a b : Nat} (hI : jt_I (jt_V F P) u) (ha : a < 4) (hb : b < 4) (H1 : (∀ p, p < 8 → P a p = true → P b p = true) → ∀ u', jt_I (jt_V F P) u' → post 1 u') (H0 : ¬ (∀ p, p < 8 → P a p = true → P b p = true) → ∀ u', jt_I (jt_V F P) u' → post 0 u') : wpX_within post u (nI a) (nI b) := by
  have e : (∀ z, z ∈ jt_V F P a → z ∈ jt_V F P b) ↔ (∀ p, p < 8 → P a p = true → P b p = true) := by
    constructor
    · intro h p hp hx
      exact (jt_memV hp).mp (h _ ((jt_memV hp).mpr hx))
    · intro h z hz
      obtain ⟨p, h1, h2, e⟩ := jt_S_mem.mp hz
      rw [e]
      exact (jt_memV h1).mpr (h p h1 h2)
  exact jt_within hI ha hb (fun h => H1 (e.mp h)) (fun h => H0 (fun q => h (e.mpr q)))
theorem jt_sameV {post : Int32 → St2 → Prop} {a b : Nat} (hI : jt_I (jt_V F P) u) (ha : a < 4) (hb : b < 4) (H1 : (∀ p, p < 8 → P a p = P b p) → ∀ u', jt_I (jt_V F P) u' → post 1 u') (H0 : ¬ (∀ p, p < 8 → P a p = P b p) → ∀ u', jt_I (jt_V F P) u' → post 0 u') : wpX_same post u (nI a) (nI b) := by
  have e : (∀ z, z ∈ jt_V F P a ↔ z ∈ jt_V F P b) ↔ (∀ p, p < 8 → P a p = P b p) := by
    constructor
    · intro h p hp
      have := h (F + 10 * (p : Int))
      rw [jt_memV hp, jt_memV hp] at this
      exact Bool.eq_iff_iff.mpr this
    · intro h z
      constructor
      · intro hz
        obtain ⟨p, h1, h2, e⟩ := jt_S_mem.mp hz
        rw [e]
        exact (jt_memV h1).mpr (by rw [← h p h1]; exact h2)
      · intro hz
        obtain ⟨p, h1, h2, e⟩ := jt_S_mem.mp hz
        rw [e]
        exact (jt_memV h1).mpr (by rw [h p h1]; exact h2)
  exact jt_same hI ha hb (fun h => H1 (e.mp h)) (fun h => H0 (fun q => h (e.mpr q)))
theorem jt_splitV {post : Int32 → St2 → Prop} {s d k : Nat} {x : Int32} (hI : jt_I (jt_V F P) u) (hs : s < 4) (hd : d < 4) (hk : k < 8) (hx : x.toInt = F + 10 * (k : Int))
    (H : ∀ u', jt_I (jt_V F (jt_tu (jt_tu P s (fun p => P s p && decide (p < k))) d (fun p => P s p && decide (k ≤ p)))) u' → post (nI (jt_pc (fun p => P s p && decide (k ≤ p)))) u') : wpX_split post u (nI s) x (nI d) := by
  refine jt_splitS (X1 := jt_S F (fun p => P s p && decide (p < k))) (X2 := jt_S F (fun p => P s p && decide (k ≤ p))) hI hs hd (jt_S_sd _ _) (jt_S_sd _ _) (jt_S_8 _ _) (jt_S_8 _ _) (fun z => ?_) (fun z => ?_) (fun u' hu => ?_)
  · show z ∈ jt_S F _ ↔ z ∈ jt_S F (P s) ∧ _
    rw [jt_S_mem, jt_S_mem, hx]
    constructor
    · rintro ⟨p, h1, h2, e⟩
      rw [Bool.and_eq_true, decide_eq_true_eq] at h2
      exact ⟨⟨p, h1, h2.1, e⟩, by omega⟩
    · rintro ⟨⟨p, h1, h2, e⟩, h3⟩
      exact ⟨p, h1, by rw [Bool.and_eq_true, decide_eq_true_eq]; exact ⟨h2, by omega⟩, e⟩
  · show z ∈ jt_S F _ ↔ z ∈ jt_S F (P s) ∧ _
    rw [jt_S_mem, jt_S_mem, hx]
    constructor
    · rintro ⟨p, h1, h2, e⟩
      rw [Bool.and_eq_true, decide_eq_true_eq] at h2
      exact ⟨⟨p, h1, h2.1, e⟩, by omega⟩
    · rintro ⟨⟨p, h1, h2, e⟩, h3⟩
      exact ⟨p, h1, by rw [Bool.and_eq_true, decide_eq_true_eq]; exact ⟨h2, by omega⟩, e⟩
  · rw [jt_S_len]
    rw [jt_V_tu, jt_V_tu] at hu
    exact H u' hu
theorem jt_rrV {post : Int32 → St2 → Prop} {s : Nat} {x y : Int32} (hI : jt_I (jt_V F P) u) (hs : s < 4) (hx : x.toInt = F + 15) (hy : y.toInt = F + 55)
    (H : ∀ u', jt_I (jt_V F (jt_tu P s (fun p => P s p && !(decide (2 ≤ p) && decide (p ≤ 5))))) u' → post (nI (jt_pc (fun p => P s p && (decide (2 ≤ p) && decide (p ≤ 5))))) u') : wpX_removeRange post u (nI s) x y := by
  have ep := jt_pc_and (P s) (fun p => decide (2 ≤ p) && decide (p ≤ 5))
  refine jt_rr1 (X := jt_S F (fun p => P s p && !(decide (2 ≤ p) && decide (p ≤ 5)))) hI hs (jt_le_i.mpr (by omega)) (jt_S_sd _ _) (jt_S_8 _ _) (fun z => ?_) ?_ (fun u' hu => ?_)
  · show z ∈ jt_S F _ ↔ z ∈ jt_S F (P s) ∧ _
    rw [jt_S_mem, jt_S_mem, hx, hy]
    constructor
    · rintro ⟨p, h1, h2, e⟩
      simp only [Bool.and_eq_true, Bool.not_eq_true', Bool.and_eq_false_iff, decide_eq_false_iff_not] at h2
      exact ⟨⟨p, h1, h2.1, e⟩, by omega⟩
    · rintro ⟨⟨p, h1, h2, e⟩, h3⟩
      refine ⟨p, h1, ?_, e⟩
      simp only [Bool.and_eq_true, Bool.not_eq_true', Bool.and_eq_false_iff, decide_eq_false_iff_not]
      exact ⟨h2, by omega⟩
  · show _ ≤ (jt_S F (P s)).length
    rw [jt_S_len, jt_S_len]
    omega
  · show post (nI ((jt_S F (P s)).length - _)) u'
    rw [jt_S_len, jt_S_len]
    rw [jt_V_tu] at hu
    have e2 : jt_pc (P s) - jt_pc (fun p => P s p && !(decide (2 ≤ p) && decide (p ≤ 5))) = jt_pc (fun p => P s p && (decide (2 ≤ p) && decide (p ≤ 5))) := by omega
    rw [e2]
    exact H u' hu
theorem jt_clearV {post : Int32 → St2 → Prop} {s : Nat} (hI : jt_I (jt_V F P) u) (hs : s < 4) (H : ∀ u', jt_I (jt_V F (jt_tu P s (fun _ => false))) u' → post (nI (jt_pc (P s))) u') : wpX_clear post u (nI s) := by
  refine jt_clear hI hs (fun u' hu => ?_)
  show post (nI (jt_S F (P s)).length) u'
  rw [jt_S_len]
  rw [← jt_S_emp F, jt_V_tu] at hu
  exact H u' hu
theorem jt_sizeV {post : Int32 → Prop} {s : Nat} (hI : jt_I (jt_V F P) u) (hs : s < 4) (H : post (nI (jt_pc (P s)))) : wpX_size post u (nI s) := by
  refine jt_size hI hs ?_
  show post (nI (jt_S F (P s)).length)
  rw [jt_S_len]
  exact H
theorem jt_hasV {post : Int32 → Prop} {s k : Nat} {x : Int32} (hI : jt_I (jt_V F P) u) (hs : s < 4) (hk : k < 8) (hx : x.toInt = F + 10 * (k : Int)) (H1 : P s k = true → post 1) (H0 : P s k = false → post 0) : wpX_has post u (nI s) x := by
  refine jt_has hI hs (fun h => H1 ?_) (fun h => H0 ?_)
  · rw [hx] at h; exact (jt_memV hk).mp h
  · rw [hx, jt_memV hk] at h; exact Bool.eq_false_iff.mpr h
theorem jt_rankV {post : Int32 → Prop} {s k : Nat} {x : Int32} (hI : jt_I (jt_V F P) u) (hs : s < 4) (hx : x.toInt = F + 10 * (k : Int)) (H : post (nI (jt_pc (fun p => P s p && decide (p < k))))) : wpX_rank post u (nI s) x := by
  refine jt_rank hI hs ?_
  show post (nI ((jt_S F (P s)).countP _))
  rw [jt_S_rank (k := k) (fun p hp => by omega)]
  exact H
theorem jt_ceilingV {post : Int32 → Prop} {s k c : Nat} {x : Int32} (hI : jt_I (jt_V F P) u) (hs : s < 4) (hx : x.toInt = F + 10 * (k : Int) - 3) (hc : jt_pc (fun p => P s p && decide (p < k)) = c) (H1 : c < jt_pc (P s) → post (nI c)) (H0 : jt_pc (P s) ≤ c → post (-3)) : wpX_ceiling post u (nI s) x := by
  have e : (jt_V F P s).length = jt_pc (P s) := jt_S_len F (P s)
  refine jt_ceiling (c := c) hI hs ?_ (fun h => H1 (by rw [e] at h; exact h)) (fun h => H0 (by rw [e] at h; exact h))
  show (jt_S F (P s)).countP _ = c
  rw [jt_S_rank (k := k) (fun p hp => by omega)]
  exact hc
theorem jt_atV {post : Int32 → Prop} {s k : Nat} (hI : jt_I (jt_V F P) u) (hs : s < 4) (hk : k < 8) (hP : P s k = true) (H : ∀ v : Int32, v.toInt = F + 10 * (k : Int) → post v) : wpX_at post u (nI s) (nI (jt_pc (fun p => P s p && decide (p < k)))) :=
  jt_at hI hs (jt_S_at hk hP) H
end
end
section
theorem jt_b_60 (i : Nat) (hi : i < 8) : jt_bt 60 i = (decide (2 ≤ i) && decide (i ≤ 5)) := (by decide +kernel : ∀ i, i < 8 → jt_bt 60 i = (decide (2 ≤ i) && decide (i ≤ 5))) i hi
theorem jt_b_m61 (i : Nat) (hi : i < 8) : jt_bt (-61) i = !(decide (2 ≤ i) && decide (i ≤ 5)) := (by decide +kernel : ∀ i, i < 8 → jt_bt (-61) i = !(decide (2 ≤ i) && decide (i ≤ 5))) i hi
section
variable {fc we lo hi ex : Int32} {a1 a2 a3 a4 a5 a6 a7 a8 a9 a10 a11 a12 a13 : Nat → Int32} {post : Int32 → St0 → Prop} {mc ms kc ks : Nat} {x3 x5 x6 x7 x9 : Int32} {P : Nat → Nat → Bool}
theorem jt_l428 (z : Int32) (w5 : jt_w8 x5) (w9 : jt_w8 x9) (f1 : -2000000000 ≤ x7.toInt) (f2 : x7.toInt ≤ 2000000000) (hI : jt_I (jt_V x7.toInt P) (fc, we, lo, hi, ex, a1, a2, a3, a4, a5, a6, a7, a8, a9, a10, a11, a12, a13)) (p0 : ∀ p, p < 8 → P 0 p = jt_bt x5 p) (p2 : ∀ p, p < 8 → P 2 p = jt_bt x9 p) (H : post 1 ()) :
    wL_lawOf_428 post mc ms x3 x5 x7 x9 z z kc ks fc we lo hi ex a1 a2 a3 a4 a5 a6 a7 a8 a9 a10 a11 a12 a13 := by
  unfold wL_lawOf_428
  obtain ⟨q, hq, eq⟩ := pk_andE x3 (m := 7) 3 (by decide)
  replace hq : q < 8 := hq
  have hf := jt_fk f1 f2 (k := q) (by omega)
  refine br_t rfl (nm_r eq (nm_e (nm_e ?_)))
  obtain ⟨x12, e12⟩ : ∃ y, y = (x9 >>> (nI q &&& 31)) <<< (nI q &&& 31) := ⟨_, rfl⟩
  rw [← e12]
  have b12 : ∀ p, jt_bt x12 p = (decide (q ≤ p) && jt_bt x9 p) := fun p => by rw [e12]; exact jt_b_cut w9 hq p
  have w12 : jt_w8 x12 := by rw [e12]; exact jt_w8_cut w9 hq
  have b13 : ∀ p, p < 8 → jt_bt (x9 &&& (x12 ^^^ (-1))) p = (jt_bt x9 p && decide (p < q)) := fun p hp => by
    rw [jt_b_and, jt_b_not x12 (by omega), b12]
    by_cases hc : q ≤ p
    · rw [decide_eq_true hc, decide_eq_false (show ¬ p < q by omega)]; cases jt_bt x9 p <;> rfl
    · rw [decide_eq_false hc, decide_eq_true (show p < q by omega)]; cases jt_bt x9 p <;> rfl
  obtain ⟨x14, e14⟩ : ∃ y, y = x5 &&& (x12 ^^^ (-1)) := ⟨_, rfl⟩
  rw [← e14]
  have w14 : jt_w8 x14 := by rw [e14]; exact jt_w8_and w5
  have b14 : ∀ p, p < 8 → jt_bt x14 p = (jt_bt x5 p && !(decide (q ≤ p) && jt_bt x9 p)) := fun p hp => by rw [e14, jt_b_and, jt_b_not x12 (by omega), b12]
  refine jt_splitV (s := 2) (d := 3) (k := q) hI (by decide) (by decide) hq hf (fun u1 h1 => ?_)
  obtain ⟨fc, we, lo, hi, ex, a1, a2, a3, a4, a5, a6, a7, a8, a9, a10, a11, a12, a13⟩ := u1
  generalize hP1 : jt_tu (jt_tu P 2 (fun p => P 2 p && decide (p < q))) 3 (fun p => P 2 p && decide (q ≤ p)) = P1 at h1
  have pa0 : ∀ p, p < 8 → P1 0 p = jt_bt x5 p := fun p hp => by rw [← hP1]; exact p0 p hp
  have pa2 : ∀ p, p < 8 → P1 2 p = (jt_bt x9 p && decide (p < q)) := fun p hp => by rw [← hP1, ← p2 p hp]; rfl
  have pa3 : ∀ p, p < 8 → P1 3 p = (jt_bt x9 p && decide (q ≤ p)) := fun p hp => by rw [← hP1, ← p2 p hp]; rfl
  refine jt_ones w12 (br_t (congrArg nI (jt_pc_congr (fun p hp => by rw [b12, p2 p hp, Bool.and_comm]))) ?_)
  refine jt_sizeV (s := 2) h1 (by decide) (jt_ones (jt_w8_and w9) (br_t (congrArg nI (jt_pc_congr (fun p hp => by rw [pa2 p hp, b13 p hp]))) ?_))
  refine jt_combineV (how := 2) (d := 1) (a := 0) (b := 3) (Q := jt_bt x14) h1 (by decide) (by decide) (by decide) (by decide) (fun p hp => ?_) (fun u2 h2 => ?_)
  · rw [pa0 p hp, pa3 p hp, b14 p hp]
    unfold jt_c4 jt_cn
    cases jt_bt x5 p <;> cases jt_bt x9 p <;> by_cases hc : q ≤ p <;> simp [hc]
  obtain ⟨fc, we, lo, hi, ex, a1, a2, a3, a4, a5, a6, a7, a8, a9, a10, a11, a12, a13⟩ := u2
  refine jt_ones w14 (br_t rfl ?_)
  generalize hP2 : jt_tu P1 1 (jt_bt x14) = P2 at h2
  have c0 : ∀ p, p < 8 → P2 0 p = jt_bt x5 p := fun p hp => by rw [← hP2]; exact pa0 p hp
  have c1 : ∀ p, p < 8 → P2 1 p = jt_bt x14 p := fun p hp => by rw [← hP2]; rfl
  have c2 : ∀ p, p < 8 → P2 2 p = (jt_bt x9 p && decide (p < q)) := fun p hp => by rw [← hP2]; exact pa2 p hp
  have c3 : ∀ p, p < 8 → P2 3 p = (jt_bt x9 p && decide (q ≤ p)) := fun p hp => by rw [← hP2]; exact pa3 p hp
  refine jt_combineV (how := 0) (d := 2) (a := 2) (b := 3) (Q := jt_bt x9) h2 (by decide) (by decide) (by decide) (by decide) (fun p hp => ?_) (fun u3 h3 => ?_)
  · rw [c2 p hp, c3 p hp]
    unfold jt_c4 jt_cn
    by_cases hc : q ≤ p
    · have hc2 : ¬ p < q := by omega
      cases jt_bt x9 p <;> simp [hc, hc2]
    · have hc2 : p < q := by omega
      cases jt_bt x9 p <;> simp [hc, hc2]
  obtain ⟨fc, we, lo, hi, ex, a1, a2, a3, a4, a5, a6, a7, a8, a9, a10, a11, a12, a13⟩ := u3
  refine jt_ones w9 (br_t rfl (nm_e (nm_e ?_)))
  generalize hP3 : jt_tu P2 2 (jt_bt x9) = P3 at h3
  have d0 : ∀ p, p < 8 → P3 0 p = jt_bt x5 p := fun p hp => by rw [← hP3]; exact c0 p hp
  have d1 : ∀ p, p < 8 → P3 1 p = jt_bt x14 p := fun p hp => by rw [← hP3]; exact c1 p hp
  have d2 : ∀ p, p < 8 → P3 2 p = jt_bt x9 p := fun p hp => by rw [← hP3]; rfl
  refine jt_rrV (s := 1) h3 (by decide) (jt_fc f1 f2 (k := 15) (by omega)) (jt_fc f1 f2 (k := 55) (by omega)) (fun u4 h4 => ?_)
  obtain ⟨fc, we, lo, hi, ex, a1, a2, a3, a4, a5, a6, a7, a8, a9, a10, a11, a12, a13⟩ := u4
  refine jt_ones (jt_w8_and w14) (br_t (congrArg nI (jt_pc_congr (fun p hp => by rw [d1 p hp, jt_b_and, jt_b_60 p hp]))) ?_)
  generalize hP4 : jt_tu P3 1 (fun p => P3 1 p && !(decide (2 ≤ p) && decide (p ≤ 5))) = P4 at h4
  have g0 : ∀ p, p < 8 → P4 0 p = jt_bt x5 p := fun p hp => by rw [← hP4]; exact d0 p hp
  have g1 : ∀ p, p < 8 → P4 1 p = (jt_bt x14 p && !(decide (2 ≤ p) && decide (p ≤ 5))) := fun p hp => by rw [← hP4, ← d1 p hp]; rfl
  have g2 : ∀ p, p < 8 → P4 2 p = jt_bt x9 p := fun p hp => by rw [← hP4]; exact d2 p hp
  refine jt_rr0 (s := 1) (by decide) (fun hle => ?_) ?_
  · have v1 : (x7 + 55).toInt = x7.toInt + ((55 : Nat) : Int) := jt_fc f1 f2 (k := 55) (by omega)
    have v2 : (x7 + 15).toInt = x7.toInt + ((15 : Nat) : Int) := jt_fc f1 f2 (k := 15) (by omega)
    have v3 := jt_le_i.mp hle
    omega
  refine br_t rfl ?_
  refine jt_sizeV (s := 1) h4 (by decide) (jt_ones (jt_w8_and w14) (br_t (congrArg nI (jt_pc_congr (fun p hp => by rw [g1 p hp, jt_b_and, jt_b_m61 p hp]))) ?_))
  refine jt_splitV (s := 0) (d := 0) (k := q) h4 (by decide) (by decide) hq hf (fun u5 h5 => ?_)
  obtain ⟨fc, we, lo, hi, ex, a1, a2, a3, a4, a5, a6, a7, a8, a9, a10, a11, a12, a13⟩ := u5
  have ws : jt_w8 (x5 >>> (nI q &&& 31)) := jt_w8_shr w5 hq
  have eo : jt_pc (fun p => jt_bt x5 p && decide (q ≤ p)) = jt_pc (jt_bt (x5 >>> (nI q &&& 31))) := by
    rw [← jt_pc_shift w5 hq]
    exact jt_pc_congr (fun p _ => (jt_b_shr8 w5 hq p).symm)
  refine jt_ones ws (br_t (congrArg nI ((jt_pc_congr (fun p hp => by rw [g0 p hp])).trans eo)) ?_)
  generalize hP5 : jt_tu (jt_tu P4 0 (fun p => P4 0 p && decide (p < q))) 0 (fun p => P4 0 p && decide (q ≤ p)) = P5 at h5
  have i0 : ∀ p, p < 8 → P5 0 p = (jt_bt x5 p && decide (q ≤ p)) := fun p hp => by rw [← hP5, ← g0 p hp]; rfl
  have i2 : ∀ p, p < 8 → P5 2 p = jt_bt x9 p := fun p hp => by rw [← hP5]; exact g2 p hp
  refine jt_clearV (s := 2) h5 (by decide) (fun u6 h6 => ?_)
  obtain ⟨fc, we, lo, hi, ex, a1, a2, a3, a4, a5, a6, a7, a8, a9, a10, a11, a12, a13⟩ := u6
  refine jt_ones w9 (br_t (congrArg nI (jt_pc_congr i2)) ?_)
  generalize hP6 : jt_tu P5 2 (fun _ => false) = P6 at h6
  have j0 : ∀ p, p < 8 → P6 0 p = (jt_bt x5 p && decide (q ≤ p)) := fun p hp => by rw [← hP6]; exact i0 p hp
  have j2 : ∀ p, P6 2 p = false := fun p => by rw [← hP6]; rfl
  refine jt_withinV (a := 2) (b := 3) h6 (by decide) (by decide) (fun _ u7 h7 => ?_) (fun hn => absurd (fun p _ hx => absurd ((j2 p).symm.trans hx) (by decide)) hn)
  obtain ⟨fc, we, lo, hi, ex, a1, a2, a3, a4, a5, a6, a7, a8, a9, a10, a11, a12, a13⟩ := u7
  refine br_f (by decide) (jt_sameV (a := 2) (b := 2) h7 (by decide) (by decide) (fun _ u8 h8 => ?_) (fun hn => absurd (fun p _ => rfl) hn))
  obtain ⟨fc, we, lo, hi, ex, a1, a2, a3, a4, a5, a6, a7, a8, a9, a10, a11, a12, a13⟩ := u8
  refine br_f (by decide) (jt_sizeV (s := 0) h8 (by decide) (jt_ones ws (br_t (congrArg nI ((jt_pc_congr j0).trans eo)) H)))
theorem jt_l403 (z : Int32) (w5 : jt_w8 x5) (w9 : jt_w8 x9) (f1 : -2000000000 ≤ x7.toInt) (f2 : x7.toInt ≤ 2000000000) (hI : jt_I (jt_V x7.toInt P) (fc, we, lo, hi, ex, a1, a2, a3, a4, a5, a6, a7, a8, a9, a10, a11, a12, a13)) (p0 : ∀ p, p < 8 → P 0 p = jt_bt x5 p) (p2 : ∀ p, p < 8 → P 2 p = jt_bt x9 p) (H : post 1 ()) :
    wL_lawOf_403 post mc ms x3 x5 x7 x9 z z kc ks fc we lo hi ex a1 a2 a3 a4 a5 a6 a7 a8 a9 a10 a11 a12 a13 := by
  unfold wL_lawOf_403
  refine br_t rfl (jt_withinV (a := 2) (b := 0) hI (by decide) (by decide) (fun hs u1 h1 => ?_) (fun hs u1 h1 => ?_))
  · obtain ⟨fc, we, lo, hi, ex, a1, a2, a3, a4, a5, a6, a7, a8, a9, a10, a11, a12, a13⟩ := u1
    exact br_t ((jt_w8_less w9).mpr (fun p hp hx => by rw [← p0 p hp]; exact hs p hp (by rw [p2 p hp]; exact hx))) (jt_l428 1 w5 w9 f1 f2 h1 p0 p2 H)
  · obtain ⟨fc, we, lo, hi, ex, a1, a2, a3, a4, a5, a6, a7, a8, a9, a10, a11, a12, a13⟩ := u1
    exact br_f (fun e => hs (fun p hp hx => by rw [p0 p hp]; exact (jt_w8_less w9).mp e p hp (by rw [← p2 p hp]; exact hx))) (jt_l428 0 w5 w9 f1 f2 h1 p0 p2 H)
theorem jt_l381 (z : Int32) (w5 : jt_w8 x5) (w6 : jt_w8 x6) (w9 : jt_w8 x9) (f1 : -2000000000 ≤ x7.toInt) (f2 : x7.toInt ≤ 2000000000) (hI : jt_I (jt_V x7.toInt P) (fc, we, lo, hi, ex, a1, a2, a3, a4, a5, a6, a7, a8, a9, a10, a11, a12, a13)) (p0 : ∀ p, p < 8 → P 0 p = jt_bt x5 p) (p1 : ∀ p, p < 8 → P 1 p = jt_bt x6 p) (p2 : ∀ p, p < 8 → P 2 p = jt_bt x9 p) (H : post 1 ()) :
    wL_lawOf_381 post mc ms x3 x5 x6 x7 x9 z z kc ks fc we lo hi ex a1 a2 a3 a4 a5 a6 a7 a8 a9 a10 a11 a12 a13 := by
  unfold wL_lawOf_381
  refine br_t rfl (jt_sameV (a := 0) (b := 1) hI (by decide) (by decide) (fun hs u1 h1 => ?_) (fun hs u1 h1 => ?_))
  · obtain ⟨fc, we, lo, hi, ex, a1, a2, a3, a4, a5, a6, a7, a8, a9, a10, a11, a12, a13⟩ := u1
    exact br_t ((jt_w8_eq w5 w6).mpr (fun p hp => by rw [← p0 p hp, ← p1 p hp]; exact hs p hp)) (jt_l403 1 w5 w9 f1 f2 h1 p0 p2 H)
  · obtain ⟨fc, we, lo, hi, ex, a1, a2, a3, a4, a5, a6, a7, a8, a9, a10, a11, a12, a13⟩ := u1
    exact br_f (fun e => hs (fun p hp => by rw [p0 p hp, p1 p hp]; exact (jt_w8_eq w5 w6).mp e p hp)) (jt_l403 0 w5 w9 f1 f2 h1 p0 p2 H)
end
end
section
section
variable {fc we lo hi ex : Int32} {a1 a2 a3 a4 a5 a6 a7 a8 a9 a10 a11 a12 a13 : Nat → Int32} {post : Int32 → St0 → Prop} {mc ms kc ks : Nat} {x2 x3 x5 x6 x7 x9 : Int32} {P : Nat → Nat → Bool}
theorem jt_l307 {J : Int32 → Int32 → Prop} {k c : Nat} (z : Nat) (hz : z = 0 ∨ z = 1) (hk : k < 8) (w9 : jt_w8 x9) (f1 : -2000000000 ≤ x7.toInt) (f2 : x7.toInt ≤ 2000000000) (hI : jt_I (jt_V x7.toInt P) (fc, we, lo, hi, ex, a1, a2, a3, a4, a5, a6, a7, a8, a9, a10, a11, a12, a13)) (p2 : ∀ p, p < 8 → P 2 p = jt_bt x9 p)
    (hc : c = jt_pc (fun p => jt_bt x9 p && decide (p < k))) (hJ : J (nI (c + z)) (nI (k + 1))) : wL_lawOf_307 post mc ms J x3 x5 x6 x7 x9 (nI c) (nI k) (nI z) kc ks fc we lo hi ex a1 a2 a3 a4 a5 a6 a7 a8 a9 a10 a11 a12 a13 := by
  have E : ∀ v : Int32, wL_lawOf_340 post mc ms J x3 x5 x6 x7 x9 (nI c) (nI k) (nI z) v v kc ks fc we lo hi ex a1 a2 a3 a4 a5 a6 a7 a8 a9 a10 a11 a12 a13 := by
    intro v
    unfold wL_lawOf_340
    refine br_t rfl (pk_eq z 0 (fun h => nm_r (nI_1 k) ?_) (fun h => nm_r (nI_1 c) (nm_r (nI_1 k) ?_)))
    · rw [h] at hJ; exact hJ
    · have h1 : z = 1 := by omega
      rw [h1] at hJ; exact hJ
  have e2 : jt_pc (P 2) = jt_pc (jt_bt x9) := jt_pc_congr p2
  have l1 := jt_pc_le (jt_bt x9)
  have l2 : c ≤ 8 := by rw [hc]; exact jt_pc_le _
  unfold wL_lawOf_307
  refine jt_ceilingV (s := 2) (k := k) (c := c) hI (by decide) (jt_f3 f1 f2 (by omega)) (by rw [hc]; exact jt_pc_congr (fun p hp => by rw [p2 p hp])) (fun h => jt_ones w9 ?_) (fun h => jt_ones w9 ?_)
  · rw [e2] at h
    exact pk_le (jt_pc (jt_bt x9)) c (fun q => absurd q (by omega)) (fun _ => E (nI c))
  · rw [e2] at h
    exact pk_le (jt_pc (jt_bt x9)) c (fun _ => E (-3)) (fun q => absurd q (by omega))
theorem jt_l239 {J : Int32 → Int32 → Prop} {k c : Nat} (z : Nat) (hz : z = 0 ∨ z = 1) (hk : k < 8) (w9 : jt_w8 x9) (f1 : -2000000000 ≤ x7.toInt) (f2 : x7.toInt ≤ 2000000000) (hI : jt_I (jt_V x7.toInt P) (fc, we, lo, hi, ex, a1, a2, a3, a4, a5, a6, a7, a8, a9, a10, a11, a12, a13)) (p2 : ∀ p, p < 8 → P 2 p = jt_bt x9 p)
    (hc : c = jt_pc (fun p => jt_bt x9 p && decide (p < k))) (hb : jt_bt x9 k = true ↔ z = 1) (hJ : J (nI (c + z)) (nI (k + 1))) : wL_lawOf_239 post mc ms J x3 x5 x6 x7 x9 (nI c) (nI k) (nI z) kc ks fc we lo hi ex a1 a2 a3 a4 a5 a6 a7 a8 a9 a10 a11 a12 a13 := by
  have E := jt_l307 (post := post) (mc := mc) (ms := ms) (kc := kc) (ks := ks) (x3 := x3) (x5 := x5) (x6 := x6) z hz hk w9 f1 f2 hI p2 hc hJ
  have l2 : c ≤ 8 := by rw [hc]; exact jt_pc_le _
  have hf := jt_fk f1 f2 (k := k) (by omega)
  have hcc : jt_pc (fun p => P 2 p && decide (p < k)) = c := by rw [hc]; exact jt_pc_congr (fun p hp => by rw [p2 p hp])
  have R : ∀ r : Int32, r = nI z → ((r = nI z → (wpX_rank (fun r_688 => (((r_688 = nI c → (((nI z = 0 → (wL_lawOf_307 post mc ms J x3 x5 x6 x7 x9 (nI c) (nI k) (nI z) kc ks fc we lo hi ex a1 a2 a3 a4 a5 a6 a7 a8 a9 a10 a11 a12 a13)) ∧ (¬ nI z = 0 → (wpX_at (fun r_699 => (((r_699 = (x7 + (10 * nI k)) → (wL_lawOf_307 post mc ms J x3 x5 x6 x7 x9 (nI c) (nI k) (nI z) kc ks fc we lo hi ex a1 a2 a3 a4 a5 a6 a7 a8 a9 a10 a11 a12 a13)) ∧ (¬ r_699 = (x7 + (10 * nI k)) → (post 0 ()))))) (fc, we, lo, hi, ex, a1, a2, a3, a4, a5, a6, a7, a8, a9, a10, a11, a12, a13) 2 (nI c)))))) ∧ (¬ r_688 = nI c → (post 0 ()))))) (fc, we, lo, hi, ex, a1, a2, a3, a4, a5, a6, a7, a8, a9, a10, a11, a12, a13) 2 (x7 + (10 * nI k)))) ∧ (¬ r = nI z → (post 0 ()))) := by
    intro r er
    refine br_t er (jt_rankV (s := 2) (k := k) hI (by decide) hf (br_t (congrArg nI hcc) ?_))
    refine pk_eq z 0 (fun _ => E) (fun h => ?_)
    have hk1 : P 2 k = true := by rw [p2 k hk]; exact hb.mpr (by omega)
    rw [← hcc]
    refine jt_atV (s := 2) (k := k) hI (by decide) hk hk1 (fun v hv => br_t (jt_eq_i.mpr (by rw [hv, hf])) ?_)
    rw [hcc]
    exact E
  unfold wL_lawOf_239
  refine jt_hasV (s := 2) (k := k) hI (by decide) hk hf (fun h => R 1 ?_) (fun h => R 0 ?_)
  · rw [p2 k hk] at h
    rw [hb.mp h]; rfl
  · rw [p2 k hk] at h
    have h0 : z = 0 := by
      rcases hz with q | q
      · exact q
      · rw [hb.mpr q] at h; exact absurd h (by decide)
    rw [h0]; rfl
theorem jt_l217 (w5 : jt_w8 x5) (w6 : jt_w8 x6) (w9 : jt_w8 x9) (f1 : -2000000000 ≤ x7.toInt) (f2 : x7.toInt ≤ 2000000000) (hI : jt_I (jt_V x7.toInt P) (fc, we, lo, hi, ex, a1, a2, a3, a4, a5, a6, a7, a8, a9, a10, a11, a12, a13)) (p0 : ∀ p, p < 8 → P 0 p = jt_bt x5 p) (p1 : ∀ p, p < 8 → P 1 p = jt_bt x6 p) (p2 : ∀ p, p < 8 → P 2 p = jt_bt x9 p) (H : post 1 ()) :
    ∀ d k : Nat, k + d = 8 → ∀ c, c = jt_pc (fun p => jt_bt x9 p && decide (p < k)) → wL_lawOf_217 post mc ms x3 x5 x6 x7 x9 kc ks fc we lo hi ex a1 a2 a3 a4 a5 a6 a7 a8 a9 a10 a11 a12 a13 (d + 1) (nI c) (nI k) := by
  intro d
  induction d with
  | zero =>
    intro k hk c hc
    have hk8 : k = 8 := by omega
    subst hk8
    refine pk_le 8 8 (fun _ => ?_) (fun q => absurd q (by omega))
    refine jt_withinV (a := 0) (b := 1) hI (by decide) (by decide) (fun hs u1 h1 => ?_) (fun hs u1 h1 => ?_)
    · obtain ⟨fc, we, lo, hi, ex, a1, a2, a3, a4, a5, a6, a7, a8, a9, a10, a11, a12, a13⟩ := u1
      exact br_t ((jt_w8_less w5).mpr (fun p hp hx => by rw [← p1 p hp]; exact hs p hp (by rw [p0 p hp]; exact hx))) (jt_l381 1 w5 w6 w9 f1 f2 h1 p0 p1 p2 H)
    · obtain ⟨fc, we, lo, hi, ex, a1, a2, a3, a4, a5, a6, a7, a8, a9, a10, a11, a12, a13⟩ := u1
      exact br_f (fun e => hs (fun p hp hx => by rw [p1 p hp]; exact (jt_w8_less w5).mp e p hp (by rw [← p0 p hp]; exact hx))) (jt_l381 0 w5 w6 w9 f1 f2 h1 p0 p1 p2 H)
  | succ d ih =>
    intro k hk c hc
    have hk8 : k < 8 := by omega
    have st := jt_pc_step (P := jt_bt x9) hk8
    refine pk_le 8 k (fun q => absurd q (by omega)) (fun _ => ?_)
    refine ek_if (jt_w8_test w9 hk8) (fun h => ?_) (fun h => ?_)
    · refine jt_l239 0 (Or.inl rfl) hk8 w9 f1 f2 hI p2 hc (by rw [h]; decide) (ih (k + 1) (by omega) _ ?_)
      rw [st, h, ← hc]; rfl
    · have h1 : jt_bt x9 k = true := by
        cases hq : jt_bt x9 k with
        | true => rfl
        | false => exact absurd hq h
      refine jt_l239 1 (Or.inr rfl) hk8 w9 f1 f2 hI p2 hc (by rw [h1]; decide) (ih (k + 1) (by omega) _ ?_)
      rw [st, h1, ← hc]; rfl
theorem jt_l189 {kind : Nat} (hkd : kind < 4) (w5 : jt_w8 x5) (w6 : jt_w8 x6) (w9 : jt_w8 x9) (f1 : -2000000000 ≤ x7.toInt) (f2 : x7.toInt ≤ 2000000000) (hI : jt_I (jt_V x7.toInt P) (fc, we, lo, hi, ex, a1, a2, a3, a4, a5, a6, a7, a8, a9, a10, a11, a12, a13)) (p0 : ∀ p, p < 8 → P 0 p = jt_bt x5 p) (p1 : ∀ p, p < 8 → P 1 p = jt_bt x6 p)
    (hc : ∀ p, p < 8 → (jt_bt x9 p = true ↔ jt_c4 kind (jt_bt x5 p = true) (jt_bt x6 p = true))) (H : post 1 ()) : wL_lawOf_189 post mc ms x3 x5 x6 x7 (nI kind) x9 kc ks fc we lo hi ex a1 a2 a3 a4 a5 a6 a7 a8 a9 a10 a11 a12 a13 := by
  unfold wL_lawOf_189
  refine jt_combineV (how := kind) (d := 2) (a := 0) (b := 1) (Q := jt_bt x9) hI hkd (by decide) (by decide) (by decide) (fun p hp => by rw [p0 p hp, p1 p hp]; exact hc p hp) (fun u1 h1 => ?_)
  obtain ⟨fc, we, lo, hi, ex, a1, a2, a3, a4, a5, a6, a7, a8, a9, a10, a11, a12, a13⟩ := u1
  refine jt_ones w9 (br_t rfl ⟨8 + 1, ?_⟩)
  exact jt_l217 w5 w6 w9 f1 f2 h1 (fun p hp => p0 p hp) (fun p hp => p1 p hp) (fun p hp => rfl) H 8 0 rfl 0 (jt_pc_0 _).symm
/-- the places that the first k rounds of the law's first loop have looked at -/
def jt_pr (k p : Nat) : Bool := (List.range k).any (fun i => decide (i * 5 % 8 = p))
theorem jt_pr_s (k p : Nat) : jt_pr (k + 1) p = (jt_pr k p || decide (k * 5 % 8 = p)) := by
  unfold jt_pr
  rw [List.range_succ, List.any_append]
  simp
theorem jt_pr_new : ∀ k, k < 8 → jt_pr k (k * 5 % 8) = false := by decide
theorem jt_pr_8 : ∀ p, p < 8 → jt_pr 8 p = true := by decide
theorem jt_l100 {J : Int32 → Int32 → Int32 → Int32 → Int32 → Int32 → (Nat → Int32) → (Nat → Int32) → (Nat → Int32) → (Nat → Int32) → (Nat → Int32) → (Nat → Int32) → (Nat → Int32) → (Nat → Int32) → (Nat → Int32) → (Nat → Int32) → (Nat → Int32) → (Nat → Int32) → (Nat → Int32) → Prop}
    {k : Nat} (hk : k < 8) (w6 : jt_w8 x6) (f1 : -2000000000 ≤ x7.toInt) (f2 : x7.toInt ≤ 2000000000) (hI : jt_I (jt_V x7.toInt P) (fc, we, lo, hi, ex, a1, a2, a3, a4, a5, a6, a7, a8, a9, a10, a11, a12, a13)) (p0 : ∀ p, p < 8 → P 0 p = (jt_bt x5 p && jt_pr (k + 1) p)) (p1 : ∀ p, p < 8 → P 1 p = (jt_bt x6 p && jt_pr k p))
    (hJ : ∀ (fc we lo hi ex : Int32) (a1 a2 a3 a4 a5 a6 a7 a8 a9 a10 a11 a12 a13 : Nat → Int32) P', jt_I (jt_V x7.toInt P') (fc, we, lo, hi, ex, a1, a2, a3, a4, a5, a6, a7, a8, a9, a10, a11, a12, a13) → (∀ p, p < 8 → P' 0 p = (jt_bt x5 p && jt_pr (k + 1) p)) → (∀ p, p < 8 → P' 1 p = (jt_bt x6 p && jt_pr (k + 1) p)) → J (nI (k + 1)) fc we lo hi ex a1 a2 a3 a4 a5 a6 a7 a8 a9 a10 a11 a12 a13) :
    wL_lawOf_100 post mc ms J x2 x3 x5 x6 x7 (nI k) (nI (k * 5 % 8)) kc ks fc we lo hi ex a1 a2 a3 a4 a5 a6 a7 a8 a9 a10 a11 a12 a13 := by
  have hq : k * 5 % 8 < 8 := by omega
  unfold wL_lawOf_100
  refine ek_if (jt_w8_test w6 hq) (fun h => nm_r (nI_1 k) (hJ _ _ _ _ _ _ _ _ _ _ _ _ _ _ _ _ _ _ P hI p0 (fun p hp => ?_))) (fun h => ?_)
  · rw [p1 p hp, jt_pr_s]
    by_cases e : k * 5 % 8 = p
    · rw [← e, h]; rfl
    · rw [decide_eq_false e, Bool.or_false]
  · have h1 : jt_bt x6 (k * 5 % 8) = true := by
      cases hb : jt_bt x6 (k * 5 % 8) with
      | true => rfl
      | false => exact absurd hb h
    refine jt_addV (s := 1) (k := k * 5 % 8) hI (by decide) hq ?_ (jt_fk f1 f2 (by omega)) (fun u1 hu => ?_)
    · rw [p1 _ hq, jt_pr_new k hk]; exact Bool.and_false _
    · obtain ⟨fc, we, lo, hi, ex, a1, a2, a3, a4, a5, a6, a7, a8, a9, a10, a11, a12, a13⟩ := u1
      refine br_t rfl (nm_r (nI_1 k) (hJ _ _ _ _ _ _ _ _ _ _ _ _ _ _ _ _ _ _ _ hu (fun p hp => p0 p hp) (fun p hp => ?_)))
      show (P 1 p || decide (p = k * 5 % 8)) = _
      rw [p1 p hp, jt_pr_s]
      by_cases e : k * 5 % 8 = p
      · rw [← e, h1, decide_eq_true rfl, Bool.or_true, Bool.or_true]; rfl
      · rw [decide_eq_false e, decide_eq_false (fun q => e q.symm), Bool.or_false, Bool.or_false]
theorem jt_l54 (w5 : jt_w8 x5) (w6 : jt_w8 x6) (f1 : -2000000000 ≤ x7.toInt) (f2 : x7.toInt ≤ 2000000000) (H : post 1 ()) : ∀ d k : Nat, k + d = 8 → ∀ (fc we lo hi ex : Int32) (a1 a2 a3 a4 a5 a6 a7 a8 a9 a10 a11 a12 a13 : Nat → Int32) P, jt_I (jt_V x7.toInt P) (fc, we, lo, hi, ex, a1, a2, a3, a4, a5, a6, a7, a8, a9, a10, a11, a12, a13) → (∀ p, p < 8 → P 0 p = (jt_bt x5 p && jt_pr k p)) → (∀ p, p < 8 → P 1 p = (jt_bt x6 p && jt_pr k p)) →
    wL_lawOf_54 post mc ms x2 x3 x5 x6 x7 kc ks (d + 1) (nI k) fc we lo hi ex a1 a2 a3 a4 a5 a6 a7 a8 a9 a10 a11 a12 a13 := by
  intro d
  induction d with
  | zero =>
    intro k hk fc we lo hi ex a1 a2 a3 a4 a5 a6 a7 a8 a9 a10 a11 a12 a13 P hI p0 p1
    have hk8 : k = 8 := by omega
    subst hk8
    replace p0 : ∀ p, p < 8 → P 0 p = jt_bt x5 p := fun p hp => by rw [p0 p hp, jt_pr_8 p hp, Bool.and_true]
    replace p1 : ∀ p, p < 8 → P 1 p = jt_bt x6 p := fun p hp => by rw [p1 p hp, jt_pr_8 p hp, Bool.and_true]
    refine pk_le 8 8 (fun _ => ?_) (fun q => absurd q (by omega))
    obtain ⟨j, hj, ej⟩ := pk_andE x2 (m := 3) 2 (by decide)
    replace hj : j < 4 := hj
    refine nm_r ej (pk_eq j 0 (fun h0 => ?_) (fun h0 => pk_eq j 1 (fun h1 => ?_) (fun h1 => pk_eq j 2 (fun h2 => ?_) (fun h2 => ?_))))
    · refine jt_l189 hj w5 w6 (jt_w8_or w5 w6) f1 f2 hI p0 p1 (fun p hp => ?_) H
      rw [jt_b_or]
      unfold jt_c4 jt_cn
      subst h0
      cases jt_bt x5 p <;> cases jt_bt x6 p <;> simp
    · refine jt_l189 hj w5 w6 (jt_w8_and w5) f1 f2 hI p0 p1 (fun p hp => ?_) H
      rw [jt_b_and]
      unfold jt_c4 jt_cn
      subst h1
      cases jt_bt x5 p <;> cases jt_bt x6 p <;> simp
    · refine jt_l189 hj w5 w6 (jt_w8_and w5) f1 f2 hI p0 p1 (fun p hp => ?_) H
      rw [jt_b_and, jt_b_not x6 (by omega)]
      unfold jt_c4 jt_cn
      subst h2
      cases jt_bt x5 p <;> cases jt_bt x6 p <;> simp
    · refine jt_l189 hj w5 w6 (jt_w8_xor w5 w6) f1 f2 hI p0 p1 (fun p hp => ?_) H
      rw [jt_b_xor]
      unfold jt_c4 jt_cn
      have h3 : j = 3 := by omega
      subst h3
      cases jt_bt x5 p <;> cases jt_bt x6 p <;> simp
  | succ d ih =>
    intro k hk fc we lo hi ex a1 a2 a3 a4 a5 a6 a7 a8 a9 a10 a11 a12 a13 P hI p0 p1
    have hk8 : k < 8 := by omega
    have hq : k * 5 % 8 < 8 := by omega
    have e5 : nI k * 5 &&& 7 = nI (k * 5 % 8) := by
      rw [show nI k * 5 = nI (k * 5) from pk_mul k 5]
      exact pk_andN (by omega) 3 (by decide)
    refine pk_le 8 k (fun q => absurd q (by omega)) (fun _ => nm_r e5 ?_)
    refine ek_if (jt_w8_test w5 hq) (fun h => ?_) (fun h => ?_)
    · refine jt_l100 hk8 w6 f1 f2 hI (fun p hp => ?_) p1 (fun fc we lo hi ex a1 a2 a3 a4 a5 a6 a7 a8 a9 a10 a11 a12 a13 P' h1 h2 h3 => ih (k + 1) (by omega) _ _ _ _ _ _ _ _ _ _ _ _ _ _ _ _ _ _ P' h1 h2 h3)
      rw [p0 p hp, jt_pr_s]
      by_cases e : k * 5 % 8 = p
      · rw [← e, h]; rfl
      · rw [decide_eq_false e, Bool.or_false]
    · have h1 : jt_bt x5 (k * 5 % 8) = true := by
        cases hb : jt_bt x5 (k * 5 % 8) with
        | true => rfl
        | false => exact absurd hb h
      refine jt_addV (s := 0) (k := k * 5 % 8) hI (by decide) hq ?_ (jt_fk f1 f2 (by omega)) (fun u1 hu => ?_)
      · rw [p0 _ hq, jt_pr_new k hk8]; exact Bool.and_false _
      · obtain ⟨fc, we, lo, hi, ex, a1, a2, a3, a4, a5, a6, a7, a8, a9, a10, a11, a12, a13⟩ := u1
        refine br_t rfl (jt_l100 hk8 w6 f1 f2 hu (fun p hp => ?_) (fun p hp => p1 p hp) (fun fc we lo hi ex a1 a2 a3 a4 a5 a6 a7 a8 a9 a10 a11 a12 a13 P' h1 h2 h3 => ih (k + 1) (by omega) _ _ _ _ _ _ _ _ _ _ _ _ _ _ _ _ _ _ P' h1 h2 h3))
        show (P 0 p || decide (p = k * 5 % 8)) = _
        rw [p0 p hp, jt_pr_s]
        by_cases e : k * 5 % 8 = p
        · rw [← e, h1, decide_eq_true rfl, Bool.or_true, Bool.or_true]; rfl
        · rw [decide_eq_false e, decide_eq_false (fun q => e q.symm), Bool.or_false, Bool.or_false]
end
end
section
section
variable {fc we lo hi ex : Int32} {a1 a2 a3 a4 a5 a6 a7 a8 a9 a10 a11 a12 a13 : Nat → Int32}
theorem jt_i116 {post : St2 → Prop} {mc ms kc ks : Nat} : ∀ (n : Nat) (FN : Nat → Int32), n ≤ 255 → jt_fr FN (List.range' (n + 1) (255 - n)) → (∀ FN', jt_fr FN' (List.range' 1 255) → post (nI 255, we, lo, hi, ex, a1, a2, a3, a4, a5, FN', a7, a8, a9, a10, a11, a12, a13)) →
    wX_init_116 post mc ms kc ks we lo hi ex (n + 1) (nI n) (nI (255 - n)) a1 a2 a3 a4 a5 FN a7 a8 a9 a10 a11 a12 a13 := by
  intro n
  induction n with
  | zero =>
    intro FN _ hfr H
    exact pk_le 0 0 (fun _ => H FN hfr) (fun z => absurd z (by omega))
  | succ n ih =>
    intro FN hn hfr H
    have hl : (List.range' (n + 1 + 1) (255 - (n + 1))).length = 255 - (n + 1) := List.length_range'
    refine pk_le (n + 1) 0 (fun z => absurd z (by omega)) (fun _ => ?_)
    rw [nI_clamp (show 255 - (n + 1) < 2 ^ 31 by omega), jt_s16 (n + 1) (by omega)]
    refine ⟨pk_in (255 - (n + 1)) 256 (by omega), nm_e (nm_r (e' := nI (255 - n)) ?_ (nm_r (pk_m1 n) (ih _ (by omega) ?_ H)))⟩
    · rw [nI_1, show 255 - (n + 1) + 1 = 255 - n by omega]
    · rw [show 255 - n = (255 - (n + 1)) + 1 by omega, List.range'_succ]
      have p := jt_fr_push (n + 1) hfr
      rw [hl] at p
      exact p
theorem jt_I0 {F : Int} {FN : Nat → Int32} (hfr : jt_fr FN (List.range' 1 255)) : jt_I (jt_V F (fun _ _ => false)) (nI 255, we, lo, hi, ex, fun _ => 0, fun _ => 0, fun _ => 0, fun _ => 0, fun _ => 0, FN, a7, a8, a9, a10, a11, a12, a13) := by
  refine ⟨fun _ => .leaf (), List.range' 1 255, ?_, hfr, rfl, fun i _ _ => ⟨rfl, trivial, ?_, jt_S_sd _ _, jt_S_8 _ _⟩, fun z => absurd z (by decide), fun j => ?_, fun j hj => ?_, ?_⟩
  · rw [List.length_range']
  · exact (jt_S_emp F).symm
  · have := List.nodup_iff_count.mp (List.nodup_range' (s := 1) (n := 255)) j
    show List.count j (List.range' 1 255) + 0 + 0 ≤ 1
    omega
  · have h2 : 0 < List.count j (List.range' 1 255) + 0 + 0 := hj
    have h3 := List.mem_range'_1.mp (jt_mc (show 0 < List.count j (List.range' 1 255) by omega))
    omega
  · rw [List.length_range']; rfl
end
theorem jt_lawOf {post : Int32 → St0 → Prop} {r1 r2 r3 r4 : Int32} (H : post 1 ()) : wpL_lawOf post 446 7136 () r1 r2 r3 r4 := by
  unfold wpL_lawOf
  refine ⟨by decide, by decide, 13, 1572, by decide, by decide, ?_⟩
  unfold wpX_init
  dsimp only
  refine ⟨by decide, by decide, by decide, by decide, by decide, by decide, by decide, by decide, by decide, by decide, by decide, by decide, by decide, by decide, by decide, by decide, by decide, by decide, by decide, by decide, by decide, by decide, by decide, by decide, by decide, by decide, 255 + 1, ?_⟩
  refine jt_i116 255 _ (by decide) trivial (fun FN hfr => ?_)
  dsimp only
  have w5 : jt_w8 (r2 &&& 255) := jt_w8_255 _
  have w6 : jt_w8 (r2 >>> ((8 : Int32) &&& 31) &&& 255) := jt_w8_255 _
  have go : ∀ x7 : Int32, -2000000000 ≤ x7.toInt → x7.toInt ≤ 2000000000 → ∃ fu, wL_lawOf_54 post 446 7136 r3 r4 (r2 &&& 255) (r2 >>> ((8 : Int32) &&& 31) &&& 255) x7 (1 + 13) (18 + 1572) fu 0 (nI 255) 0 0 0 0 (fun _ => 0) (fun _ => 0) (fun _ => 0) (fun _ => 0) (fun _ => 0) FN (fun _ => 0) (fun _ => 0) (fun _ => 0) (fun _ => 0) (fun _ => 0) (fun _ => 0) (fun _ => 0) :=
    fun x7 f1 f2 => ⟨8 + 1, jt_l54 w5 w6 f1 f2 H 8 0 rfl _ _ _ _ _ _ _ _ _ _ _ _ _ _ _ _ _ _ (fun _ _ => false) (jt_I0 hfr) (fun p _ => (Bool.and_false _).symm) (fun p _ => (Bool.and_false _).symm)⟩
  refine nm_e (nm_e (br_c (fun h1 => br_c (fun h2 => go r1 ?_ ?_) (fun h2 => go 2000000000 (by decide) (by decide))) (fun h1 => go (-2000000000) (by decide) (by decide))))
  · exact jt_le_i.mp h1
  · exact jt_le_i.mp h2
theorem jt_cell {post : Int32 → Prop} {L : Nat} {xs : Nat → Int32} {i : Nat} (hL : L ≤ 4) (hi : i < 4) (H : ∀ v, post v) : wpL_cellAt post L xs () (nI i) := by
  unfold wpL_cellAt
  exact pk_le L i (fun _ => H _) (fun h => ⟨pk_in i L h, H _⟩)
theorem i_vc (xs : Nat → Int32) (L : Nat) (hL : L ≤ 4) : wpL_law (fun r => r = 1) L xs := by
  unfold wpL_law
  exact jt_cell (i := 0) hL (by decide) (fun r1 => jt_cell (i := 1) hL (by decide) (fun r2 => jt_cell (i := 2) hL (by decide) (fun r3 => jt_cell (i := 3) hL (by decide) (fun r4 => ⟨446, 7136, by decide, by decide, jt_lawOf rfl⟩))))
end
