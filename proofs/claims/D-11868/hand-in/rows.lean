section
/-! The picture: three vertices; the pair 01 stands at places 1 and 6, the pair 12 at 8 and 13, the pair 02 at 2 and 12. -/
def tc_E (x y z : Int32) (f : Nat → Int32) : Prop := f 1 = x ∧ f 6 = x ∧ f 8 = y ∧ f 13 = y ∧ f 2 = z ∧ f 12 = z
theorem tc_ix (u v : Nat) : nI u * 6 + nI v = nI (u * 6 + v) := by
  rw [show (6 : Int32) = nI 6 from rfl, pk_mul, nI_add]
theorem tc_in {u v : Nat} (hu : u < 6) (hv : v < 6) : vp_in (nI u * 6 + nI v) 36 := by
  rw [tc_ix]
  exact vp_in_nI (by omega) (by decide)
theorem tc_cl {u v : Nat} (hu : u < 6) (hv : v < 6) : (nI u * 6 + nI v).toNatClampNeg = u * 6 + v := by
  rw [tc_ix, nI_clamp (by omega)]
section
variable {post : St2 → Prop} {w s : Int32} {a1 a2 a3 : Nat → Int32} {a4 a5 : Nat → Int64} {a6 : Nat → Int32}
theorem tc_m76a {g : Nat → Int32} {x5 x6 : Int32} {i : Nat} (hi : i < 3) (h : ∀ j, j < 3 → g j = if j < i ∧ a3 j = x6 then x5 else a3 j) (e : g (nI i).toNatClampNeg = x6) : ∀ j, j < 3 → upd g (nI i).toNatClampNeg x5 j = if j < i + 1 ∧ a3 j = x6 then x5 else a3 j := by
  rw [nI_clamp (by omega)] at e ⊢
  have hg : g i = a3 i := by
    rw [h i hi, if_neg (fun z => absurd z.1 (by omega))]
  intro j hj
  by_cases k : j = i
  · subst k
    rw [pk_us, if_pos ⟨by omega, by rw [← hg, e]⟩]
  · rw [pk_un k, h j hj]
    have t : (j < i + 1) = (j < i) := propext ⟨fun z => by omega, fun z => by omega⟩
    simp only [t]
theorem tc_m76b {g : Nat → Int32} {x5 x6 : Int32} {i : Nat} (hi : i < 3) (h : ∀ j, j < 3 → g j = if j < i ∧ a3 j = x6 then x5 else a3 j) (e : ¬ g (nI i).toNatClampNeg = x6) : ∀ j, j < 3 → g j = if j < i + 1 ∧ a3 j = x6 then x5 else a3 j := by
  rw [nI_clamp (by omega)] at e
  have hg : g i = a3 i := by
    rw [h i hi, if_neg (fun z => absurd z.1 (by omega))]
  intro j hj
  by_cases k : j = i
  · subst k
    rw [hg] at e
    rw [hg, if_neg (fun z => e z.2)]
  · rw [h j hj]
    have t : (j < i + 1) = (j < i) := propext ⟨fun z => by omega, fun z => by omega⟩
    simp only [t]
theorem tc_m76 {x5 x6 : Int32} (H : ∀ g : Nat → Int32, (∀ j, j < 3 → g j = if a3 j = x6 then x5 else a3 j) → post (3, w, s, a1, a2, g, a4, a5, a6)) :
    ∃ n, wX_mergeGroups_76 post x5 x6 3 w s n 0 a1 a2 a3 a4 a5 a6 :=
  pk_loop (fun n i g => wX_mergeGroups_76 post x5 x6 3 w s n (nI i) a1 a2 g a4 a5 a6)
    (fun i g => ∀ j, j < 3 → g j = if j < i ∧ a3 j = x6 then x5 else a3 j) 3 0 a3 (by omega)
    (fun j hj => by rw [if_neg (fun z => absurd z.1 (by omega))])
    (fun n g h => pk_le 3 3 (fun _ => H g (fun j hj => by rw [h j hj]; simp only [hj, true_and])) (fun z => absurd z (by omega)))
    (fun n i g hi h hw => pk_le 3 i (fun z => absurd z (by omega)) (fun _ => ⟨pk_in i 6 (by omega),
      br_c (fun e => ⟨pk_in i 6 (by omega), nm_e (nm_r (nI_1 i) (hw _ (tc_m76a hi h e)))⟩) (fun e => nm_r (nI_1 i) (hw _ (tc_m76b hi h e)))⟩))
theorem tc_m41 {x3 x4 z0 : Int32} (H : ∀ g : Nat → Int32, (∀ j, j < 3 → g j = if a3 j = (if x4 ≤ x3 then x3 else x4) then (if x4 ≤ x3 then x4 else x3) else a3 j) → post (3, w * z0, s, a1, a2, g, a4, a5, a6)) :
    wX_mergeGroups_41 post x3 x4 z0 w 3 w s a1 a2 a3 a4 a5 a6 := by
  unfold wX_mergeGroups_41
  refine nm_e ?_
  by_cases c : x4 ≤ x3
  · simp only [if_pos c] at H
    refine br_t c ?_
    unfold wX_mergeGroups_57
    exact br_t c (tc_m76 H)
  · simp only [if_neg c] at H
    refine br_f c ?_
    unfold wX_mergeGroups_57
    exact br_f c (tc_m76 H)
/-- what a merge of the groups gu and gv makes of the group g, if the mode m bids it -/
def tc_mg (m : Int32) (gu gv g : Nat) : Nat := if m = 1 then (if g = max gu gv then min gu gv else g) else g
/-- and of the ways -/
def tc_mw (m e w : Int32) (gu gv : Nat) : Int32 := if m = 1 then w * (if gu = gv then 0 else e) else w
theorem tc_mgI {gu gv k : Nat} (hu : gu < 3) (hv : gv < 3) (hk : k < 3) :
    (if nI k = (if nI gv ≤ nI gu then nI gu else nI gv) then (if nI gv ≤ nI gu then nI gv else nI gu) else nI k) = nI (tc_mg 1 gu gv k) := by
  have h1 : (nI gv ≤ nI gu) = (gv ≤ gu) := propext (nI_leI (by omega) (by omega))
  unfold tc_mg
  rw [if_pos rfl]
  simp only [h1]
  by_cases c : gv ≤ gu
  · simp only [if_pos c, nI_eq (show k < 2 ^ 31 by omega) (show gu < 2 ^ 31 by omega), Nat.max_eq_left c, Nat.min_eq_right c]
    by_cases e : k = gu
    · rw [if_pos e, if_pos e]
    · rw [if_neg e, if_neg e]
  · have c' : gu ≤ gv := by omega
    simp only [if_neg c, nI_eq (show k < 2 ^ 31 by omega) (show gv < 2 ^ 31 by omega), Nat.max_eq_right c', Nat.min_eq_left c']
    by_cases e : k = gv
    · rw [if_pos e, if_pos e]
    · rw [if_neg e, if_neg e]
theorem tc_merge (u v : Nat) (hu : u < 3) (hv : v < 3) (gs : Nat → Nat) (hg : ∀ j, j < 3 → a3 j = nI (gs j) ∧ gs j < 3)
    (H : ∀ g : Nat → Int32, (∀ j, j < 3 → g j = nI (tc_mg 1 (gs u) (gs v) (gs j))) → post (3, tc_mw 1 (a1 (u * 6 + v)) w (gs u) (gs v), s, a1, a2, g, a4, a5, a6)) :
    wpX_mergeGroups post (3, w, s, a1, a2, a3, a4, a5, a6) (nI u) (nI v) := by
  unfold wpX_mergeGroups
  dsimp only
  have G : ∀ g : Nat → Int32, (∀ j, j < 3 → g j = if a3 j = (if nI (gs v) ≤ nI (gs u) then nI (gs u) else nI (gs v)) then (if nI (gs v) ≤ nI (gs u) then nI (gs v) else nI (gs u)) else a3 j) → (∀ j, j < 3 → g j = nI (tc_mg 1 (gs u) (gs v) (gs j))) := by
    intro g h j hj
    rw [h j hj, (hg j hj).1]
    exact tc_mgI (hg u hu).2 (hg v hv).2 (hg j hj).2
  refine ⟨pk_in u 6 (by omega), nm_r (e' := nI (gs u)) (by rw [nI_clamp (by omega)]; exact (hg u hu).1) ⟨pk_in v 6 (by omega), nm_r (e' := nI (gs v)) (by rw [nI_clamp (by omega)]; exact (hg v hv).1) ?_⟩⟩
  have hgu := (hg u hu).2
  have hgv := (hg v hv).2
  refine pk_eq (gs u) (gs v) (fun c => tc_m41 (fun g h => ?_)) (fun c => ⟨tc_in (by omega) (by omega), tc_m41 (fun g h => ?_)⟩)
  · have t := H g (G g h)
    unfold tc_mw at t
    rw [if_pos rfl, if_pos c] at t
    exact t
  · have t := H g (G g h)
    unfold tc_mw at t
    rw [if_pos rfl, if_neg c] at t
    rw [tc_cl (by omega) (by omega)]
    exact t
theorem tc_mg_lt {m : Int32} {gu gv g : Nat} (hu : gu < 3) (hv : gv < 3) (hg : g < 3) : tc_mg m gu gv g < 3 := by
  unfold tc_mg
  by_cases c : m = 1
  · rw [if_pos c]
    by_cases e : g = max gu gv
    · rw [if_pos e]
      omega
    · rw [if_neg e]
      exact hg
  · rw [if_neg c]
    exact hg
end
end
section
/-- the groups behind the pairs 01, 02, 12 (modes p, r, q) -/
def tc_g1 (p : Int32) (j : Nat) : Nat := tc_mg p 0 1 j
def tc_g2 (p r : Int32) (j : Nat) : Nat := tc_mg r (tc_g1 p 0) (tc_g1 p 2) (tc_g1 p j)
def tc_g3 (p q r : Int32) (j : Nat) : Nat := tc_mg q (tc_g2 p r 1) (tc_g2 p r 2) (tc_g2 p r j)
/-- and the ways -/
def tc_w1 (p a : Int32) : Int32 := tc_mw p a 1 0 1
def tc_w2 (p r a d : Int32) : Int32 := tc_mw r d (tc_w1 p a) (tc_g1 p 0) (tc_g1 p 2)
def tc_w3 (p q r a b d : Int32) : Int32 := tc_mw q b (tc_w2 p r a d) (tc_g2 p r 1) (tc_g2 p r 2)
section
variable {post : St2 → Prop} {w s : Int32} {a1 a2 a3 : Nat → Int32} {a4 a5 : Nat → Int64} {a6 : Nat → Int32}
theorem tc_id {g : Nat → Int32} {i : Nat} (hi : i < 3) (h : ∀ j, j < i → g j = nI j) : ∀ j, j < i + 1 → upd g (nI i).toNatClampNeg (nI i) j = nI j := by
  rw [nI_clamp (by omega)]
  intro j hj
  by_cases k : j = i
  · rw [k, pk_us]
  · rw [pk_un k]
    exact h j (by omega)
theorem tc_c7 (H : ∀ g : Nat → Int32, (∀ j, j < 3 → g j = nI j) → ∃ n, wX_contract_30 post n 0 3 w s a1 a2 g a4 a5 a6) :
    ∃ n, wX_contract_7 post 3 w s n 0 a1 a2 a3 a4 a5 a6 :=
  pk_loop (fun n i g => wX_contract_7 post 3 w s n (nI i) a1 a2 g a4 a5 a6) (fun i g => ∀ j, j < i → g j = nI j) 3 0 a3 (by omega) (fun j hj => absurd hj (by omega))
    (fun n g h => pk_le 3 3 (fun _ => H g h) (fun z => absurd z (by omega)))
    (fun n i g hi h hw => pk_le 3 i (fun z => absurd z (by omega)) (fun _ => ⟨pk_in i 6 (by omega), nm_e (nm_r (nI_1 i) (hw _ (tc_id hi h)))⟩))
theorem tc_k7 {v0 : Int32} (H : ∀ g : Nat → Int32, (∀ j, j < 3 → g j = nI j) → ∃ n, wX_contractWithout_30 post v0 n 0 3 w s a1 a2 g a4 a5 a6) :
    ∃ n, wX_contractWithout_7 post v0 3 w s n 0 a1 a2 a3 a4 a5 a6 :=
  pk_loop (fun n i g => wX_contractWithout_7 post v0 3 w s n (nI i) a1 a2 g a4 a5 a6) (fun i g => ∀ j, j < i → g j = nI j) 3 0 a3 (by omega) (fun j hj => absurd hj (by omega))
    (fun n g h => pk_le 3 3 (fun _ => H g h) (fun z => absurd z (by omega)))
    (fun n i g hi h hw => pk_le 3 i (fun z => absurd z (by omega)) (fun _ => ⟨pk_in i 6 (by omega), nm_e (nm_r (nI_1 i) (hw _ (tc_id hi h)))⟩))
theorem tc_c42 {J : Int32 → Int32 → Int32 → Int32 → (Nat → Int32) → (Nat → Int32) → (Nat → Int32) → (Nat → Int64) → (Nat → Int64) → (Nat → Int32) → Prop} {n : Nat} (u v : Nat) (hu : u < 3) (hv : v < 3) (gs : Nat → Nat) (hg : ∀ j, j < 3 → a3 j = nI (gs j) ∧ gs j < 3)
    (H : ∀ g : Nat → Int32, (∀ j, j < 3 → g j = nI (tc_mg (a2 (u * 6 + v)) (gs u) (gs v) (gs j)) ∧ tc_mg (a2 (u * 6 + v)) (gs u) (gs v) (gs j) < 3) → wX_contract_42 post J (nI u) n (nI (v + 1)) 3 (tc_mw (a2 (u * 6 + v)) (a1 (u * 6 + v)) w (gs u) (gs v)) s a1 a2 g a4 a5 a6) :
    wX_contract_42 post J (nI u) (n + 1) (nI v) 3 w s a1 a2 a3 a4 a5 a6 := by
  refine br_f (nI_ge hv (by decide)) ⟨tc_in (by omega) (by omega), ?_⟩
  rw [tc_cl (show u < 6 by omega) (show v < 6 by omega)]
  by_cases c : a2 (u * 6 + v) = 1
  · refine br_t c (tc_merge u v hu hv gs hg (fun g h => nm_r (nI_1 v) ?_))
    rw [c] at H
    exact H g (fun j hj => ⟨h j hj, tc_mg_lt (hg u hu).2 (hg v hv).2 (hg j hj).2⟩)
  · refine br_f c (nm_r (nI_1 v) ?_)
    have e1 : ∀ k, tc_mg (a2 (u * 6 + v)) (gs u) (gs v) k = k := fun k => by unfold tc_mg; rw [if_neg c]
    have e2 : tc_mw (a2 (u * 6 + v)) (a1 (u * 6 + v)) w (gs u) (gs v) = w := by unfold tc_mw; rw [if_neg c]
    rw [e2] at H
    exact H a3 (fun j hj => by rw [e1]; exact hg j hj)
theorem tc_k42 {J : Int32 → Int32 → Int32 → Int32 → (Nat → Int32) → (Nat → Int32) → (Nat → Int32) → (Nat → Int64) → (Nat → Int64) → (Nat → Int32) → Prop} {n v0 : Nat} (u v : Nat) (hu : u < 3) (hv : v < 3) (h0 : v0 < 3) (hu0 : u ≠ v0) (hv0 : v ≠ v0) (gs : Nat → Nat) (hg : ∀ j, j < 3 → a3 j = nI (gs j) ∧ gs j < 3)
    (H : ∀ g : Nat → Int32, (∀ j, j < 3 → g j = nI (tc_mg (a2 (u * 6 + v)) (gs u) (gs v) (gs j)) ∧ tc_mg (a2 (u * 6 + v)) (gs u) (gs v) (gs j) < 3) → wX_contractWithout_42 post J (nI v0) (nI u) n (nI (v + 1)) 3 (tc_mw (a2 (u * 6 + v)) (a1 (u * 6 + v)) w (gs u) (gs v)) s a1 a2 g a4 a5 a6) :
    wX_contractWithout_42 post J (nI v0) (nI u) (n + 1) (nI v) 3 w s a1 a2 a3 a4 a5 a6 := by
  refine br_f (nI_ge hv (by decide)) (pk_eq u v0 (fun z => absurd z hu0) (fun _ => pk_eq v v0 (fun z => absurd z hv0) (fun _ => ⟨tc_in (by omega) (by omega), ?_⟩)))
  rw [tc_cl (show u < 6 by omega) (show v < 6 by omega)]
  by_cases c : a2 (u * 6 + v) = 1
  · refine br_t c (tc_merge u v hu hv gs hg (fun g h => nm_r (nI_1 v) ?_))
    rw [c] at H
    exact H g (fun j hj => ⟨h j hj, tc_mg_lt (hg u hu).2 (hg v hv).2 (hg j hj).2⟩)
  · refine br_f c (nm_r (nI_1 v) ?_)
    have e1 : ∀ k, tc_mg (a2 (u * 6 + v)) (gs u) (gs v) k = k := fun k => by unfold tc_mg; rw [if_neg c]
    have e2 : tc_mw (a2 (u * 6 + v)) (a1 (u * 6 + v)) w (gs u) (gs v) = w := by unfold tc_mw; rw [if_neg c]
    rw [e2] at H
    exact H a3 (fun j hj => by rw [e1]; exact hg j hj)
theorem tc_k42s {J : Int32 → Int32 → Int32 → Int32 → (Nat → Int32) → (Nat → Int32) → (Nat → Int32) → (Nat → Int64) → (Nat → Int64) → (Nat → Int32) → Prop} {n v0 : Nat} (u v : Nat) (hu : u < 3) (hv : v < 3) (h0 : v0 < 3) (h : u = v0 ∨ v = v0)
    (H : wX_contractWithout_42 post J (nI v0) (nI u) n (nI (v + 1)) 3 w s a1 a2 a3 a4 a5 a6) :
    wX_contractWithout_42 post J (nI v0) (nI u) (n + 1) (nI v) 3 w s a1 a2 a3 a4 a5 a6 :=
  br_f (nI_ge hv (by decide)) (pk_eq u v0 (fun _ => nm_r (nI_1 v) H) (fun z => pk_eq v v0 (fun _ => nm_r (nI_1 v) H) (fun z2 => absurd h (by omega))))
theorem tc_c42e {J : Int32 → Int32 → Int32 → Int32 → (Nat → Int32) → (Nat → Int32) → (Nat → Int32) → (Nat → Int64) → (Nat → Int64) → (Nat → Int32) → Prop} {n : Nat} (u : Nat)
    (H : J (nI (u + 1)) 3 w s a1 a2 a3 a4 a5 a6) : wX_contract_42 post J (nI u) (n + 1) (nI 3) 3 w s a1 a2 a3 a4 a5 a6 :=
  pk_le 3 3 (fun _ => nm_r (nI_1 u) H) (fun z => absurd z (by omega))
theorem tc_k42e {J : Int32 → Int32 → Int32 → Int32 → (Nat → Int32) → (Nat → Int32) → (Nat → Int32) → (Nat → Int64) → (Nat → Int64) → (Nat → Int32) → Prop} {v0 : Int32} {n : Nat} (u : Nat)
    (H : J (nI (u + 1)) 3 w s a1 a2 a3 a4 a5 a6) : wX_contractWithout_42 post J v0 (nI u) (n + 1) (nI 3) 3 w s a1 a2 a3 a4 a5 a6 :=
  pk_le 3 3 (fun _ => nm_r (nI_1 u) H) (fun z => absurd z (by omega))
theorem tc_c30 {n : Nat} (u : Nat) (hu : u < 3) (H : ∃ k, wX_contract_42 post (wX_contract_30 post n) (nI u) k (nI (u + 1)) 3 w s a1 a2 a3 a4 a5 a6) :
    wX_contract_30 post (n + 1) (nI u) 3 w s a1 a2 a3 a4 a5 a6 :=
  br_f (nI_ge hu (by decide)) (nm_r (nI_1 u) H)
theorem tc_k30 {v0 : Int32} {n : Nat} (u : Nat) (hu : u < 3) (H : ∃ k, wX_contractWithout_42 post (wX_contractWithout_30 post v0 n) v0 (nI u) k (nI (u + 1)) 3 w s a1 a2 a3 a4 a5 a6) :
    wX_contractWithout_30 post v0 (n + 1) (nI u) 3 w s a1 a2 a3 a4 a5 a6 :=
  br_f (nI_ge hu (by decide)) (nm_r (nI_1 u) H)
theorem tc_c30e {n : Nat} (H : post (3, w, s, a1, a2, a3, a4, a5, a6)) : wX_contract_30 post (n + 1) (nI 3) 3 w s a1 a2 a3 a4 a5 a6 :=
  pk_le 3 3 (fun _ => H) (fun z => absurd z (by omega))
theorem tc_k30e {v0 : Int32} {n : Nat} (H : post (3, w, s, a1, a2, a3, a4, a5, a6)) : wX_contractWithout_30 post v0 (n + 1) (nI 3) 3 w s a1 a2 a3 a4 a5 a6 :=
  pk_le 3 3 (fun _ => H) (fun z => absurd z (by omega))
theorem tc_contract (H : ∀ g : Nat → Int32, (∀ j, j < 3 → g j = nI (tc_g3 (a2 1) (a2 8) (a2 2) j) ∧ tc_g3 (a2 1) (a2 8) (a2 2) j < 3) → post (3, tc_w3 (a2 1) (a2 8) (a2 2) (a1 1) (a1 8) (a1 2), s, a1, a2, g, a4, a5, a6)) :
    wpX_contract post (3, w, s, a1, a2, a3, a4, a5, a6) := by
  unfold wpX_contract
  dsimp only
  refine tc_c7 (fun g0 h0 => ⟨4, tc_c30 0 (by omega) ⟨3, tc_c42 0 1 (by omega) (by omega) (fun j => j) (fun j hj => ⟨h0 j hj, hj⟩) (fun g1 h1 => tc_c42 0 2 (by omega) (by omega) (tc_g1 (a2 1)) h1 (fun g2 h2 => tc_c42e 0 ?_))⟩⟩)
  refine tc_c30 1 (by omega) ⟨2, tc_c42 1 2 (by omega) (by omega) (tc_g2 (a2 1) (a2 2)) h2 (fun g3 h3 => tc_c42e 1 ?_)⟩
  exact tc_c30 2 (by omega) ⟨1, tc_c42e 2 (tc_c30e (H g3 h3))⟩
theorem tc_cw0 (H : ∀ g : Nat → Int32, (∀ j, j < 3 → g j = nI (tc_mg (a2 8) 1 2 j) ∧ tc_mg (a2 8) 1 2 j < 3) → post (3, tc_mw (a2 8) (a1 8) 1 1 2, s, a1, a2, g, a4, a5, a6)) :
    wpX_contractWithout post (3, w, s, a1, a2, a3, a4, a5, a6) (nI 0) := by
  unfold wpX_contractWithout
  dsimp only
  refine tc_k7 (fun g0 h0 => ⟨4, tc_k30 0 (by omega) ⟨3, tc_k42s 0 1 (by omega) (by omega) (by omega) (Or.inl rfl) (tc_k42s 0 2 (by omega) (by omega) (by omega) (Or.inl rfl) (tc_k42e 0 ?_))⟩⟩)
  refine tc_k30 1 (by omega) ⟨2, tc_k42 1 2 (by omega) (by omega) (by omega) (by omega) (by omega) (fun j => j) (fun j hj => ⟨h0 j hj, hj⟩) (fun g3 h3 => tc_k42e 1 ?_)⟩
  exact tc_k30 2 (by omega) ⟨1, tc_k42e 2 (tc_k30e (H g3 h3))⟩
theorem tc_cw1 (H : ∀ g : Nat → Int32, (∀ j, j < 3 → g j = nI (tc_mg (a2 2) 0 2 j) ∧ tc_mg (a2 2) 0 2 j < 3) → post (3, tc_mw (a2 2) (a1 2) 1 0 2, s, a1, a2, g, a4, a5, a6)) :
    wpX_contractWithout post (3, w, s, a1, a2, a3, a4, a5, a6) (nI 1) := by
  unfold wpX_contractWithout
  dsimp only
  refine tc_k7 (fun g0 h0 => ⟨4, tc_k30 0 (by omega) ⟨3, tc_k42s 0 1 (by omega) (by omega) (by omega) (Or.inr rfl) (tc_k42 0 2 (by omega) (by omega) (by omega) (by omega) (by omega) (fun j => j) (fun j hj => ⟨h0 j hj, hj⟩) (fun g3 h3 => tc_k42e 0 ?_))⟩⟩)
  refine tc_k30 1 (by omega) ⟨2, tc_k42s 1 2 (by omega) (by omega) (by omega) (Or.inl rfl) (tc_k42e 1 ?_)⟩
  exact tc_k30 2 (by omega) ⟨1, tc_k42e 2 (tc_k30e (H g3 h3))⟩
theorem tc_cw2 (H : ∀ g : Nat → Int32, (∀ j, j < 3 → g j = nI (tc_mg (a2 1) 0 1 j) ∧ tc_mg (a2 1) 0 1 j < 3) → post (3, tc_mw (a2 1) (a1 1) 1 0 1, s, a1, a2, g, a4, a5, a6)) :
    wpX_contractWithout post (3, w, s, a1, a2, a3, a4, a5, a6) (nI 2) := by
  unfold wpX_contractWithout
  dsimp only
  refine tc_k7 (fun g0 h0 => ⟨4, tc_k30 0 (by omega) ⟨3, tc_k42 0 1 (by omega) (by omega) (by omega) (by omega) (by omega) (fun j => j) (fun j hj => ⟨h0 j hj, hj⟩) (fun g3 h3 => tc_k42s 0 2 (by omega) (by omega) (by omega) (Or.inr rfl) (tc_k42e 0 ?_))⟩⟩)
  refine tc_k30 1 (by omega) ⟨2, tc_k42s 1 2 (by omega) (by omega) (by omega) (Or.inr rfl) (tc_k42e 1 ?_)⟩
  exact tc_k30 2 (by omega) ⟨1, tc_k42e 2 (tc_k30e (H g3 h3))⟩
end
end
section
/-- what the pair (u, v) adds to place j of the degree matrix -/
def tc_dl (m e : Int32) (gu gv j : Nat) : Int64 := if gu = gv ∨ ¬ m = 0 then 0 else (if j = gu * 6 + gu then e.toInt64 else 0) - (if j = gu * 6 + gv then e.toInt64 else 0)
def tc_D (gs : Nat → Nat) (a1 a2 : Nat → Int32) (j : Nat) : Int64 :=
  0 + tc_dl (a2 1) (a1 1) (gs 0) (gs 1) j + tc_dl (a2 2) (a1 2) (gs 0) (gs 2) j + tc_dl (a2 6) (a1 6) (gs 1) (gs 0) j + tc_dl (a2 8) (a1 8) (gs 1) (gs 2) j + tc_dl (a2 12) (a1 12) (gs 2) (gs 0) j + tc_dl (a2 13) (a1 13) (gs 2) (gs 1) j
theorem tc_dl0 {m e : Int32} {gu gv : Nat} (h : gu = gv ∨ ¬ m = 0) (D : Nat → Int64) : ∀ j, D j = D j + tc_dl m e gu gv j := by
  intro j
  unfold tc_dl
  rw [if_pos h, Int64.add_zero]
theorem tc_dlu {m e : Int32} {gu gv : Nat} (h : ¬ gu = gv) (hm : m = 0) (D : Nat → Int64) : ∀ j, vp_updL (vp_updL D (gu * 6 + gv) (D (gu * 6 + gv) - e.toInt64)) (gu * 6 + gu) (vp_updL D (gu * 6 + gv) (D (gu * 6 + gv) - e.toInt64) (gu * 6 + gu) + e.toInt64) j = D j + tc_dl m e gu gv j := by
  intro j
  unfold tc_dl
  rw [if_neg (fun z => z.elim h (fun y => y hm))]
  by_cases c : j = gu * 6 + gu
  · rw [c, pk_uLs, pk_uLn (by omega), if_pos rfl, if_neg (by omega)]
    grind
  · rw [pk_uLn c, if_neg c]
    by_cases c2 : j = gu * 6 + gv
    · rw [c2, pk_uLs, if_pos rfl]
      grind
    · rw [pk_uLn c2, if_neg c2]
      grind
section
variable {post : St2 → Prop} {w s : Int32} {a1 a2 a3 : Nat → Int32} {a4 a5 : Nat → Int64} {a6 : Nat → Int32}
theorem tc_f33d {J : Int32 → (Nat → Int32) → (Nat → Int32) → (Nat → Int32) → (Nat → Int64) → (Nat → Int64) → (Nat → Int32) → Prop} {n : Nat} (u : Nat) (hu : u < 3)
    (H : wX_fillMatrix_33 post J (nI u) 3 w s n (nI (u + 1)) a1 a2 a3 a4 a5 a6) :
    wX_fillMatrix_33 post J (nI u) 3 w s (n + 1) (nI u) a1 a2 a3 a4 a5 a6 :=
  br_f (nI_ge hu (by decide)) ⟨pk_in u 6 (by omega), nm_e ⟨pk_in u 6 (by omega), nm_e (br_t rfl (nm_r (nI_1 u) H))⟩⟩
theorem tc_f33 {J : Int32 → (Nat → Int32) → (Nat → Int32) → (Nat → Int32) → (Nat → Int64) → (Nat → Int64) → (Nat → Int32) → Prop} {n : Nat} (u v : Nat) (hu : u < 3) (hv : v < 3) (huv : u ≠ v) (gs : Nat → Nat) (hg : ∀ j, j < 3 → a3 j = nI (gs j) ∧ gs j < 3)
    (H : ∀ D : Nat → Int64, (∀ j, D j = a4 j + tc_dl (a2 (u * 6 + v)) (a1 (u * 6 + v)) (gs u) (gs v) j) → wX_fillMatrix_33 post J (nI u) 3 w s n (nI (v + 1)) a1 a2 a3 D a5 a6) :
    wX_fillMatrix_33 post J (nI u) 3 w s (n + 1) (nI v) a1 a2 a3 a4 a5 a6 := by
  have hgu := (hg u hu).2
  have hgv := (hg v hv).2
  refine br_f (nI_ge hv (by decide)) ⟨pk_in u 6 (by omega), nm_r (e' := nI (gs u)) (by rw [nI_clamp (by omega)]; exact (hg u hu).1) ⟨pk_in v 6 (by omega), nm_r (e' := nI (gs v)) (by rw [nI_clamp (by omega)]; exact (hg v hv).1) ?_⟩⟩
  refine pk_eq u v (fun z => absurd z huv) (fun _ => pk_eq (gs u) (gs v) (fun z => nm_r (nI_1 v) (H a4 (tc_dl0 (Or.inl z) a4))) (fun z => ⟨tc_in (by omega) (by omega), ?_⟩))
  rw [tc_cl (show u < 6 by omega) (show v < 6 by omega)]
  by_cases c : a2 (u * 6 + v) = 0
  · refine br_t c ⟨tc_in (by omega) (by omega), tc_in (by omega) (by omega), tc_in (by omega) (by omega), nm_e ⟨tc_in (by omega) (by omega), tc_in (by omega) (by omega), tc_in (by omega) (by omega), nm_e (nm_r (nI_1 v) (H _ ?_))⟩⟩
    rw [tc_cl (show gs u < 6 by omega) (show gs v < 6 by omega), tc_cl (show gs u < 6 by omega) (show gs u < 6 by omega)]
    exact tc_dlu z c a4
  · exact br_f c (nm_r (nI_1 v) (H a4 (tc_dl0 (Or.inr c) a4)))
theorem tc_f33e {J : Int32 → (Nat → Int32) → (Nat → Int32) → (Nat → Int32) → (Nat → Int64) → (Nat → Int64) → (Nat → Int32) → Prop} {n : Nat} (u : Nat)
    (H : J (nI (u + 1)) a1 a2 a3 a4 a5 a6) : wX_fillMatrix_33 post J (nI u) 3 w s (n + 1) (nI 3) a1 a2 a3 a4 a5 a6 :=
  pk_le 3 3 (fun _ => nm_r (nI_1 u) H) (fun z => absurd z (by omega))
theorem tc_f23 {n : Nat} (u : Nat) (hu : u < 3) (H : ∃ k, wX_fillMatrix_33 post (wX_fillMatrix_23 post 3 w s n) (nI u) 3 w s k 0 a1 a2 a3 a4 a5 a6) :
    wX_fillMatrix_23 post 3 w s (n + 1) (nI u) a1 a2 a3 a4 a5 a6 :=
  br_f (nI_ge hu (by decide)) H
theorem tc_f23e {n : Nat} (H : post (3, w, s, a1, a2, a3, a4, a5, a6)) : wX_fillMatrix_23 post 3 w s (n + 1) (nI 3) a1 a2 a3 a4 a5 a6 :=
  pk_le 3 3 (fun _ => H) (fun z => absurd z (by omega))
theorem tc_clr {g : Nat → Int64} {i : Nat} (hi : i < 36) (h : ∀ j, j < i → g j = 0) : ∀ j, j < i + 1 → vp_updL g (nI i).toNatClampNeg 0 j = 0 := by
  rw [nI_clamp (by omega)]
  intro j hj
  by_cases k : j = i
  · rw [k, pk_uLs]
  · rw [pk_uLn k]
    exact h j (by omega)
theorem tc_f2 (H : ∀ g : Nat → Int64, (∀ j, j < 36 → g j = 0) → ∃ n, wX_fillMatrix_23 post 3 w s n 0 a1 a2 a3 g a5 a6) :
    ∃ n, wX_fillMatrix_2 post 3 w s n 0 a1 a2 a3 a4 a5 a6 :=
  pk_loop (fun n i g => wX_fillMatrix_2 post 3 w s n (nI i) a1 a2 a3 g a5 a6) (fun i g => ∀ j, j < i → g j = 0) 36 0 a4 (by omega) (fun j hj => absurd hj (by omega))
    (fun n g h => pk_le 36 36 (fun _ => H g h) (fun z => absurd z (by omega)))
    (fun n i g hi h hw => pk_le 36 i (fun z => absurd z (by omega)) (fun _ => ⟨pk_in i 36 (by omega), nm_e (nm_r (nI_1 i) (hw _ (tc_clr hi h)))⟩))
theorem tc_fill (gs : Nat → Nat) (hg : ∀ j, j < 3 → a3 j = nI (gs j) ∧ gs j < 3)
    (H : ∀ D : Nat → Int64, (∀ j, j < 36 → D j = tc_D gs a1 a2 j) → post (3, w, s, a1, a2, a3, D, a5, a6)) :
    wpX_fillMatrix post (3, w, s, a1, a2, a3, a4, a5, a6) := by
  unfold wpX_fillMatrix
  dsimp only
  refine tc_f2 (fun d0 h0 => ⟨4, tc_f23 0 (by omega) ⟨4, tc_f33d 0 (by omega) (tc_f33 0 1 (by omega) (by omega) (by omega) gs hg (fun d1 h1 => tc_f33 0 2 (by omega) (by omega) (by omega) gs hg (fun d2 h2 => tc_f33e 0 ?_)))⟩⟩)
  refine tc_f23 1 (by omega) ⟨4, tc_f33 1 0 (by omega) (by omega) (by omega) gs hg (fun d3 h3 => tc_f33d 1 (by omega) (tc_f33 1 2 (by omega) (by omega) (by omega) gs hg (fun d4 h4 => tc_f33e 1 ?_)))⟩
  refine tc_f23 2 (by omega) ⟨4, tc_f33 2 0 (by omega) (by omega) (by omega) gs hg (fun d5 h5 => tc_f33 2 1 (by omega) (by omega) (by omega) gs hg (fun d6 h6 => tc_f33d 2 (by omega) (tc_f33e 2 ?_)))⟩
  refine tc_f23e (H d6 (fun j hj => ?_))
  rw [h6, h5, h4, h3, h2, h1, h0 j hj]
  rfl
theorem tc_dr {v i : Nat} {g : Nat → Int64} (hv : v < 3) (hi : i < 3) (hiv : i ≠ v)
    (h : ∀ k, k < 3 → k ≠ v → g (k * 6 + v) = a4 (k * 6 + v) ∧ g (k * 6 + k) = if k < i then a4 (k * 6 + k) + a4 (k * 6 + v) else a4 (k * 6 + k)) :
    ∀ k, k < 3 → k ≠ v → vp_updL g (i * 6 + i) (g (i * 6 + i) + g (i * 6 + v)) (k * 6 + v) = a4 (k * 6 + v) ∧ vp_updL g (i * 6 + i) (g (i * 6 + i) + g (i * 6 + v)) (k * 6 + k) = if k < i + 1 then a4 (k * 6 + k) + a4 (k * 6 + v) else a4 (k * 6 + k) := by
  intro k hk hkv
  refine ⟨by rw [pk_uLn (by omega)]; exact (h k hk hkv).1, ?_⟩
  by_cases c : k = i
  · rw [c, pk_uLs, if_pos (by omega), (h i hi hiv).1, (h i hi hiv).2, if_neg (by omega)]
  · rw [pk_uLn (by omega), (h k hk hkv).2]
    have t : (k < i + 1) = (k < i) := propext ⟨fun z => by omega, fun z => by omega⟩
    simp only [t]
theorem tc_drop (v : Nat) (hv : v < 3) (H : ∀ D : Nat → Int64, (∀ k, k < 3 → k ≠ v → D (k * 6 + k) = a4 (k * 6 + k) + a4 (k * 6 + v)) → post (3, w, s, a1, a2, a3, D, a5, a6)) :
    wpX_dropFromMatrix post (3, w, s, a1, a2, a3, a4, a5, a6) (nI v) := by
  unfold wpX_dropFromMatrix
  dsimp only
  refine pk_loop (fun n i g => wX_dropFromMatrix_2 post (nI v) 3 w s n (nI i) a1 a2 a3 g a5 a6)
    (fun i g => ∀ k, k < 3 → k ≠ v → g (k * 6 + v) = a4 (k * 6 + v) ∧ g (k * 6 + k) = if k < i then a4 (k * 6 + k) + a4 (k * 6 + v) else a4 (k * 6 + k)) 3 0 a4 (by omega)
    (fun k hk hkv => ⟨rfl, by rw [if_neg (by omega)]⟩)
    (fun n g h => pk_le 3 3 (fun _ => H g (fun k hk hkv => by rw [(h k hk hkv).2, if_pos hk])) (fun z => absurd z (by omega)))
    (fun n i g hi h hw => pk_le 3 i (fun z => absurd z (by omega)) (fun _ => pk_eq i v (fun c => nm_r (nI_1 i) (hw _ ?_)) (fun c => ⟨tc_in (by omega) (by omega), tc_in (by omega) (by omega), tc_in (by omega) (by omega), nm_e (nm_r (nI_1 i) (hw _ ?_))⟩)))
  · intro k hk hkv
    have t : (k < i + 1) = (k < i) := propext ⟨fun z => by omega, fun z => by omega⟩
    simp only [t]
    exact h k hk hkv
  · rw [tc_cl (show i < 6 by omega) (show i < 6 by omega), tc_cl (show i < 6 by omega) (show v < 6 by omega)]
    exact tc_dr hv hi c h
end
end
section
theorem tc_i (u v k : Nat) (hu : u < 6 := by omega) (hv : v < 6 := by omega) (h : u * 6 + v = k := by omega) : (nI u * 6 + nI v).toNatClampNeg = k := by
  rw [tc_cl hu hv, h]
section
variable {post : St2 → Prop} {po : Int64 → St2 → Prop} {w s : Int32} {a1 a2 a3 : Nat → Int32} {a4 a5 : Nat → Int64} {a6 : Nat → Int32}
theorem tc_q74a {c i j : Nat} {kk : Nat → Nat} {P : Nat → Int64} (hc : c ≤ 3) (hi : i < c) (hj : j < c)
    (h : (∀ x y, x < i → y < c → P (x * 6 + y) = a4 (kk x * 6 + kk y)) ∧ ∀ y, y < j → P (i * 6 + y) = a4 (kk i * 6 + kk y)) :
    (∀ x y, x < i → y < c → vp_updL P (i * 6 + j) (a4 (kk i * 6 + kk j)) (x * 6 + y) = a4 (kk x * 6 + kk y)) ∧ ∀ y, y < j + 1 → vp_updL P (i * 6 + j) (a4 (kk i * 6 + kk j)) (i * 6 + y) = a4 (kk i * 6 + kk y) := by
  refine ⟨fun x y hx hy => ?_, fun y hy => ?_⟩
  · rw [pk_uLn (by omega)]
    exact h.1 x y hx hy
  · by_cases e : y = j
    · rw [e, pk_uLs]
    · rw [pk_uLn (by omega)]
      exact h.2 y (by omega)
theorem tc_q74 {J : Int32 → (Nat → Int32) → (Nat → Int32) → (Nat → Int32) → (Nat → Int64) → (Nat → Int64) → (Nat → Int32) → Prop} {c i : Nat} {kk : Nat → Nat} (hc : c ≤ 3) (hi : i < c) (hk : ∀ j, j < c → a6 j = nI (kk j) ∧ kk j < 6)
    (h : ∀ x y, x < i → y < c → a5 (x * 6 + y) = a4 (kk x * 6 + kk y))
    (H : ∀ P : Nat → Int64, (∀ x y, x < i + 1 → y < c → P (x * 6 + y) = a4 (kk x * 6 + kk y)) → J (nI (i + 1)) a1 a2 a3 a4 P a6) :
    ∃ n, wX_cutOut_74 post J (nI i) 3 w (nI c) n 0 a1 a2 a3 a4 a5 a6 := by
  refine pk_loop (fun n j P => wX_cutOut_74 post J (nI i) 3 w (nI c) n (nI j) a1 a2 a3 a4 P a6)
    (fun j P => (∀ x y, x < i → y < c → P (x * 6 + y) = a4 (kk x * 6 + kk y)) ∧ ∀ y, y < j → P (i * 6 + y) = a4 (kk i * 6 + kk y)) c 0 a5 (by omega) ⟨h, fun y hy => absurd hy (by omega)⟩
    (fun n P hP => pk_le c c (fun _ => nm_r (nI_1 i) (H P ?_)) (fun z => absurd z (by omega)))
    (fun n j P hj hP hw => pk_le c j (fun z => absurd z (by omega)) (fun _ => ⟨pk_in i 6 (by omega), pk_in j 6 (by omega), ?_, tc_in (by omega) (by omega), nm_e (nm_r (nI_1 j) (hw _ ?_))⟩))
  · intro x y hx hy
    by_cases e : x = i
    · rw [e]
      exact hP.2 y hy
    · exact hP.1 x y (by omega) hy
  · rw [nI_clamp (show i < 2 ^ 31 by omega), nI_clamp (show j < 2 ^ 31 by omega), (hk i hi).1, (hk j hj).1]
    exact tc_in (hk i hi).2 (hk j hj).2
  · rw [nI_clamp (show i < 2 ^ 31 by omega), nI_clamp (show j < 2 ^ 31 by omega), (hk i hi).1, (hk j hj).1, tc_cl (hk i hi).2 (hk j hj).2, tc_cl (show i < 6 by omega) (show j < 6 by omega)]
    exact tc_q74a hc hi hj hP
theorem tc_q63 {c : Nat} {kk : Nat → Nat} (hc : c ≤ 3) (hk : ∀ j, j < c → a6 j = nI (kk j) ∧ kk j < 6)
    (H : ∀ P : Nat → Int64, (∀ x y, x < c → y < c → P (x * 6 + y) = a4 (kk x * 6 + kk y)) → post (3, w, nI c, a1, a2, a3, a4, P, a6)) :
    ∃ n, wX_cutOut_63 post 3 w (nI c) n 0 a1 a2 a3 a4 a5 a6 :=
  pk_loop (fun n i P => wX_cutOut_63 post 3 w (nI c) n (nI i) a1 a2 a3 a4 P a6) (fun i P => ∀ x y, x < i → y < c → P (x * 6 + y) = a4 (kk x * 6 + kk y)) c 0 a5 (by omega) (fun x y hx => absurd hx (by omega))
    (fun n P hP => pk_le c c (fun _ => H P hP) (fun z => absurd z (by omega)))
    (fun n i P hi hP hw => pk_le c i (fun z => absurd z (by omega)) (fun _ => tc_q74 hc hi hk hP (fun P' hP' => hw P' hP')))
theorem tc_q7y {x y : Int32} {c n : Nat} (v : Nat) (hv : v < 3) (hc : c < 6) (h : a3 v = nI v ∧ ¬ nI v = x ∧ ¬ nI v = y)
    (H : wX_cutOut_7 post x y 3 w n (nI (v + 1)) (nI (c + 1)) a1 a2 a3 a4 a5 (upd a6 c (nI v))) :
    wX_cutOut_7 post x y 3 w (n + 1) (nI v) (nI c) a1 a2 a3 a4 a5 a6 := by
  refine br_f (nI_ge hv (by decide)) ⟨pk_in v 6 (by omega), ?_⟩
  rw [nI_clamp (show v < 2 ^ 31 by omega)]
  exact br_t h.1 (br_f h.2.1 (br_f h.2.2 ⟨pk_in c 6 hc, nm_r (e' := upd a6 c (nI v)) (by rw [nI_clamp (by omega)]) (nm_r (nI_1 c) (nm_r (nI_1 v) H))⟩))
theorem tc_q7n {x y : Int32} {c n : Nat} (v : Nat) (hv : v < 3) (h : ¬ (a3 v = nI v ∧ ¬ nI v = x ∧ ¬ nI v = y))
    (H : wX_cutOut_7 post x y 3 w n (nI (v + 1)) (nI c) a1 a2 a3 a4 a5 a6) :
    wX_cutOut_7 post x y 3 w (n + 1) (nI v) (nI c) a1 a2 a3 a4 a5 a6 := by
  refine br_f (nI_ge hv (by decide)) ⟨pk_in v 6 (by omega), ?_⟩
  rw [nI_clamp (show v < 2 ^ 31 by omega)]
  exact br_c (fun e1 => br_c (fun _ => nm_r (nI_1 v) H) (fun e2 => br_c (fun _ => nm_r (nI_1 v) H) (fun e3 => absurd ⟨e1, e2, e3⟩ h))) (fun _ => nm_r (nI_1 v) H)
theorem tc_q7e {x y : Int32} {c n : Nat} (H : ∃ k, wX_cutOut_63 post 3 w (nI c) k 0 a1 a2 a3 a4 a5 a6) :
    wX_cutOut_7 post x y 3 w (n + 1) (nI 3) (nI c) a1 a2 a3 a4 a5 a6 :=
  pk_le 3 3 (fun _ => H) (fun z => absurd z (by omega))
/-! the determinant -/
theorem tc_p0 {pq : Int32 → Prop} {c n : Nat} (k i : Nat) (hk : k < 6) (hi : i < c) (hc : c ≤ 6) (h : a5 (i * 6 + k) = 0)
    (H : wX_pivotRow_2 pq (nI k) 3 w (nI c) a1 a2 a3 a4 a5 a6 n (nI (i + 1))) : wX_pivotRow_2 pq (nI k) 3 w (nI c) a1 a2 a3 a4 a5 a6 (n + 1) (nI i) := by
  refine pk_le c i (fun z => absurd z (by omega)) (fun _ => ⟨tc_in (by omega) (by omega), ?_⟩)
  rw [tc_cl (show i < 6 by omega) hk]
  exact br_t h (nm_r (nI_1 i) H)
theorem tc_p1 {pq : Int32 → Prop} {c n : Nat} (k i : Nat) (hk : k < 6) (hi : i < c) (hc : c ≤ 6) (h : ¬ a5 (i * 6 + k) = 0)
    (H : pq (nI i)) : wX_pivotRow_2 pq (nI k) 3 w (nI c) a1 a2 a3 a4 a5 a6 (n + 1) (nI i) := by
  refine pk_le c i (fun z => absurd z (by omega)) (fun _ => ⟨tc_in (by omega) (by omega), ?_⟩)
  rw [tc_cl (show i < 6 by omega) hk]
  exact br_f h H
theorem tc_pe {pq : Int32 → Prop} {c n k : Nat} (hc : c ≤ 6) (H : pq (-1)) : wX_pivotRow_2 pq (nI k) 3 w (nI c) a1 a2 a3 a4 a5 a6 (n + 1) (nI c) :=
  pk_le c c (fun _ => H) (fun z => absurd z (by omega))
theorem tc_pv10 {pq : Int32 → Prop} (H0 : a5 0 = 0 → pq (-1)) (H1 : ¬ a5 0 = 0 → pq (nI 0)) : wpX_pivotRow pq (3, w, nI 1, a1, a2, a3, a4, a5, a6) (nI 0) := by
  unfold wpX_pivotRow
  dsimp only
  refine ⟨2, ?_⟩
  by_cases c : a5 0 = 0
  · exact tc_p0 0 0 (by omega) (by omega) (by omega) c (tc_pe (by omega) (H0 c))
  · exact tc_p1 0 0 (by omega) (by omega) (by omega) c (H1 c)
theorem tc_pv21 {pq : Int32 → Prop} (H0 : a5 7 = 0 → pq (-1)) (H1 : ¬ a5 7 = 0 → pq (nI 1)) : wpX_pivotRow pq (3, w, nI 2, a1, a2, a3, a4, a5, a6) (nI 1) := by
  unfold wpX_pivotRow
  dsimp only
  refine ⟨2, ?_⟩
  by_cases c : a5 7 = 0
  · exact tc_p0 1 1 (by omega) (by omega) (by omega) c (tc_pe (by omega) (H0 c))
  · exact tc_p1 1 1 (by omega) (by omega) (by omega) c (H1 c)
theorem tc_pv20 {pq : Int32 → Prop} (H0 : ¬ a5 0 = 0 → pq (nI 0)) (H1 : a5 0 = 0 → ¬ a5 6 = 0 → pq (nI 1)) (H2 : a5 0 = 0 → a5 6 = 0 → pq (-1)) : wpX_pivotRow pq (3, w, nI 2, a1, a2, a3, a4, a5, a6) (nI 0) := by
  unfold wpX_pivotRow
  dsimp only
  refine ⟨3, ?_⟩
  by_cases c : a5 0 = 0
  · refine tc_p0 0 0 (by omega) (by omega) (by omega) c ?_
    by_cases c6 : a5 6 = 0
    · exact tc_p0 0 1 (by omega) (by omega) (by omega) c6 (tc_pe (by omega) (H2 c c6))
    · exact tc_p1 0 1 (by omega) (by omega) (by omega) c6 (H1 c c6)
  · exact tc_p1 0 0 (by omega) (by omega) (by omega) c (H0 c)
theorem tc_ele {c k : Nat} {bf : Int64} (hk : k < 6) (hc : c ≤ 6) (h : c ≤ k + 1) (H : post (3, w, nI c, a1, a2, a3, a4, a5, a6)) :
    wpX_eliminate post (3, w, nI c, a1, a2, a3, a4, a5, a6) (nI k) bf := by
  unfold wpX_eliminate
  dsimp only
  exact ⟨tc_in hk hk, nm_e (nm_r (nI_1 k) ⟨1, pk_le c (k + 1) (fun _ => H) (fun z => absurd z (by omega))⟩)⟩
theorem tc_el20 (H : post (3, w, nI 2, a1, a2, a3, a4, vp_updL a5 7 (a5 7 * a5 0 - a5 6 * a5 1), a6)) :
    wpX_eliminate post (3, w, nI 2, a1, a2, a3, a4, a5, a6) (nI 0) 1 := by
  unfold wpX_eliminate
  dsimp only
  refine ⟨tc_in (by omega) (by omega), nm_r (e' := a5 0) (by rw [tc_i 0 0 0]) (nm_r (show nI 0 + 1 = nI 1 from nI_1 0) ⟨2, ?_⟩)⟩
  refine br_f (nI_ge (show 1 < 2 by omega) (by decide)) (nm_r (show nI 0 + 1 = nI 1 from nI_1 0) ⟨2, ?_⟩)
  refine br_f (nI_ge (show 1 < 2 by omega) (by decide)) ⟨tc_in (by omega) (by omega), tc_in (by omega) (by omega), tc_in (by omega) (by omega), nm_r (e' := a5 7 * a5 0 - a5 6 * a5 1) (by rw [tc_i 1 1 7, tc_i 1 0 6, tc_i 0 1 1]) ?_⟩
  refine br_f (by decide) ⟨by decide, tc_in (by omega) (by omega), nm_r (e' := vp_updL a5 7 (a5 7 * a5 0 - a5 6 * a5 1)) (by rw [tc_i 1 1 7, Int64.div_one]) (nm_r (show nI 1 + 1 = nI 2 from nI_1 1) ?_)⟩
  exact pk_le 2 2 (fun _ => nm_r (show nI 1 + 1 = nI 2 from nI_1 1) (pk_le 2 2 (fun _ => H) (fun z => absurd z (by omega)))) (fun z => absurd z (by omega))
theorem tc_sw2 {n : Nat} (j : Nat) (hj : j < 2)
    (H : wX_swapRows_2 post (nI 1) (nI 0) 3 w (nI 2) n (nI (j + 1)) a1 a2 a3 a4 (vp_updL (vp_updL a5 (6 + j) (a5 j)) j (a5 (6 + j))) a6) :
    wX_swapRows_2 post (nI 1) (nI 0) 3 w (nI 2) (n + 1) (nI j) a1 a2 a3 a4 a5 a6 :=
  br_f (nI_ge hj (by decide)) ⟨tc_in (by omega) (by omega), nm_r (e' := a5 (6 + j)) (by rw [tc_i 1 j (6 + j)]) ⟨tc_in (by omega) (by omega), tc_in (by omega) (by omega), nm_r (e' := vp_updL a5 (6 + j) (a5 j)) (by rw [tc_i 1 j (6 + j), tc_i 0 j j]) ⟨tc_in (by omega) (by omega), nm_r (e' := vp_updL (vp_updL a5 (6 + j) (a5 j)) j (a5 (6 + j))) (by rw [tc_i 0 j j]) (nm_r (nI_1 j) H)⟩⟩⟩
theorem tc_sw (H : ∀ P : Nat → Int64, P 0 = a5 6 → P 1 = a5 7 → P 6 = a5 0 → P 7 = a5 1 → post (3, w, nI 2, a1, a2, a3, a4, P, a6)) :
    wpX_swapRows post (3, w, nI 2, a1, a2, a3, a4, a5, a6) (nI 1) (nI 0) := by
  unfold wpX_swapRows
  dsimp only
  refine ⟨3, tc_sw2 0 (by omega) (tc_sw2 1 (by omega) (pk_le 2 2 (fun _ => H _ ?_ ?_ ?_ ?_) (fun z => absurd z (by omega))))⟩
  · rw [pk_uLn (by omega), pk_uLn (by omega), pk_uLs]
  · rw [pk_uLs, pk_uLn (by omega), pk_uLn (by omega)]
  · rw [pk_uLn (by omega), pk_uLn (by omega), pk_uLn (by omega), pk_uLs]
  · rw [pk_uLn (by omega), pk_uLs, pk_uLn (by omega), pk_uLn (by omega)]
theorem tc_d7b {n : Nat} {sg bf : Int64} (H : ∀ P : Nat → Int64, po (sg * a5 7) (3, w, nI 2, a1, a2, a3, a4, P, a6)) :
    wX_determinant_7 po (n + 2) sg bf (nI 1) 3 w (nI 2) a1 a2 a3 a4 a5 a6 := by
  refine br_f (nI_ge (show 1 < 2 by omega) (by decide)) (tc_pv21 (fun z => br_f (by decide) ?_) (fun z => br_t (by decide) (br_t rfl ?_)))
  · have t := H a5
    rw [z, Int64.mul_zero] at t
    exact t
  · unfold wX_determinant_49
    exact tc_ele (by omega) (by omega) (by omega) ⟨tc_in (by omega) (by omega), nm_r (e' := a5 7) (by rw [tc_i 1 1 7]) (nm_r (show nI 1 + 1 = nI 2 from nI_1 1) (pk_le 2 2 (fun _ => H a5) (fun z => absurd z (by omega))))⟩
theorem tc_d49 {n : Nat} {sg : Int64} (H : ∀ P : Nat → Int64, po (sg * (a5 7 * a5 0 - a5 6 * a5 1)) (3, w, nI 2, a1, a2, a3, a4, P, a6)) :
    wX_determinant_49 po (wX_determinant_7 po (n + 2)) sg 1 (nI 0) 3 w (nI 2) a1 a2 a3 a4 a5 a6 := by
  unfold wX_determinant_49
  refine tc_el20 ⟨tc_in (by omega) (by omega), nm_e (nm_r (show nI 0 + 1 = nI 1 from nI_1 0) (tc_d7b (fun P => ?_)))⟩
  rw [pk_uLs]
  exact H P
theorem tc_det0 (H : po 1 (3, w, nI 0, a1, a2, a3, a4, a5, a6)) : wpX_determinant po (3, w, nI 0, a1, a2, a3, a4, a5, a6) := by
  unfold wpX_determinant
  dsimp only
  exact ⟨1, br_t (by decide) (by rw [Int64.mul_one]; exact H)⟩
theorem tc_det1 (H : ∀ P : Nat → Int64, po (a5 0) (3, w, nI 1, a1, a2, a3, a4, P, a6)) : wpX_determinant po (3, w, nI 1, a1, a2, a3, a4, a5, a6) := by
  unfold wpX_determinant
  dsimp only
  refine ⟨2, br_f (by decide) (tc_pv10 (fun z => br_f (by decide) ?_) (fun z => br_t (by decide) (br_t rfl ?_)))⟩
  · have t := H a5
    rw [z] at t
    exact t
  · unfold wX_determinant_49
    refine tc_ele (k := 0) (by omega) (by omega) (by omega) ⟨tc_in (u := 0) (v := 0) (by omega) (by omega), nm_r (e' := a5 0) (by rw [show ((0 : Int32) * 6 + 0).toNatClampNeg = 0 from tc_i 0 0 0]) (nm_r (show nI 0 + 1 = nI 1 from nI_1 0) (pk_le 1 1 (fun _ => ?_) (fun z => absurd z (by omega))))⟩
    rw [Int64.one_mul]
    exact H a5
theorem tc_det2 (H : ∀ P : Nat → Int64, po (a5 0 * a5 7 - a5 1 * a5 6) (3, w, nI 2, a1, a2, a3, a4, P, a6)) : wpX_determinant po (3, w, nI 2, a1, a2, a3, a4, a5, a6) := by
  unfold wpX_determinant
  dsimp only
  refine ⟨3, br_f (by decide) (tc_pv20 (fun z => br_t (by decide) (br_t rfl (tc_d49 (fun P => ?_)))) (fun z0 z6 => br_t (by decide) (br_f (by decide) (tc_sw (fun Q h0 h1 h6 h7 => nm_e (tc_d49 (fun P => ?_)))))) (fun z0 z6 => br_f (by decide) ?_))⟩
  · rw [show 1 * (a5 7 * a5 0 - a5 6 * a5 1) = a5 0 * a5 7 - a5 1 * a5 6 by grind]
    exact H P
  · rw [h0, h1, h6, h7, show -1 * (a5 1 * a5 6 - a5 0 * a5 7) = a5 0 * a5 7 - a5 1 * a5 6 by grind]
    exact H P
  · have t := H a5
    rw [show a5 0 * a5 7 - a5 1 * a5 6 = 0 by rw [z0, z6]; grind] at t
    exact t
/-- the determinant of what cutOut keeps of the places 1 and 2 -/
def tc_dv (t1 t2 : Bool) (D : Nat → Int64) : Int64 := match t1, t2 with
  | true, true => D 7 * D 14 - D 8 * D 13
  | true, false => D 7
  | false, true => D 14
  | false, false => 1
theorem tc_cut {x y : Int32} (t1 t2 : Bool) (h0 : ¬ (a3 0 = nI 0 ∧ ¬ nI 0 = x ∧ ¬ nI 0 = y))
    (h1 : t1 = true ↔ (a3 1 = nI 1 ∧ ¬ nI 1 = x ∧ ¬ nI 1 = y)) (h2 : t2 = true ↔ (a3 2 = nI 2 ∧ ¬ nI 2 = x ∧ ¬ nI 2 = y))
    (H : ∀ (s' : Int32) (P : Nat → Int64) (K : Nat → Int32), (∀ po : Int64 → St2 → Prop, (∀ P' : Nat → Int64, po (tc_dv t1 t2 a4) (3, w, s', a1, a2, a3, a4, P', K)) → wpX_determinant po (3, w, s', a1, a2, a3, a4, P, K)) → post (3, w, s', a1, a2, a3, a4, P, K)) :
    wpX_cutOut post (3, w, s, a1, a2, a3, a4, a5, a6) x y := by
  unfold wpX_cutOut
  dsimp only
  refine ⟨4, tc_q7n (c := 0) 0 (by omega) h0 ?_⟩
  cases t1 with
  | true =>
    refine tc_q7y 1 (by omega) (by omega) (h1.mp rfl) ?_
    cases t2 with
    | true =>
      refine tc_q7y 2 (by omega) (by omega) (h2.mp rfl) (tc_q7e (tc_q63 (kk := fun j => j + 1) (by omega) (fun j hj => ?_) (fun P hP => H _ P _ (fun po hpo => tc_det2 (fun P' => ?_)))))
      · refine ⟨?_, show j + 1 < 6 by omega⟩
        by_cases e : j = 1
        · rw [e]
          rfl
        · have e0 : j = 0 := by omega
          rw [e0]
          rfl
      · have t := hpo P'
        have p0 : P 0 = a4 7 := hP 0 0 (by omega) (by omega)
        have p1 : P 1 = a4 8 := hP 0 1 (by omega) (by omega)
        have p6 : P 6 = a4 13 := hP 1 0 (by omega) (by omega)
        have p7 : P 7 = a4 14 := hP 1 1 (by omega) (by omega)
        rw [p0, p1, p6, p7]
        exact t
    | false =>
      refine tc_q7n 2 (by omega) (fun z => absurd (h2.mpr z) (by decide)) (tc_q7e (tc_q63 (kk := fun j => 1) (by omega) (fun j hj => ?_) (fun P hP => H _ P _ (fun po hpo => tc_det1 (fun P' => ?_)))))
      · have e0 : j = 0 := by omega
        rw [e0]
        exact ⟨rfl, by decide⟩
      · have t := hpo P'
        have p0 : P 0 = a4 7 := hP 0 0 (by omega) (by omega)
        rw [p0]
        exact t
  | false =>
    refine tc_q7n 1 (by omega) (fun z => absurd (h1.mpr z) (by decide)) ?_
    cases t2 with
    | true =>
      refine tc_q7y 2 (by omega) (by omega) (h2.mp rfl) (tc_q7e (tc_q63 (kk := fun j => 2) (by omega) (fun j hj => ?_) (fun P hP => H _ P _ (fun po hpo => tc_det1 (fun P' => ?_)))))
      · have e0 : j = 0 := by omega
        rw [e0]
        exact ⟨rfl, by decide⟩
      · have t := hpo P'
        have p0 : P 0 = a4 14 := hP 0 0 (by omega) (by omega)
        rw [p0]
        exact t
    | false =>
      exact tc_q7n 2 (by omega) (fun z => absurd (h2.mpr z) (by decide)) (tc_q7e (tc_q63 (kk := fun j => j) (by omega) (fun j hj => absurd hj (by omega)) (fun P hP => H _ P _ (fun po hpo => tc_det0 (hpo P)))))
end
end
section
/-! The plain law: trees, and trees that use a pair. p, q, r: the modes of the pairs 01, 12, 02; a, b, d: their edges. -/
def tc_M (m : Int32) : Prop := m = 0 ∨ m = 1 ∨ m = 2
def tc_ab (a b p q r : Int32) : Int32 := if p = 2 ∨ q = 2 ∨ r = 1 then 0 else a * b
def tc_ad (a d p q r : Int32) : Int32 := if p = 2 ∨ r = 2 ∨ q = 1 then 0 else a * d
def tc_bd (b d p q r : Int32) : Int32 := if q = 2 ∨ r = 2 ∨ p = 1 then 0 else b * d
def tc_T (a b d p q r : Int32) : Int32 := tc_ab a b p q r + tc_ad a d p q r + tc_bd b d p q r
theorem tc_gv0 {p q r : Int32} (hp : tc_M p) (hq : tc_M q) (hr : tc_M r) : tc_g3 p q r 0 = 0 := by
  rcases hp with rfl | rfl | rfl <;> rcases hq with rfl | rfl | rfl <;> rcases hr with rfl | rfl | rfl <;> decide
theorem tc_gv1 {p q r : Int32} (hp : tc_M p) (hq : tc_M q) (hr : tc_M r) : tc_g3 p q r 1 = if p = 1 ∨ (q = 1 ∧ r = 1) then 0 else 1 := by
  rcases hp with rfl | rfl | rfl <;> rcases hq with rfl | rfl | rfl <;> rcases hr with rfl | rfl | rfl <;> decide
theorem tc_gv2 {p q r : Int32} (hp : tc_M p) (hq : tc_M q) (hr : tc_M r) : tc_g3 p q r 2 = if r = 1 ∨ (p = 1 ∧ q = 1) then 0 else if q = 1 then 1 else 2 := by
  rcases hp with rfl | rfl | rfl <;> rcases hq with rfl | rfl | rfl <;> rcases hr with rfl | rfl | rfl <;> decide
theorem tc_wv {p q r : Int32} (a b d : Int32) (hp : tc_M p) (hq : tc_M q) (hr : tc_M r) :
    tc_w3 p q r a b d = if p = 1 then (if r = 1 then (if q = 1 then 0 else a * d) else (if q = 1 then a * b else a)) else (if r = 1 then (if q = 1 then d * b else d) else (if q = 1 then b else 1)) := by
  have e1 : tc_g1 p 0 = 0 := by rcases hp with rfl | rfl | rfl <;> decide
  have e2 : tc_g1 p 2 = 2 := by rcases hp with rfl | rfl | rfl <;> decide
  have e3 : tc_g2 p r 1 = if p = 1 then 0 else 1 := by rcases hp with rfl | rfl | rfl <;> rcases hr with rfl | rfl | rfl <;> decide
  have e4 : tc_g2 p r 2 = if r = 1 then 0 else 2 := by rcases hp with rfl | rfl | rfl <;> rcases hr with rfl | rfl | rfl <;> decide
  unfold tc_w3 tc_w2 tc_w1
  rw [e1, e2, e3, e4]
  unfold tc_mw
  rcases hp with rfl | rfl | rfl <;> rcases hq with rfl | rfl | rfl <;> rcases hr with rfl | rfl | rfl <;> simp
/-- the degree matrix at the four places that count keeps, by the pairs' edges and modes -/
def tc_Dp (gs : Nat → Nat) (a b d p q r : Int32) (j : Nat) : Int64 :=
  0 + tc_dl p a (gs 0) (gs 1) j + tc_dl r d (gs 0) (gs 2) j + tc_dl p a (gs 1) (gs 0) j + tc_dl q b (gs 1) (gs 2) j + tc_dl r d (gs 2) (gs 0) j + tc_dl q b (gs 2) (gs 1) j
theorem tc_DE {a b d p q r : Int32} {a1 a2 : Nat → Int32} (hE : tc_E a b d a1) (hM : tc_E p q r a2) (gs : Nat → Nat) (j : Nat) : tc_D gs a1 a2 j = tc_Dp gs a b d p q r j := by
  obtain ⟨e1, e6, e8, e13, e2, e12⟩ := hE
  obtain ⟨m1, m6, m8, m13, m2, m12⟩ := hM
  unfold tc_D tc_Dp
  rw [e1, e6, e8, e13, e2, e12, m1, m6, m8, m13, m2, m12]
theorem tc_pc {p q r : Int32} (a b d : Int32) (hp : tc_M p) (hq : tc_M q) (hr : tc_M r) :
    ((tc_w3 p q r a b d).toInt64 * tc_dv (decide (tc_g3 p q r 1 = 1)) (decide (tc_g3 p q r 2 = 2)) (tc_Dp (tc_g3 p q r) a b d p q r)).toInt32 = tc_T a b d p q r := by
  rw [tc_wv a b d hp hq hr]
  unfold tc_Dp
  simp only [tc_gv0 hp hq hr, tc_gv1 hp hq hr, tc_gv2 hp hq hr]
  unfold tc_T tc_ab tc_ad tc_bd
  rcases hp with rfl | rfl | rfl <;> rcases hq with rfl | rfl | rfl <;> rcases hr with rfl | rfl | rfl <;> simp [tc_dv, tc_dl] <;> grind
theorem tc_t {g : Nat → Int32} {gs : Nat → Nat} {x y : Int32} (k : Nat) (hk : k < 3) (h : g k = nI (gs k)) (hl : gs k < 3) (hx : ¬ nI k = x) (hy : ¬ nI k = y) :
    decide (gs k = k) = true ↔ (g k = nI k ∧ ¬ nI k = x ∧ ¬ nI k = y) := by
  rw [decide_eq_true_iff, h, nI_eq (by omega) (by omega)]
  exact ⟨fun z => ⟨z, hx, hy⟩, fun z => z.1⟩
theorem tc_dvc {t1 t2 : Bool} {D D' : Nat → Int64} (h7 : D 7 = D' 7) (h8 : D 8 = D' 8) (h13 : D 13 = D' 13) (h14 : D 14 = D' 14) : tc_dv t1 t2 D = tc_dv t1 t2 D' := by
  cases t1 <;> cases t2 <;> simp only [tc_dv, h7, h8, h13, h14]
section
variable {po : Int32 → St2 → Prop} {w s : Int32} {a1 a2 a3 : Nat → Int32} {a4 a5 : Nat → Int64} {a6 : Nat → Int32} {a b d p q r : Int32}
theorem tc_count (hE : tc_E a b d a1) (hM : tc_E p q r a2) (hp : tc_M p) (hq : tc_M q) (hr : tc_M r)
    (H : ∀ (w s : Int32) (a3 : Nat → Int32) (a4 a5 : Nat → Int64) (a6 : Nat → Int32), po (tc_T a b d p q r) (3, w, s, a1, a2, a3, a4, a5, a6)) :
    wpX_count po (3, w, s, a1, a2, a3, a4, a5, a6) := by
  have hDE := fun gs j => tc_DE hE hM gs j
  obtain ⟨rfl, e6, rfl, e13, rfl, e12⟩ := hE
  obtain ⟨rfl, m6, rfl, m13, rfl, m12⟩ := hM
  have PU := tc_pc (a1 1) (a1 8) (a1 2) hp hq hr
  unfold wpX_count
  dsimp only
  refine tc_contract (fun g hg => br_c (fun z => ?_) (fun z => tc_fill (tc_g3 (a2 1) (a2 8) (a2 2)) hg (fun D hD => tc_cut (decide (tc_g3 (a2 1) (a2 8) (a2 2) 1 = 1)) (decide (tc_g3 (a2 1) (a2 8) (a2 2) 2 = 2)) (fun y => y.2.1 rfl) (tc_t 1 (by omega) (hg 1 (by omega)).1 (hg 1 (by omega)).2 (by decide) (by decide)) (tc_t 2 (by omega) (hg 2 (by omega)).1 (hg 2 (by omega)).2 (by decide) (by decide)) (fun s' P K hd => hd _ (fun P' => ?_)))))
  · have z0 : tc_w3 (a2 1) (a2 8) (a2 2) (a1 1) (a1 8) (a1 2) = 0 := z
    have e : tc_T (a1 1) (a1 8) (a1 2) (a2 1) (a2 8) (a2 2) = 0 := by
      rw [← PU, z0]
      simp
    rw [e] at H
    exact H _ _ _ _ _ _
  · have e : tc_dv (decide (tc_g3 (a2 1) (a2 8) (a2 2) 1 = 1)) (decide (tc_g3 (a2 1) (a2 8) (a2 2) 2 = 2)) D = tc_dv (decide (tc_g3 (a2 1) (a2 8) (a2 2) 1 = 1)) (decide (tc_g3 (a2 1) (a2 8) (a2 2) 2 = 2)) (tc_Dp (tc_g3 (a2 1) (a2 8) (a2 2)) (a1 1) (a1 8) (a1 2) (a2 1) (a2 8) (a2 2)) :=
      tc_dvc (by rw [hD 7 (by omega), hDE]) (by rw [hD 8 (by omega), hDE]) (by rw [hD 13 (by omega), hDE]) (by rw [hD 14 (by omega), hDE])
    rw [← e] at PU
    rw [← PU] at H
    exact H _ _ _ _ _ _
end
end
section
theorem tc_u01 {p q r : Int32} (a b d : Int32) (hp : tc_M p) :
    (p = 2 → tc_ab a b p q r + tc_ad a d p q r = 0) ∧ (p = 1 → tc_ab a b p q r + tc_ad a d p q r = tc_T a b d p q r) ∧ (¬ p = 2 → ¬ p = 1 → tc_ab a b p q r + tc_ad a d p q r = tc_T a b d p q r - tc_T a b d 2 q r) := by
  unfold tc_T tc_ab tc_ad tc_bd
  rcases hp with rfl | rfl | rfl <;> simp <;> grind
theorem tc_u12 {p q r : Int32} (a b d : Int32) (hq : tc_M q) :
    (q = 2 → tc_ab a b p q r + tc_bd b d p q r = 0) ∧ (q = 1 → tc_ab a b p q r + tc_bd b d p q r = tc_T a b d p q r) ∧ (¬ q = 2 → ¬ q = 1 → tc_ab a b p q r + tc_bd b d p q r = tc_T a b d p q r - tc_T a b d p 2 r) := by
  unfold tc_T tc_ab tc_ad tc_bd
  rcases hq with rfl | rfl | rfl <;> simp <;> grind
theorem tc_u02 {p q r : Int32} (a b d : Int32) (hr : tc_M r) :
    (r = 2 → tc_ad a d p q r + tc_bd b d p q r = 0) ∧ (r = 1 → tc_ad a d p q r + tc_bd b d p q r = tc_T a b d p q r) ∧ (¬ r = 2 → ¬ r = 1 → tc_ad a d p q r + tc_bd b d p q r = tc_T a b d p q r - tc_T a b d p q 2) := by
  unfold tc_T tc_ab tc_ad tc_bd
  rcases hr with rfl | rfl | rfl <;> simp <;> grind
theorem tc_M2 : tc_M 2 := Or.inr (Or.inr rfl)
/-! a pair's mode set: which picture behind it -/
theorem tc_s01 {x y z v : Int32} {f : Nat → Int32} (h : tc_E x y z f) : tc_E v y z (upd (upd f 1 v) 6 v) ∧ tc_E v y z (upd (upd f 6 v) 1 v) := by
  obtain ⟨h1, h6, h8, h13, h2, h12⟩ := h
  refine ⟨⟨?_, ?_, ?_, ?_, ?_, ?_⟩, ⟨?_, ?_, ?_, ?_, ?_, ?_⟩⟩ <;> simp [upd, *]
theorem tc_s12 {x y z v : Int32} {f : Nat → Int32} (h : tc_E x y z f) : tc_E x v z (upd (upd f 8 v) 13 v) ∧ tc_E x v z (upd (upd f 13 v) 8 v) := by
  obtain ⟨h1, h6, h8, h13, h2, h12⟩ := h
  refine ⟨⟨?_, ?_, ?_, ?_, ?_, ?_⟩, ⟨?_, ?_, ?_, ?_, ?_, ?_⟩⟩ <;> simp [upd, *]
theorem tc_s02 {x y z v : Int32} {f : Nat → Int32} (h : tc_E x y z f) : tc_E x y v (upd (upd f 2 v) 12 v) ∧ tc_E x y v (upd (upd f 12 v) 2 v) := by
  obtain ⟨h1, h6, h8, h13, h2, h12⟩ := h
  refine ⟨⟨?_, ?_, ?_, ?_, ?_, ?_⟩, ⟨?_, ?_, ?_, ?_, ?_, ?_⟩⟩ <;> simp [upd, *]
section
variable {post : St2 → Prop} {po : Int32 → St2 → Prop} {w s : Int32} {a1 a2 a3 : Nat → Int32} {a4 a5 : Nat → Int64} {a6 : Nat → Int32} {a b d p q r : Int32}
theorem tc_set (u v : Nat) (hu : u < 3) (hv : v < 3) {m : Int32} (H : post (3, w, s, a1, upd (upd a2 (u * 6 + v) m) (v * 6 + u) m, a3, a4, a5, a6)) :
    wpX_setMode post (3, w, s, a1, a2, a3, a4, a5, a6) (nI u) (nI v) m := by
  unfold wpX_setMode
  dsimp only
  exact ⟨tc_in (by omega) (by omega), nm_r (e' := upd a2 (u * 6 + v) m) (by rw [tc_cl (by omega) (by omega)]) ⟨tc_in (by omega) (by omega), nm_r (e' := upd (upd a2 (u * 6 + v) m) (v * 6 + u) m) (by rw [tc_cl (by omega) (by omega)]) H⟩⟩
theorem tc_cu (u v : Nat) (hu : u < 3) (hv : v < 3) {p' q' r' val : Int32} (hE : tc_E a b d a1) (hM : tc_E p q r a2) (hp : tc_M p) (hq : tc_M q) (hr : tc_M r) (hp' : tc_M p') (hq' : tc_M q') (hr' : tc_M r')
    (hs : ∀ f, tc_E p q r f → tc_E p' q' r' (upd (upd f (u * 6 + v) 2) (v * 6 + u) 2)) (hb : ∀ f, tc_E p' q' r' f → tc_E p q r (upd (upd f (u * 6 + v) (a2 (u * 6 + v))) (v * 6 + u) (a2 (u * 6 + v))))
    (hv2 : a2 (u * 6 + v) = 2 → val = 0) (hv1 : a2 (u * 6 + v) = 1 → val = tc_T a b d p q r) (hv0 : ¬ a2 (u * 6 + v) = 2 → ¬ a2 (u * 6 + v) = 1 → val = tc_T a b d p q r - tc_T a b d p' q' r')
    (H : ∀ (w s : Int32) (f a3 : Nat → Int32) (a4 a5 : Nat → Int64) (a6 : Nat → Int32), tc_E p q r f → po val (3, w, s, a1, f, a3, a4, a5, a6)) :
    wpX_countUsing po (3, w, s, a1, a2, a3, a4, a5, a6) (nI u) (nI v) := by
  unfold wpX_countUsing
  dsimp only
  refine ⟨tc_in (by omega) (by omega), nm_r (e' := a2 (u * 6 + v)) (by rw [tc_cl (by omega) (by omega)]) (br_c (fun z => ?_) (fun z => tc_count hE hM hp hq hr (fun w1 s1 b3 b4 b5 b6 => br_c (fun z1 => ?_) (fun z1 => tc_set u v hu hv (tc_count hE (hs a2 hM) hp' hq' hr' (fun w2 s2 c3 c4 c5 c6 => tc_set u v hu hv ?_))))))⟩
  · rw [hv2 z] at H
    exact H _ _ _ _ _ _ _ hM
  · rw [hv1 z1] at H
    exact H _ _ _ _ _ _ _ hM
  · rw [hv0 z z1] at H
    exact H _ _ _ _ _ _ _ (hb _ (hs a2 hM))
theorem tc_cu01 (hE : tc_E a b d a1) (hM : tc_E p q r a2) (hp : tc_M p) (hq : tc_M q) (hr : tc_M r) (H : ∀ (w s : Int32) (f a3 : Nat → Int32) (a4 a5 : Nat → Int64) (a6 : Nat → Int32), tc_E p q r f → po (tc_ab a b p q r + tc_ad a d p q r) (3, w, s, a1, f, a3, a4, a5, a6)) :
    wpX_countUsing po (3, w, s, a1, a2, a3, a4, a5, a6) (nI 0) (nI 1) ∧ wpX_countUsing po (3, w, s, a1, a2, a3, a4, a5, a6) (nI 1) (nI 0) := by
  have e1 : a2 (0 * 6 + 1) = p := hM.1
  have e6 : a2 (1 * 6 + 0) = p := hM.2.1
  have U := tc_u01 (q := q) (r := r) a b d hp
  refine ⟨tc_cu 0 1 (by omega) (by omega) hE hM hp hq hr tc_M2 hq hr (fun f hf => (tc_s01 hf).1) (fun f hf => ?_) ?_ ?_ ?_ H, tc_cu 1 0 (by omega) (by omega) hE hM hp hq hr tc_M2 hq hr (fun f hf => (tc_s01 hf).2) (fun f hf => ?_) ?_ ?_ ?_ H⟩
  · rw [e1]; exact (tc_s01 hf).1
  · rw [e1]; exact U.1
  · rw [e1]; exact U.2.1
  · rw [e1]; exact U.2.2
  · rw [e6]; exact (tc_s01 hf).2
  · rw [e6]; exact U.1
  · rw [e6]; exact U.2.1
  · rw [e6]; exact U.2.2
theorem tc_cu12 (hE : tc_E a b d a1) (hM : tc_E p q r a2) (hp : tc_M p) (hq : tc_M q) (hr : tc_M r) (H : ∀ (w s : Int32) (f a3 : Nat → Int32) (a4 a5 : Nat → Int64) (a6 : Nat → Int32), tc_E p q r f → po (tc_ab a b p q r + tc_bd b d p q r) (3, w, s, a1, f, a3, a4, a5, a6)) :
    wpX_countUsing po (3, w, s, a1, a2, a3, a4, a5, a6) (nI 1) (nI 2) ∧ wpX_countUsing po (3, w, s, a1, a2, a3, a4, a5, a6) (nI 2) (nI 1) := by
  have e1 : a2 (1 * 6 + 2) = q := hM.2.2.1
  have e6 : a2 (2 * 6 + 1) = q := hM.2.2.2.1
  have U := tc_u12 (p := p) (r := r) a b d hq
  refine ⟨tc_cu 1 2 (by omega) (by omega) hE hM hp hq hr hp tc_M2 hr (fun f hf => (tc_s12 hf).1) (fun f hf => ?_) ?_ ?_ ?_ H, tc_cu 2 1 (by omega) (by omega) hE hM hp hq hr hp tc_M2 hr (fun f hf => (tc_s12 hf).2) (fun f hf => ?_) ?_ ?_ ?_ H⟩
  · rw [e1]; exact (tc_s12 hf).1
  · rw [e1]; exact U.1
  · rw [e1]; exact U.2.1
  · rw [e1]; exact U.2.2
  · rw [e6]; exact (tc_s12 hf).2
  · rw [e6]; exact U.1
  · rw [e6]; exact U.2.1
  · rw [e6]; exact U.2.2
theorem tc_cu02 (hE : tc_E a b d a1) (hM : tc_E p q r a2) (hp : tc_M p) (hq : tc_M q) (hr : tc_M r) (H : ∀ (w s : Int32) (f a3 : Nat → Int32) (a4 a5 : Nat → Int64) (a6 : Nat → Int32), tc_E p q r f → po (tc_ad a d p q r + tc_bd b d p q r) (3, w, s, a1, f, a3, a4, a5, a6)) :
    wpX_countUsing po (3, w, s, a1, a2, a3, a4, a5, a6) (nI 0) (nI 2) ∧ wpX_countUsing po (3, w, s, a1, a2, a3, a4, a5, a6) (nI 2) (nI 0) := by
  have e1 : a2 (0 * 6 + 2) = r := hM.2.2.2.2.1
  have e6 : a2 (2 * 6 + 0) = r := hM.2.2.2.2.2
  have U := tc_u02 (p := p) (q := q) a b d hr
  refine ⟨tc_cu 0 2 (by omega) (by omega) hE hM hp hq hr hp hq tc_M2 (fun f hf => (tc_s02 hf).1) (fun f hf => ?_) ?_ ?_ ?_ H, tc_cu 2 0 (by omega) (by omega) hE hM hp hq hr hp hq tc_M2 (fun f hf => (tc_s02 hf).2) (fun f hf => ?_) ?_ ?_ ?_ H⟩
  · rw [e1]; exact (tc_s02 hf).1
  · rw [e1]; exact U.1
  · rw [e1]; exact U.2.1
  · rw [e1]; exact U.2.2
  · rw [e6]; exact (tc_s02 hf).2
  · rw [e6]; exact U.1
  · rw [e6]; exact U.2.1
  · rw [e6]; exact U.2.2
/-! the callers -/
theorem tc_bp {pq : Int32 → Prop} (u v : Nat) (hu : u < 3) (hv : v < 3) (huv : u ≠ v) (H : pq 0) : wpX_badPair pq (3, w, s, a1, a2, a3, a4, a5, a6) (nI u) (nI v) := by
  unfold wpX_badPair
  dsimp only
  exact br_f (nI_pos (by omega)) (br_f (nI_ge hu (by decide)) (br_f (nI_pos (by omega)) (br_f (nI_ge hv (by decide)) (pk_eq u v (fun z => absurd z huv) (fun _ => H)))))
theorem tc_bv {pq : Int32 → Prop} (u : Nat) (hu : u < 3) (H : pq 0) : wpX_badVertex pq (3, w, s, a1, a2, a3, a4, a5, a6) (nI u) := by
  unfold wpX_badVertex
  dsimp only
  exact br_f (nI_pos (by omega)) (br_t (nI_lt hu (by decide)) H)
theorem tc_using (u v : Nat) (hu : u < 3) (hv : v < 3) (huv : u ≠ v) (H : wpX_countUsing po (3, w, s, a1, a2, a3, a4, a5, a6) (nI u) (nI v)) :
    wpX_using po (3, w, s, a1, a2, a3, a4, a5, a6) (nI u) (nI v) := by
  unfold wpX_using
  dsimp only
  exact tc_bp u v hu hv huv (br_t rfl H)
theorem tc_trees (hE : tc_E a b d a1) (hM : tc_E p q r a2) (hp : tc_M p) (hq : tc_M q) (hr : tc_M r)
    (H : ∀ (w s : Int32) (a3 : Nat → Int32) (a4 a5 : Nat → Int64) (a6 : Nat → Int32), po (tc_T a b d p q r) (3, w, s, a1, a2, a3, a4, a5, a6)) :
    wpX_trees po (3, w, s, a1, a2, a3, a4, a5, a6) := by
  unfold wpX_trees
  dsimp only
  exact tc_count hE hM hp hq hr (fun w s a3 a4 a5 a6 => H w s a3 a4 a5 a6)
/-! degrees -/
theorem tc_dgs {n : Nat} {x : Int32} (u : Nat) (hu : u < 3) (H : wX_degrees_14 po (nI u) n x (nI (u + 1)) 3 w s a1 a2 a3 a4 a5 a6) :
    wX_degrees_14 po (nI u) (n + 1) x (nI u) 3 w s a1 a2 a3 a4 a5 a6 :=
  br_f (nI_ge hu (by decide)) (br_t rfl (nm_r (nI_1 u) H))
theorem tc_dge {n : Nat} {x v : Int32} (H : po x (3, w, s, a1, a2, a3, a4, a5, a6)) : wX_degrees_14 po v (n + 1) x (nI 3) 3 w s a1 a2 a3 a4 a5 a6 :=
  pk_le 3 3 (fun _ => H) (fun z => absurd z (by omega))
theorem tc_dgn {n v : Nat} {x val : Int32} (u : Nat) (hu : u < 3) (hv : v < 3) (huv : u ≠ v)
    (hc : ∀ pq : Int32 → St2 → Prop, (∀ (w s : Int32) (f a3 : Nat → Int32) (a4 a5 : Nat → Int64) (a6 : Nat → Int32), tc_E p q r f → pq val (3, w, s, a1, f, a3, a4, a5, a6)) → wpX_countUsing pq (3, w, s, a1, a2, a3, a4, a5, a6) (nI u) (nI v))
    (H : ∀ (w s : Int32) (f a3 : Nat → Int32) (a4 a5 : Nat → Int64) (a6 : Nat → Int32), tc_E p q r f → wX_degrees_14 po (nI v) n (x + val) (nI (u + 1)) 3 w s a1 f a3 a4 a5 a6) :
    wX_degrees_14 po (nI v) (n + 1) x (nI u) 3 w s a1 a2 a3 a4 a5 a6 :=
  br_f (nI_ge hu (by decide)) (pk_eq u v (fun z => absurd z huv) (fun _ => hc _ (fun w s f a3 a4 a5 a6 hf => nm_e (nm_r (nI_1 u) (H w s f a3 a4 a5 a6 hf)))))
theorem tc_deg0 (hE : tc_E a b d a1) (hM : tc_E p q r a2) (hp : tc_M p) (hq : tc_M q) (hr : tc_M r)
    (H : ∀ (w s : Int32) (f a3 : Nat → Int32) (a4 a5 : Nat → Int64) (a6 : Nat → Int32), tc_E p q r f → po (0 + (tc_ab a b p q r + tc_ad a d p q r) + (tc_ad a d p q r + tc_bd b d p q r)) (3, w, s, a1, f, a3, a4, a5, a6)) :
    wpX_degrees po (3, w, s, a1, a2, a3, a4, a5, a6) (nI 0) := by
  unfold wpX_degrees
  dsimp only
  exact tc_bv 0 (by omega) (br_t rfl ⟨4, tc_dgs 0 (by omega) (tc_dgn 1 (by omega) (by omega) (by omega) (fun pq h => (tc_cu01 hE hM hp hq hr h).2) (fun w s f a3 a4 a5 a6 hM => tc_dgn 2 (by omega) (by omega) (by omega) (fun pq h => (tc_cu02 hE hM hp hq hr h).2) (fun w s f a3 a4 a5 a6 hM => tc_dge (H w s f a3 a4 a5 a6 hM))))⟩)
theorem tc_deg1 (hE : tc_E a b d a1) (hM : tc_E p q r a2) (hp : tc_M p) (hq : tc_M q) (hr : tc_M r)
    (H : ∀ (w s : Int32) (f a3 : Nat → Int32) (a4 a5 : Nat → Int64) (a6 : Nat → Int32), tc_E p q r f → po (0 + (tc_ab a b p q r + tc_ad a d p q r) + (tc_ab a b p q r + tc_bd b d p q r)) (3, w, s, a1, f, a3, a4, a5, a6)) :
    wpX_degrees po (3, w, s, a1, a2, a3, a4, a5, a6) (nI 1) := by
  unfold wpX_degrees
  dsimp only
  exact tc_bv 1 (by omega) (br_t rfl ⟨4, tc_dgn 0 (by omega) (by omega) (by omega) (fun pq h => (tc_cu01 hE hM hp hq hr h).1) (fun w s f a3 a4 a5 a6 hM => tc_dgs 1 (by omega) (tc_dgn 2 (by omega) (by omega) (by omega) (fun pq h => (tc_cu12 hE hM hp hq hr h).2) (fun w s f a3 a4 a5 a6 hM => tc_dge (H w s f a3 a4 a5 a6 hM))))⟩)
theorem tc_deg2 (hE : tc_E a b d a1) (hM : tc_E p q r a2) (hp : tc_M p) (hq : tc_M q) (hr : tc_M r)
    (H : ∀ (w s : Int32) (f a3 : Nat → Int32) (a4 a5 : Nat → Int64) (a6 : Nat → Int32), tc_E p q r f → po (0 + (tc_ad a d p q r + tc_bd b d p q r) + (tc_ab a b p q r + tc_bd b d p q r)) (3, w, s, a1, f, a3, a4, a5, a6)) :
    wpX_degrees po (3, w, s, a1, a2, a3, a4, a5, a6) (nI 2) := by
  unfold wpX_degrees
  dsimp only
  exact tc_bv 2 (by omega) (br_t rfl ⟨4, tc_dgn 0 (by omega) (by omega) (by omega) (fun pq h => (tc_cu02 hE hM hp hq hr h).1) (fun w s f a3 a4 a5 a6 hM => tc_dgn 1 (by omega) (by omega) (by omega) (fun pq h => (tc_cu12 hE hM hp hq hr h).1) (fun w s f a3 a4 a5 a6 hM => tc_dgs 2 (by omega) (tc_dge (H w s f a3 a4 a5 a6 hM))))⟩)
/-! idle and needed -/
def tc_iv (e val : Int32) : Int32 := if e ≤ 0 then 0 else if val = 0 then 1 else 0
def tc_nv (all val : Int32) : Int32 := if val = all then 1 else 0
theorem tc_id16 {J : Int32 → Int32 → Int32 → Int32 → Int32 → (Nat → Int32) → (Nat → Int32) → (Nat → Int32) → (Nat → Int64) → (Nat → Int64) → (Nat → Int32) → Prop} {n : Nat} {x val : Int32} (u v : Nat) (hu : u < 3) (hv : v < 3)
    (hc : ∀ pq : Int32 → St2 → Prop, (∀ (w s : Int32) (f a3 : Nat → Int32) (a4 a5 : Nat → Int64) (a6 : Nat → Int32), tc_E p q r f → pq val (3, w, s, a1, f, a3, a4, a5, a6)) → wpX_countUsing pq (3, w, s, a1, a2, a3, a4, a5, a6) (nI u) (nI v))
    (H : ∀ (w s : Int32) (f a3 : Nat → Int32) (a4 a5 : Nat → Int64) (a6 : Nat → Int32), tc_E p q r f → wX_idle_16 po J (nI u) n (x + tc_iv (a1 (u * 6 + v)) val) (nI (v + 1)) 3 w s a1 f a3 a4 a5 a6) :
    wX_idle_16 po J (nI u) (n + 1) x (nI v) 3 w s a1 a2 a3 a4 a5 a6 := by
  refine br_f (nI_ge hv (by decide)) (hc _ (fun w s f a3 a4 a5 a6 hf => ⟨tc_in (by omega) (by omega), ?_⟩))
  have t := H w s f a3 a4 a5 a6 hf
  rw [tc_cl (show u < 6 by omega) (show v < 6 by omega)]
  unfold tc_iv at t
  refine br_c (fun z => nm_r (nI_1 v) ?_) (fun z => br_c (fun z1 => nm_e (nm_r (nI_1 v) ?_)) (fun z1 => nm_r (nI_1 v) ?_))
  · rw [if_pos z, Int32.add_zero] at t
    exact t
  · rw [if_neg z, if_pos z1] at t
    exact t
  · rw [if_neg z, if_neg z1, Int32.add_zero] at t
    exact t
theorem tc_id16e {J : Int32 → Int32 → Int32 → Int32 → Int32 → (Nat → Int32) → (Nat → Int32) → (Nat → Int32) → (Nat → Int64) → (Nat → Int64) → (Nat → Int32) → Prop} {n : Nat} {x : Int32} (u : Nat)
    (H : J x (nI (u + 1)) 3 w s a1 a2 a3 a4 a5 a6) : wX_idle_16 po J (nI u) (n + 1) x (nI 3) 3 w s a1 a2 a3 a4 a5 a6 :=
  pk_le 3 3 (fun _ => nm_r (nI_1 u) H) (fun z => absurd z (by omega))
theorem tc_id4 {n : Nat} {x : Int32} (u : Nat) (hu : u < 3) (H : ∃ k, wX_idle_16 po (wX_idle_4 po n) (nI u) k x (nI (u + 1)) 3 w s a1 a2 a3 a4 a5 a6) :
    wX_idle_4 po (n + 1) x (nI u) 3 w s a1 a2 a3 a4 a5 a6 :=
  br_f (nI_ge hu (by decide)) (nm_r (nI_1 u) H)
theorem tc_id4e {n : Nat} {x : Int32} (H : po x (3, w, s, a1, a2, a3, a4, a5, a6)) : wX_idle_4 po (n + 1) x (nI 3) 3 w s a1 a2 a3 a4 a5 a6 :=
  pk_le 3 3 (fun _ => H) (fun z => absurd z (by omega))
theorem tc_idle (hE : tc_E a b d a1) (hM : tc_E p q r a2) (hp : tc_M p) (hq : tc_M q) (hr : tc_M r)
    (H : ∀ (w s : Int32) (f a3 : Nat → Int32) (a4 a5 : Nat → Int64) (a6 : Nat → Int32), tc_E p q r f → po (0 + tc_iv a (tc_ab a b p q r + tc_ad a d p q r) + tc_iv d (tc_ad a d p q r + tc_bd b d p q r) + tc_iv b (tc_ab a b p q r + tc_bd b d p q r)) (3, w, s, a1, f, a3, a4, a5, a6)) :
    wpX_idle po (3, w, s, a1, a2, a3, a4, a5, a6) := by
  have hE' := hE
  obtain ⟨rfl, e6, rfl, e13, rfl, e12⟩ := hE
  unfold wpX_idle
  dsimp only
  refine ⟨4, tc_id4 0 (by omega) ⟨3, tc_id16 0 1 (by omega) (by omega) (fun pq h => (tc_cu01 hE' hM hp hq hr h).1) (fun w s f a3 a4 a5 a6 hM => tc_id16 0 2 (by omega) (by omega) (fun pq h => (tc_cu02 hE' hM hp hq hr h).1) (fun w s f a3 a4 a5 a6 hM => tc_id16e 0 ?_))⟩⟩
  refine tc_id4 1 (by omega) ⟨2, tc_id16 1 2 (by omega) (by omega) (fun pq h => (tc_cu12 hE' hM hp hq hr h).1) (fun w s f a3 a4 a5 a6 hM => tc_id16e 1 ?_)⟩
  exact tc_id4 2 (by omega) ⟨1, tc_id16e 2 (tc_id4e (H w s f a3 a4 a5 a6 hM))⟩
theorem tc_n28 {J : Int32 → Int32 → Int32 → Int32 → Int32 → (Nat → Int32) → (Nat → Int32) → (Nat → Int32) → (Nat → Int64) → (Nat → Int64) → (Nat → Int32) → Prop} {n : Nat} {x all val : Int32} (u v : Nat) (hu : u < 3) (hv : v < 3)
    (hc : ∀ pq : Int32 → St2 → Prop, (∀ (w s : Int32) (f a3 : Nat → Int32) (a4 a5 : Nat → Int64) (a6 : Nat → Int32), tc_E p q r f → pq val (3, w, s, a1, f, a3, a4, a5, a6)) → wpX_countUsing pq (3, w, s, a1, a2, a3, a4, a5, a6) (nI u) (nI v))
    (H : ∀ (w s : Int32) (f a3 : Nat → Int32) (a4 a5 : Nat → Int64) (a6 : Nat → Int32), tc_E p q r f → wX_needed_28 po J all (nI u) n (x + tc_nv all val) (nI (v + 1)) 3 w s a1 f a3 a4 a5 a6) :
    wX_needed_28 po J all (nI u) (n + 1) x (nI v) 3 w s a1 a2 a3 a4 a5 a6 := by
  refine br_f (nI_ge hv (by decide)) (hc _ (fun w s f a3 a4 a5 a6 hf => ?_))
  have t := H w s f a3 a4 a5 a6 hf
  unfold tc_nv at t
  refine br_c (fun z => nm_e (nm_r (nI_1 v) ?_)) (fun z => nm_r (nI_1 v) ?_)
  · rw [if_pos z] at t
    exact t
  · rw [if_neg z, Int32.add_zero] at t
    exact t
theorem tc_n28e {J : Int32 → Int32 → Int32 → Int32 → Int32 → (Nat → Int32) → (Nat → Int32) → (Nat → Int32) → (Nat → Int64) → (Nat → Int64) → (Nat → Int32) → Prop} {n : Nat} {x all : Int32} (u : Nat)
    (H : J x (nI (u + 1)) 3 w s a1 a2 a3 a4 a5 a6) : wX_needed_28 po J all (nI u) (n + 1) x (nI 3) 3 w s a1 a2 a3 a4 a5 a6 :=
  pk_le 3 3 (fun _ => nm_r (nI_1 u) H) (fun z => absurd z (by omega))
theorem tc_n15 {n : Nat} {x all : Int32} (u : Nat) (hu : u < 3) (H : ∃ k, wX_needed_28 po (wX_needed_15 po all n) all (nI u) k x (nI (u + 1)) 3 w s a1 a2 a3 a4 a5 a6) :
    wX_needed_15 po all (n + 1) x (nI u) 3 w s a1 a2 a3 a4 a5 a6 :=
  br_f (nI_ge hu (by decide)) (nm_r (nI_1 u) H)
theorem tc_n15e {n : Nat} {x all : Int32} (H : po x (3, w, s, a1, a2, a3, a4, a5, a6)) : wX_needed_15 po all (n + 1) x (nI 3) 3 w s a1 a2 a3 a4 a5 a6 :=
  pk_le 3 3 (fun _ => H) (fun z => absurd z (by omega))
theorem tc_needed (hE : tc_E a b d a1) (hM : tc_E p q r a2) (hp : tc_M p) (hq : tc_M q) (hr : tc_M r)
    (H0 : tc_T a b d p q r = 0 → ∀ (w s : Int32) (f a3 : Nat → Int32) (a4 a5 : Nat → Int64) (a6 : Nat → Int32), tc_E p q r f → po 0 (3, w, s, a1, f, a3, a4, a5, a6))
    (H : ¬ tc_T a b d p q r = 0 → ∀ (w s : Int32) (f a3 : Nat → Int32) (a4 a5 : Nat → Int64) (a6 : Nat → Int32), tc_E p q r f → po (0 + tc_nv (tc_T a b d p q r) (tc_ab a b p q r + tc_ad a d p q r) + tc_nv (tc_T a b d p q r) (tc_ad a d p q r + tc_bd b d p q r) + tc_nv (tc_T a b d p q r) (tc_ab a b p q r + tc_bd b d p q r)) (3, w, s, a1, f, a3, a4, a5, a6)) :
    wpX_needed po (3, w, s, a1, a2, a3, a4, a5, a6) := by
  unfold wpX_needed
  dsimp only
  refine tc_count hE hM hp hq hr (fun w s a3 a4 a5 a6 => br_c (fun z => H0 z _ _ _ _ _ _ _ hM) (fun z => ⟨4, tc_n15 0 (by omega) ⟨3, tc_n28 0 1 (by omega) (by omega) (fun pq h => (tc_cu01 hE hM hp hq hr h).1) (fun w s f a3 a4 a5 a6 hM => tc_n28 0 2 (by omega) (by omega) (fun pq h => (tc_cu02 hE hM hp hq hr h).1) (fun w s f a3 a4 a5 a6 hM => tc_n28e 0 ?_))⟩⟩))
  refine tc_n15 1 (by omega) ⟨2, tc_n28 1 2 (by omega) (by omega) (fun pq h => (tc_cu12 hE hM hp hq hr h).1) (fun w s f a3 a4 a5 a6 hM => tc_n28e 1 ?_)⟩
  exact tc_n15 2 (by omega) ⟨1, tc_n28e 2 (tc_n15e (H z w s f a3 a4 a5 a6 hM))⟩
end
end
section
theorem tc_dvf (k l : Nat) (D : Nat → Int64) : tc_dv false (decide (k = l)) D = if k = l then D 14 else 1 := by
  by_cases h : k = l
  · rw [if_pos h, decide_eq_true h]
    rfl
  · rw [if_neg h, decide_eq_false h]
    rfl
theorem tc_dvt (k l : Nat) (D : Nat → Int64) : tc_dv (decide (k = l)) false D = if k = l then D 7 else 1 := by
  by_cases h : k = l
  · rw [if_pos h, decide_eq_true h]
    rfl
  · rw [if_neg h, decide_eq_false h]
    rfl
/-- one if a pair must be used -/
def tc_o (m : Int32) : Int32 := if m = 1 then 1 else 0
/-- the trees in which a vertex hangs on a pair of mode m and e edges alone; m': its other pair's mode; o, eo: the pair across -/
def tc_hv (m m' o eo e : Int32) : Int32 := if m = 2 ∨ m' = 1 then 0 else (if o = 2 then 0 else eo) * e
theorem tc_ph0 {q : Int32} (h : tc_M q) (a b d p r e : Int32) :
    ((tc_mw q b 1 1 2).toInt64 * (if tc_mg q 1 2 2 = 2 then tc_Dp (tc_mg q 1 2) a b d p q r 14 + tc_Dp (tc_mg q 1 2) a b d p q r 12 else 1) * e.toInt64).toInt32 = (if q = 2 then 0 else b) * e := by
  have g0 : tc_mg q 1 2 0 = 0 := by rcases h with rfl | rfl | rfl <;> decide
  have g1 : tc_mg q 1 2 1 = 1 := by rcases h with rfl | rfl | rfl <;> decide
  have g2 : tc_mg q 1 2 2 = if q = 1 then 1 else 2 := by rcases h with rfl | rfl | rfl <;> decide
  unfold tc_Dp
  simp only [g0, g1, g2]
  by_cases c1 : p = 0 <;> by_cases c2 : r = 0 <;> rcases h with rfl | rfl | rfl <;> simp [tc_mw, tc_dl, c1, c2] <;> grind
theorem tc_ph1 {r : Int32} (h : tc_M r) (a b d p q e : Int32) :
    ((tc_mw r d 1 0 2).toInt64 * (if tc_mg r 0 2 2 = 2 then tc_Dp (tc_mg r 0 2) a b d p q r 14 + tc_Dp (tc_mg r 0 2) a b d p q r 13 else 1) * e.toInt64).toInt32 = (if r = 2 then 0 else d) * e := by
  have g0 : tc_mg r 0 2 0 = 0 := by rcases h with rfl | rfl | rfl <;> decide
  have g1 : tc_mg r 0 2 1 = 1 := by rcases h with rfl | rfl | rfl <;> decide
  have g2 : tc_mg r 0 2 2 = if r = 1 then 0 else 2 := by rcases h with rfl | rfl | rfl <;> decide
  unfold tc_Dp
  simp only [g0, g1, g2]
  by_cases c1 : p = 0 <;> by_cases c2 : q = 0 <;> rcases h with rfl | rfl | rfl <;> simp [tc_mw, tc_dl, c1, c2] <;> grind
theorem tc_ph2 {p : Int32} (h : tc_M p) (a b d q r e : Int32) :
    ((tc_mw p a 1 0 1).toInt64 * (if tc_mg p 0 1 1 = 1 then tc_Dp (tc_mg p 0 1) a b d p q r 7 + tc_Dp (tc_mg p 0 1) a b d p q r 8 else 1) * e.toInt64).toInt32 = (if p = 2 then 0 else a) * e := by
  have g0 : tc_mg p 0 1 0 = 0 := by rcases h with rfl | rfl | rfl <;> decide
  have g1 : tc_mg p 0 1 1 = if p = 1 then 0 else 1 := by rcases h with rfl | rfl | rfl <;> decide
  have g2 : tc_mg p 0 1 2 = 2 := by rcases h with rfl | rfl | rfl <;> decide
  unfold tc_Dp
  simp only [g0, g1, g2]
  by_cases c1 : q = 0 <;> by_cases c2 : r = 0 <;> rcases h with rfl | rfl | rfl <;> simp [tc_mw, tc_dl, c1, c2] <;> grind
section
variable {po : Int32 → St2 → Prop} {w s : Int32} {a1 a2 a3 : Nat → Int32} {a4 a5 : Nat → Int64} {a6 : Nat → Int32} {a b d p q r : Int32}
theorem tc_h0 (u : Nat) (hu : u < 3) (hE : tc_E a b d a1) (hM : tc_E p q r a2) (hq : tc_M q)
    (H : ∀ (w s : Int32) (a3 : Nat → Int32) (a4 a5 : Nat → Int64) (a6 : Nat → Int32), po ((if q = 2 then 0 else b) * a1 (u * 6 + 0)) (3, w, s, a1, a2, a3, a4, a5, a6)) :
    wX_hanging_50 po (nI 0) (nI u) 3 w s a1 a2 a3 a4 a5 a6 := by
  have hDE := fun gs j => tc_DE hE hM gs j
  obtain ⟨rfl, e6, rfl, e13, rfl, e12⟩ := hE
  obtain ⟨rfl, m6, rfl, m13, rfl, m12⟩ := hM
  have PU := tc_ph0 hq (a1 1) (a1 8) (a1 2) (a2 1) (a2 2) (a1 (u * 6 + 0))
  unfold wX_hanging_50
  refine tc_cw0 (fun g hg => br_c (fun z => ?_) (fun z => tc_fill (tc_mg (a2 8) 1 2) hg (fun D hD => tc_drop 0 (by omega) (fun D' hD' => br_t (by decide) ?_))))
  · have z0 : tc_mw (a2 8) (a1 8) 1 1 2 = 0 := z
    rw [z0] at PU
    have e : (if a2 8 = 2 then 0 else (a1 8)) * a1 (u * 6 + 0) = 0 := by
      rw [← PU]
      simp
    rw [e] at H
    exact H _ _ _ _ _ _
  · unfold wX_hanging_92
    have gc : g 1 = nI 1 := by
      rw [(hg 1 (by omega)).1]
      rcases hq with t | t | t <;> rw [t] <;> decide
    refine tc_cut false (decide (tc_mg (a2 8) 1 2 2 = 2)) (fun y => y.2.2 rfl) ⟨fun y => absurd y (by decide), fun y => absurd y.1.symm y.2.1⟩ (tc_t 2 (by omega) (hg 2 (by omega)).1 (hg 2 (by omega)).2 (by rw [gc]; decide) (by decide)) (fun s' P K hd => hd _ (fun P' => ⟨tc_in (by omega) (by omega), ?_⟩))
    rw [tc_cl (show u < 6 by omega) (show 0 < 6 by omega), tc_dvf]
    have t : D' 14 = tc_Dp (tc_mg (a2 8) 1 2) (a1 1) (a1 8) (a1 2) (a2 1) (a2 8) (a2 2) 14 + tc_Dp (tc_mg (a2 8) 1 2) (a1 1) (a1 8) (a1 2) (a2 1) (a2 8) (a2 2) 12 := by
      rw [← hDE, ← hDE, ← hD 14 (by omega), ← hD 12 (by omega)]
      exact hD' 2 (by omega) (by omega)
    rw [t, PU]
    exact H _ _ _ _ _ _
theorem tc_h1 (u : Nat) (hu : u < 3) (hE : tc_E a b d a1) (hM : tc_E p q r a2) (hr : tc_M r)
    (H : ∀ (w s : Int32) (a3 : Nat → Int32) (a4 a5 : Nat → Int64) (a6 : Nat → Int32), po ((if r = 2 then 0 else d) * a1 (u * 6 + 1)) (3, w, s, a1, a2, a3, a4, a5, a6)) :
    wX_hanging_50 po (nI 1) (nI u) 3 w s a1 a2 a3 a4 a5 a6 := by
  have hDE := fun gs j => tc_DE hE hM gs j
  obtain ⟨rfl, e6, rfl, e13, rfl, e12⟩ := hE
  obtain ⟨rfl, m6, rfl, m13, rfl, m12⟩ := hM
  have PU := tc_ph1 hr (a1 1) (a1 8) (a1 2) (a2 1) (a2 8) (a1 (u * 6 + 1))
  unfold wX_hanging_50
  refine tc_cw1 (fun g hg => br_c (fun z => ?_) (fun z => tc_fill (tc_mg (a2 2) 0 2) hg (fun D hD => tc_drop 1 (by omega) (fun D' hD' => br_f (by decide) ?_))))
  · have z0 : tc_mw (a2 2) (a1 2) 1 0 2 = 0 := z
    rw [z0] at PU
    have e : (if a2 2 = 2 then 0 else (a1 2)) * a1 (u * 6 + 1) = 0 := by
      rw [← PU]
      simp
    rw [e] at H
    exact H _ _ _ _ _ _
  · unfold wX_hanging_92
    have gc : g 0 = nI 0 := by
      rw [(hg 0 (by omega)).1]
      rcases hr with t | t | t <;> rw [t] <;> decide
    refine tc_cut false (decide (tc_mg (a2 2) 0 2 2 = 2)) (fun y => y.2.1 y.1.symm) ⟨fun y => absurd y (by decide), fun y => absurd rfl y.2.2⟩ (tc_t 2 (by omega) (hg 2 (by omega)).1 (hg 2 (by omega)).2 (by rw [gc]; decide) (by decide)) (fun s' P K hd => hd _ (fun P' => ⟨tc_in (by omega) (by omega), ?_⟩))
    rw [tc_cl (show u < 6 by omega) (show 1 < 6 by omega), tc_dvf]
    have t : D' 14 = tc_Dp (tc_mg (a2 2) 0 2) (a1 1) (a1 8) (a1 2) (a2 1) (a2 8) (a2 2) 14 + tc_Dp (tc_mg (a2 2) 0 2) (a1 1) (a1 8) (a1 2) (a2 1) (a2 8) (a2 2) 13 := by
      rw [← hDE, ← hDE, ← hD 14 (by omega), ← hD 13 (by omega)]
      exact hD' 2 (by omega) (by omega)
    rw [t, PU]
    exact H _ _ _ _ _ _
theorem tc_h2 (u : Nat) (hu : u < 3) (hE : tc_E a b d a1) (hM : tc_E p q r a2) (hp : tc_M p)
    (H : ∀ (w s : Int32) (a3 : Nat → Int32) (a4 a5 : Nat → Int64) (a6 : Nat → Int32), po ((if p = 2 then 0 else a) * a1 (u * 6 + 2)) (3, w, s, a1, a2, a3, a4, a5, a6)) :
    wX_hanging_50 po (nI 2) (nI u) 3 w s a1 a2 a3 a4 a5 a6 := by
  have hDE := fun gs j => tc_DE hE hM gs j
  obtain ⟨rfl, e6, rfl, e13, rfl, e12⟩ := hE
  obtain ⟨rfl, m6, rfl, m13, rfl, m12⟩ := hM
  have PU := tc_ph2 hp (a1 1) (a1 8) (a1 2) (a2 8) (a2 2) (a1 (u * 6 + 2))
  unfold wX_hanging_50
  refine tc_cw2 (fun g hg => br_c (fun z => ?_) (fun z => tc_fill (tc_mg (a2 1) 0 1) hg (fun D hD => tc_drop 2 (by omega) (fun D' hD' => br_f (by decide) ?_))))
  · have z0 : tc_mw (a2 1) (a1 1) 1 0 1 = 0 := z
    rw [z0] at PU
    have e : (if a2 1 = 2 then 0 else (a1 1)) * a1 (u * 6 + 2) = 0 := by
      rw [← PU]
      simp
    rw [e] at H
    exact H _ _ _ _ _ _
  · unfold wX_hanging_92
    have gc : g 0 = nI 0 := by
      rw [(hg 0 (by omega)).1]
      rcases hp with t | t | t <;> rw [t] <;> decide
    refine tc_cut (decide (tc_mg (a2 1) 0 1 1 = 1)) false (fun y => y.2.1 y.1.symm) (tc_t 1 (by omega) (hg 1 (by omega)).1 (hg 1 (by omega)).2 (by rw [gc]; decide) (by decide)) ⟨fun y => absurd y (by decide), fun y => absurd rfl y.2.2⟩ (fun s' P K hd => hd _ (fun P' => ⟨tc_in (by omega) (by omega), ?_⟩))
    rw [tc_cl (show u < 6 by omega) (show 2 < 6 by omega), tc_dvt]
    have t : D' 7 = tc_Dp (tc_mg (a2 1) 0 1) (a1 1) (a1 8) (a1 2) (a2 1) (a2 8) (a2 2) 7 + tc_Dp (tc_mg (a2 1) 0 1) (a1 1) (a1 8) (a1 2) (a2 1) (a2 8) (a2 2) 8 := by
      rw [← hDE, ← hDE, ← hD 7 (by omega), ← hD 8 (by omega)]
      exact hD' 1 (by omega) (by omega)
    rw [t, PU]
    exact H _ _ _ _ _ _
/-! mustAt -/
theorem tc_mus {pq : Int32 → Prop} {n : Nat} {x : Int32} (u : Nat) (hu : u < 3) (H : wX_mustAt_4 pq (nI u) 3 w s a1 a2 a3 a4 a5 a6 n x (nI (u + 1))) :
    wX_mustAt_4 pq (nI u) 3 w s a1 a2 a3 a4 a5 a6 (n + 1) x (nI u) :=
  br_f (nI_ge hu (by decide)) (br_t rfl (nm_r (nI_1 u) H))
theorem tc_mun {pq : Int32 → Prop} {n v : Nat} {x : Int32} (u : Nat) (hu : u < 3) (hv : v < 3) (huv : u ≠ v) (H : wX_mustAt_4 pq (nI v) 3 w s a1 a2 a3 a4 a5 a6 n (x + tc_o (a2 (u * 6 + v))) (nI (u + 1))) :
    wX_mustAt_4 pq (nI v) 3 w s a1 a2 a3 a4 a5 a6 (n + 1) x (nI u) := by
  refine br_f (nI_ge hu (by decide)) (pk_eq u v (fun z => absurd z huv) (fun _ => ⟨tc_in (by omega) (by omega), ?_⟩))
  rw [tc_cl (show u < 6 by omega) (show v < 6 by omega)]
  unfold tc_o at H
  refine br_c (fun z => nm_e (nm_r (nI_1 u) ?_)) (fun z => nm_r (nI_1 u) ?_)
  · rw [if_pos z] at H
    exact H
  · rw [if_neg z, Int32.add_zero] at H
    exact H
theorem tc_mue {pq : Int32 → Prop} {n : Nat} {x v : Int32} (H : pq x) : wX_mustAt_4 pq v 3 w s a1 a2 a3 a4 a5 a6 (n + 1) x (nI 3) :=
  pk_le 3 3 (fun _ => H) (fun z => absurd z (by omega))
theorem tc_must0 {pq : Int32 → Prop} (H : pq (0 + tc_o (a2 6) + tc_o (a2 12))) : wpX_mustAt pq (3, w, s, a1, a2, a3, a4, a5, a6) (nI 0) := by
  unfold wpX_mustAt
  dsimp only
  exact ⟨4, tc_mus 0 (by omega) (tc_mun 1 (by omega) (by omega) (by omega) (tc_mun 2 (by omega) (by omega) (by omega) (tc_mue H)))⟩
theorem tc_must1 {pq : Int32 → Prop} (H : pq (0 + tc_o (a2 1) + tc_o (a2 13))) : wpX_mustAt pq (3, w, s, a1, a2, a3, a4, a5, a6) (nI 1) := by
  unfold wpX_mustAt
  dsimp only
  exact ⟨4, tc_mun 0 (by omega) (by omega) (by omega) (tc_mus 1 (by omega) (tc_mun 2 (by omega) (by omega) (by omega) (tc_mue H)))⟩
theorem tc_must2 {pq : Int32 → Prop} (H : pq (0 + tc_o (a2 2) + tc_o (a2 8))) : wpX_mustAt pq (3, w, s, a1, a2, a3, a4, a5, a6) (nI 2) := by
  unfold wpX_mustAt
  dsimp only
  exact ⟨4, tc_mun 0 (by omega) (by omega) (by omega) (tc_mun 1 (by omega) (by omega) (by omega) (tc_mus 2 (by omega) (tc_mue H)))⟩
theorem tc_hg (v u : Nat) (hv : v < 3) (hu : u < 3) {R m m' o eo e : Int32} (hm : a2 (u * 6 + v) = m) (hR : R = tc_o m + tc_o m')
    (hmu : ∀ pq : Int32 → Prop, pq R → wpX_mustAt pq (3, w, s, a1, a2, a3, a4, a5, a6) (nI v))
    (h5 : ((∀ (w s : Int32) (a3 : Nat → Int32) (a4 a5 : Nat → Int64) (a6 : Nat → Int32), po ((if o = 2 then 0 else eo) * e) (3, w, s, a1, a2, a3, a4, a5, a6)) → wX_hanging_50 po (nI v) (nI u) 3 w s a1 a2 a3 a4 a5 a6))
    (H : ∀ (w s : Int32) (a3 : Nat → Int32) (a4 a5 : Nat → Int64) (a6 : Nat → Int32), po (tc_hv m m' o eo e) (3, w, s, a1, a2, a3, a4, a5, a6)) : wpX_hanging po (3, w, s, a1, a2, a3, a4, a5, a6) (nI v) (nI u) := by
  unfold tc_hv at H
  have hz : m = 2 ∨ m' = 1 → po 0 (3, w, s, a1, a2, a3, a4, a5, a6) := by
    intro z
    rw [if_pos z] at H
    exact H _ _ _ _ _ _
  have hy : ¬ m = 2 → ¬ m' = 1 → wX_hanging_50 po (nI v) (nI u) 3 w s a1 a2 a3 a4 a5 a6 := by
    intro z1 z2
    rw [if_neg (fun z => z.elim z1 z2)] at H
    exact h5 H
  unfold wpX_hanging
  dsimp only
  refine hmu _ ⟨tc_in (by omega) (by omega), ?_⟩
  rw [tc_cl (show u < 6 by omega) (show v < 6 by omega), hm, hR]
  refine br_c (fun z => hz (Or.inl z)) (fun z => ?_)
  by_cases c' : m' = 1
  · by_cases c : m = 1
    · have e : tc_o m + tc_o m' = 2 := by
        rw [c, c']
        decide
      rw [e]
      exact br_t (by decide) (hz (Or.inr c'))
    · have e : tc_o m + tc_o m' = 1 := by
        unfold tc_o
        rw [if_neg c, if_pos c']
        decide
      rw [e]
      exact br_f (by decide) (br_t rfl ⟨tc_in (by omega) (by omega), br_f c (hz (Or.inr c'))⟩)
  · by_cases c : m = 1
    · have e : tc_o m + tc_o m' = 1 := by
        unfold tc_o
        rw [if_pos c, if_neg c']
        decide
      rw [e]
      exact br_f (by decide) (br_t rfl ⟨tc_in (by omega) (by omega), br_t c (hy z c')⟩)
    · have e : tc_o m + tc_o m' = 0 := by
        unfold tc_o
        rw [if_neg c, if_neg c']
        decide
      rw [e]
      exact br_f (by decide) (br_f (by decide) (hy z c'))
theorem tc_hang01 (hE : tc_E a b d a1) (hM : tc_E p q r a2) (hp : tc_M p) (hq : tc_M q) (hr : tc_M r)
    (H : ∀ (w s : Int32) (a3 : Nat → Int32) (a4 a5 : Nat → Int64) (a6 : Nat → Int32), po (tc_hv p r q b a) (3, w, s, a1, a2, a3, a4, a5, a6)) : wpX_hanging po (3, w, s, a1, a2, a3, a4, a5, a6) (nI 0) (nI 1) := by
  have ee : a1 (1 * 6 + 0) = a := hE.2.1
  refine tc_hg 0 1 (by omega) (by omega) hM.2.1 (R := 0 + tc_o (a2 6) + tc_o (a2 12)) (by rw [hM.2.1, hM.2.2.2.2.2]; grind) (fun pq h => tc_must0 h) (fun h => tc_h0 1 (by omega) hE hM hq (fun w s a3 a4 a5 a6 => ?_)) H
  rw [ee]
  exact h w s a3 a4 a5 a6
theorem tc_hang02 (hE : tc_E a b d a1) (hM : tc_E p q r a2) (hp : tc_M p) (hq : tc_M q) (hr : tc_M r)
    (H : ∀ (w s : Int32) (a3 : Nat → Int32) (a4 a5 : Nat → Int64) (a6 : Nat → Int32), po (tc_hv r p q b d) (3, w, s, a1, a2, a3, a4, a5, a6)) : wpX_hanging po (3, w, s, a1, a2, a3, a4, a5, a6) (nI 0) (nI 2) := by
  have ee : a1 (2 * 6 + 0) = d := hE.2.2.2.2.2
  refine tc_hg 0 2 (by omega) (by omega) hM.2.2.2.2.2 (R := 0 + tc_o (a2 6) + tc_o (a2 12)) (by rw [hM.2.1, hM.2.2.2.2.2]; grind) (fun pq h => tc_must0 h) (fun h => tc_h0 2 (by omega) hE hM hq (fun w s a3 a4 a5 a6 => ?_)) H
  rw [ee]
  exact h w s a3 a4 a5 a6
theorem tc_hang10 (hE : tc_E a b d a1) (hM : tc_E p q r a2) (hp : tc_M p) (hq : tc_M q) (hr : tc_M r)
    (H : ∀ (w s : Int32) (a3 : Nat → Int32) (a4 a5 : Nat → Int64) (a6 : Nat → Int32), po (tc_hv p q r d a) (3, w, s, a1, a2, a3, a4, a5, a6)) : wpX_hanging po (3, w, s, a1, a2, a3, a4, a5, a6) (nI 1) (nI 0) := by
  have ee : a1 (0 * 6 + 1) = a := hE.1
  refine tc_hg 1 0 (by omega) (by omega) hM.1 (R := 0 + tc_o (a2 1) + tc_o (a2 13)) (by rw [hM.1, hM.2.2.2.1]; grind) (fun pq h => tc_must1 h) (fun h => tc_h1 0 (by omega) hE hM hr (fun w s a3 a4 a5 a6 => ?_)) H
  rw [ee]
  exact h w s a3 a4 a5 a6
theorem tc_hang12 (hE : tc_E a b d a1) (hM : tc_E p q r a2) (hp : tc_M p) (hq : tc_M q) (hr : tc_M r)
    (H : ∀ (w s : Int32) (a3 : Nat → Int32) (a4 a5 : Nat → Int64) (a6 : Nat → Int32), po (tc_hv q p r d b) (3, w, s, a1, a2, a3, a4, a5, a6)) : wpX_hanging po (3, w, s, a1, a2, a3, a4, a5, a6) (nI 1) (nI 2) := by
  have ee : a1 (2 * 6 + 1) = b := hE.2.2.2.1
  refine tc_hg 1 2 (by omega) (by omega) hM.2.2.2.1 (R := 0 + tc_o (a2 1) + tc_o (a2 13)) (by rw [hM.1, hM.2.2.2.1]; grind) (fun pq h => tc_must1 h) (fun h => tc_h1 2 (by omega) hE hM hr (fun w s a3 a4 a5 a6 => ?_)) H
  rw [ee]
  exact h w s a3 a4 a5 a6
theorem tc_hang20 (hE : tc_E a b d a1) (hM : tc_E p q r a2) (hp : tc_M p) (hq : tc_M q) (hr : tc_M r)
    (H : ∀ (w s : Int32) (a3 : Nat → Int32) (a4 a5 : Nat → Int64) (a6 : Nat → Int32), po (tc_hv r q p a d) (3, w, s, a1, a2, a3, a4, a5, a6)) : wpX_hanging po (3, w, s, a1, a2, a3, a4, a5, a6) (nI 2) (nI 0) := by
  have ee : a1 (0 * 6 + 2) = d := hE.2.2.2.2.1
  refine tc_hg 2 0 (by omega) (by omega) hM.2.2.2.2.1 (R := 0 + tc_o (a2 2) + tc_o (a2 8)) (by rw [hM.2.2.2.2.1, hM.2.2.1]; grind) (fun pq h => tc_must2 h) (fun h => tc_h2 0 (by omega) hE hM hp (fun w s a3 a4 a5 a6 => ?_)) H
  rw [ee]
  exact h w s a3 a4 a5 a6
theorem tc_hang21 (hE : tc_E a b d a1) (hM : tc_E p q r a2) (hp : tc_M p) (hq : tc_M q) (hr : tc_M r)
    (H : ∀ (w s : Int32) (a3 : Nat → Int32) (a4 a5 : Nat → Int64) (a6 : Nat → Int32), po (tc_hv q r p a b) (3, w, s, a1, a2, a3, a4, a5, a6)) : wpX_hanging po (3, w, s, a1, a2, a3, a4, a5, a6) (nI 2) (nI 1) := by
  have ee : a1 (1 * 6 + 2) = b := hE.2.2.1
  refine tc_hg 2 1 (by omega) (by omega) hM.2.2.1 (R := 0 + tc_o (a2 2) + tc_o (a2 8)) (by rw [hM.2.2.2.2.1, hM.2.2.1]; grind) (fun pq h => tc_must2 h) (fun h => tc_h2 1 (by omega) hE hM hp (fun w s a3 a4 a5 a6 => ?_)) H
  rw [ee]
  exact h w s a3 a4 a5 a6
/-! leaves -/
theorem tc_lfs {n : Nat} {x : Int32} (u : Nat) (hu : u < 3) (H : wX_leaf_14 po (nI u) n x (nI (u + 1)) 3 w s a1 a2 a3 a4 a5 a6) :
    wX_leaf_14 po (nI u) (n + 1) x (nI u) 3 w s a1 a2 a3 a4 a5 a6 :=
  br_f (nI_ge hu (by decide)) (br_t rfl (nm_r (nI_1 u) H))
theorem tc_lfe {n : Nat} {x v : Int32} (H : po x (3, w, s, a1, a2, a3, a4, a5, a6)) : wX_leaf_14 po v (n + 1) x (nI 3) 3 w s a1 a2 a3 a4 a5 a6 :=
  pk_le 3 3 (fun _ => H) (fun z => absurd z (by omega))
theorem tc_lfn {n v : Nat} {x val : Int32} (u : Nat) (hu : u < 3) (hv : v < 3) (huv : u ≠ v)
    (hc : ∀ pq : Int32 → St2 → Prop, (∀ (w s : Int32) (a3 : Nat → Int32) (a4 a5 : Nat → Int64) (a6 : Nat → Int32), pq val (3, w, s, a1, a2, a3, a4, a5, a6)) → wpX_hanging pq (3, w, s, a1, a2, a3, a4, a5, a6) (nI v) (nI u))
    (H : ∀ (w s : Int32) (a3 : Nat → Int32) (a4 a5 : Nat → Int64) (a6 : Nat → Int32), wX_leaf_14 po (nI v) n (x + val) (nI (u + 1)) 3 w s a1 a2 a3 a4 a5 a6) :
    wX_leaf_14 po (nI v) (n + 1) x (nI u) 3 w s a1 a2 a3 a4 a5 a6 :=
  br_f (nI_ge hu (by decide)) (pk_eq u v (fun z => absurd z huv) (fun _ => hc _ (fun w s a3 a4 a5 a6 => nm_e (nm_r (nI_1 u) (H w s a3 a4 a5 a6)))))
theorem tc_leaf0 (hE : tc_E a b d a1) (hM : tc_E p q r a2) (hp : tc_M p) (hq : tc_M q) (hr : tc_M r)
    (H : ∀ (w s : Int32) (a3 : Nat → Int32) (a4 a5 : Nat → Int64) (a6 : Nat → Int32), po (0 + tc_hv p r q b a + tc_hv r p q b d) (3, w, s, a1, a2, a3, a4, a5, a6)) : wpX_leaf po (3, w, s, a1, a2, a3, a4, a5, a6) (nI 0) := by
  unfold wpX_leaf
  dsimp only
  exact tc_bv 0 (by omega) (br_t rfl ⟨4, tc_lfs 0 (by omega) (tc_lfn 1 (by omega) (by omega) (by omega) (fun pq h => tc_hang01 hE hM hp hq hr h) (fun w s a3 a4 a5 a6 => tc_lfn 2 (by omega) (by omega) (by omega) (fun pq h => tc_hang02 hE hM hp hq hr h) (fun w s a3 a4 a5 a6 => tc_lfe (H _ _ _ _ _ _))))⟩)
theorem tc_leaf1 (hE : tc_E a b d a1) (hM : tc_E p q r a2) (hp : tc_M p) (hq : tc_M q) (hr : tc_M r)
    (H : ∀ (w s : Int32) (a3 : Nat → Int32) (a4 a5 : Nat → Int64) (a6 : Nat → Int32), po (0 + tc_hv p q r d a + tc_hv q p r d b) (3, w, s, a1, a2, a3, a4, a5, a6)) : wpX_leaf po (3, w, s, a1, a2, a3, a4, a5, a6) (nI 1) := by
  unfold wpX_leaf
  dsimp only
  exact tc_bv 1 (by omega) (br_t rfl ⟨4, tc_lfn 0 (by omega) (by omega) (by omega) (fun pq h => tc_hang10 hE hM hp hq hr h) (fun w s a3 a4 a5 a6 => tc_lfs 1 (by omega) (tc_lfn 2 (by omega) (by omega) (by omega) (fun pq h => tc_hang12 hE hM hp hq hr h) (fun w s a3 a4 a5 a6 => tc_lfe (H _ _ _ _ _ _))))⟩)
theorem tc_leaf2 (hE : tc_E a b d a1) (hM : tc_E p q r a2) (hp : tc_M p) (hq : tc_M q) (hr : tc_M r)
    (H : ∀ (w s : Int32) (a3 : Nat → Int32) (a4 a5 : Nat → Int64) (a6 : Nat → Int32), po (0 + tc_hv r q p a d + tc_hv q r p a b) (3, w, s, a1, a2, a3, a4, a5, a6)) : wpX_leaf po (3, w, s, a1, a2, a3, a4, a5, a6) (nI 2) := by
  unfold wpX_leaf
  dsimp only
  exact tc_bv 2 (by omega) (br_t rfl ⟨4, tc_lfn 0 (by omega) (by omega) (by omega) (fun pq h => tc_hang20 hE hM hp hq hr h) (fun w s a3 a4 a5 a6 => tc_lfn 1 (by omega) (by omega) (by omega) (fun pq h => tc_hang21 hE hM hp hq hr h) (fun w s a3 a4 a5 a6 => tc_lfs 2 (by omega) (tc_lfe (H _ _ _ _ _ _))))⟩)
end
/-! forests of two trees that keep 0 and 1 apart -/
def tc_oB (b p q r : Int32) : Int32 := if q = 2 ∨ p = 1 ∨ r = 1 then 0 else b
def tc_oD (d p q r : Int32) : Int32 := if r = 2 ∨ p = 1 ∨ q = 1 then 0 else d
theorem tc_pa0 {p q r : Int32} (b d : Int32) (hp : tc_M p) (hq : tc_M q) (hr : tc_M r) (h : tc_g3 p q r 0 = tc_g3 p q r 1) : tc_oB b p q r + tc_oD d p q r = 0 := by
  rw [tc_gv0 hp hq hr, tc_gv1 hp hq hr] at h
  unfold tc_oB tc_oD
  rcases hp with rfl | rfl | rfl <;> rcases hq with rfl | rfl | rfl <;> rcases hr with rfl | rfl | rfl <;> simp at h ⊢
theorem tc_pa1 {p q r : Int32} (a b d : Int32) (hp : tc_M p) (hq : tc_M q) (hr : tc_M r) (h : ¬ tc_g3 p q r 0 = tc_g3 p q r 1) :
    ((tc_w3 p q r a b d).toInt64 * (if tc_g3 p q r 2 = 2 then tc_Dp (tc_g3 p q r) a b d p q r 14 else 1)).toInt32 = tc_oB b p q r + tc_oD d p q r := by
  rw [tc_wv a b d hp hq hr]
  unfold tc_Dp
  simp only [tc_gv0 hp hq hr, tc_gv1 hp hq hr, tc_gv2 hp hq hr] at h ⊢
  unfold tc_oB tc_oD
  rcases hp with rfl | rfl | rfl <;> rcases hq with rfl | rfl | rfl <;> rcases hr with rfl | rfl | rfl <;> simp [tc_dl] at h ⊢ <;> grind
section
variable {po : Int32 → St2 → Prop} {w s : Int32} {a1 a2 a3 : Nat → Int32} {a4 a5 : Nat → Int64} {a6 : Nat → Int32} {a b d p q r : Int32}
theorem tc_apart01 (hE : tc_E a b d a1) (hM : tc_E p q r a2) (hp : tc_M p) (hq : tc_M q) (hr : tc_M r)
    (H : ∀ (w s : Int32) (a3 : Nat → Int32) (a4 a5 : Nat → Int64) (a6 : Nat → Int32), po (tc_oB b p q r + tc_oD d p q r) (3, w, s, a1, a2, a3, a4, a5, a6)) : wpX_apart po (3, w, s, a1, a2, a3, a4, a5, a6) (nI 0) (nI 1) := by
  have hDE := fun gs j => tc_DE hE hM gs j
  obtain ⟨rfl, e6, rfl, e13, rfl, e12⟩ := hE
  obtain ⟨rfl, m6, rfl, m13, rfl, m12⟩ := hM
  have P0 := tc_pa0 (a1 8) (a1 2) hp hq hr
  have P1 := tc_pa1 (a1 1) (a1 8) (a1 2) hp hq hr
  have v0 := tc_gv0 hp hq hr
  unfold wpX_apart
  dsimp only
  refine tc_bp 0 1 (by omega) (by omega) (by omega) (br_t rfl (tc_contract (fun g hg => ?_)))
  have E0 := (hg 0 (by omega)).1
  have E1 := (hg 1 (by omega)).1
  have L0 := (hg 0 (by omega)).2
  have L1 := (hg 1 (by omega)).2
  have Q : g 0 = g 1 ↔ tc_g3 (a2 1) (a2 8) (a2 2) 0 = tc_g3 (a2 1) (a2 8) (a2 2) 1 := by
    rw [E0, E1]
    exact nI_eq (by omega) (by omega)
  have hz : tc_oB (a1 8) (a2 1) (a2 8) (a2 2) + tc_oD (a1 2) (a2 1) (a2 8) (a2 2) = 0 → po 0 (3, tc_w3 (a2 1) (a2 8) (a2 2) (a1 1) (a1 8) (a1 2), s, a1, a2, g, a4, a5, a6) := by
    intro e
    rw [e] at H
    exact H _ _ _ _ _ _
  refine br_c (fun z => hz ?_) (fun z => ⟨pk_in 0 6 (by omega), pk_in 1 6 (by omega), br_c (fun z1 => hz ?_) (fun z1 => ?_)⟩)
  · by_cases c : tc_g3 (a2 1) (a2 8) (a2 2) 0 = tc_g3 (a2 1) (a2 8) (a2 2) 1
    · exact P0 c
    · have z0 : tc_w3 (a2 1) (a2 8) (a2 2) (a1 1) (a1 8) (a1 2) = 0 := z
      rw [← P1 c, z0]
      simp
  · have z2 : g 0 = g 1 := z1
    exact P0 (Q.mp z2)
  · have z2 : ¬ g 0 = g 1 := z1
    have zz : ¬ tc_g3 (a2 1) (a2 8) (a2 2) 0 = tc_g3 (a2 1) (a2 8) (a2 2) 1 := fun t => z2 (Q.mpr t)
    have G0 : g 0 = nI 0 := by rw [E0, v0]
    have G1 : g 1 = nI 1 := by
      rw [E1]
      have v1 := tc_gv1 hp hq hr
      by_cases c : a2 1 = 1 ∨ (a2 8 = 1 ∧ a2 2 = 1)
      · rw [if_pos c] at v1
        exact absurd (v0.trans v1.symm) zz
      · rw [if_neg c] at v1
        rw [v1]
    refine tc_fill (tc_g3 (a2 1) (a2 8) (a2 2)) hg (fun D hD => ⟨pk_in 0 6 (by omega), pk_in 1 6 (by omega), ?_⟩)
    refine tc_cut (x := g 0) (y := g 1) false (decide (tc_g3 (a2 1) (a2 8) (a2 2) 2 = 2)) (fun y => y.2.1 y.1.symm) ⟨fun y => absurd y (by decide), fun y => absurd y.1.symm y.2.2⟩ (tc_t 2 (by omega) (hg 2 (by omega)).1 (hg 2 (by omega)).2 (by rw [G0]; decide) (by rw [G1]; decide)) (fun s' P K hd => hd _ (fun P' => ?_))
    have t : ((tc_w3 (a2 1) (a2 8) (a2 2) (a1 1) (a1 8) (a1 2)).toInt64 * tc_dv false (decide (tc_g3 (a2 1) (a2 8) (a2 2) 2 = 2)) D).toInt32 = tc_oB (a1 8) (a2 1) (a2 8) (a2 2) + tc_oD (a1 2) (a2 1) (a2 8) (a2 2) := by
      rw [tc_dvf, hD 14 (by omega), hDE, P1 zz]
    rw [← t] at H
    exact H _ _ _ _ _ _
theorem tc_apart10 (hE : tc_E a b d a1) (hM : tc_E p q r a2) (hp : tc_M p) (hq : tc_M q) (hr : tc_M r)
    (H : ∀ (w s : Int32) (a3 : Nat → Int32) (a4 a5 : Nat → Int64) (a6 : Nat → Int32), po (tc_oB b p q r + tc_oD d p q r) (3, w, s, a1, a2, a3, a4, a5, a6)) : wpX_apart po (3, w, s, a1, a2, a3, a4, a5, a6) (nI 1) (nI 0) := by
  have hDE := fun gs j => tc_DE hE hM gs j
  obtain ⟨rfl, e6, rfl, e13, rfl, e12⟩ := hE
  obtain ⟨rfl, m6, rfl, m13, rfl, m12⟩ := hM
  have P0 := tc_pa0 (a1 8) (a1 2) hp hq hr
  have P1 := tc_pa1 (a1 1) (a1 8) (a1 2) hp hq hr
  have v0 := tc_gv0 hp hq hr
  unfold wpX_apart
  dsimp only
  refine tc_bp 1 0 (by omega) (by omega) (by omega) (br_t rfl (tc_contract (fun g hg => ?_)))
  have E0 := (hg 0 (by omega)).1
  have E1 := (hg 1 (by omega)).1
  have L0 := (hg 0 (by omega)).2
  have L1 := (hg 1 (by omega)).2
  have Q : g 0 = g 1 ↔ tc_g3 (a2 1) (a2 8) (a2 2) 0 = tc_g3 (a2 1) (a2 8) (a2 2) 1 := by
    rw [E0, E1]
    exact nI_eq (by omega) (by omega)
  have hz : tc_oB (a1 8) (a2 1) (a2 8) (a2 2) + tc_oD (a1 2) (a2 1) (a2 8) (a2 2) = 0 → po 0 (3, tc_w3 (a2 1) (a2 8) (a2 2) (a1 1) (a1 8) (a1 2), s, a1, a2, g, a4, a5, a6) := by
    intro e
    rw [e] at H
    exact H _ _ _ _ _ _
  refine br_c (fun z => hz ?_) (fun z => ⟨pk_in 1 6 (by omega), pk_in 0 6 (by omega), br_c (fun z1 => hz ?_) (fun z1 => ?_)⟩)
  · by_cases c : tc_g3 (a2 1) (a2 8) (a2 2) 0 = tc_g3 (a2 1) (a2 8) (a2 2) 1
    · exact P0 c
    · have z0 : tc_w3 (a2 1) (a2 8) (a2 2) (a1 1) (a1 8) (a1 2) = 0 := z
      rw [← P1 c, z0]
      simp
  · have z2 : g 1 = g 0 := z1
    exact P0 (Q.mp z2.symm)
  · have z2 : ¬ g 1 = g 0 := z1
    have zz : ¬ tc_g3 (a2 1) (a2 8) (a2 2) 0 = tc_g3 (a2 1) (a2 8) (a2 2) 1 := fun t => z2 (Q.mpr t).symm
    have G0 : g 0 = nI 0 := by rw [E0, v0]
    have G1 : g 1 = nI 1 := by
      rw [E1]
      have v1 := tc_gv1 hp hq hr
      by_cases c : a2 1 = 1 ∨ (a2 8 = 1 ∧ a2 2 = 1)
      · rw [if_pos c] at v1
        exact absurd (v0.trans v1.symm) zz
      · rw [if_neg c] at v1
        rw [v1]
    refine tc_fill (tc_g3 (a2 1) (a2 8) (a2 2)) hg (fun D hD => ⟨pk_in 1 6 (by omega), pk_in 0 6 (by omega), ?_⟩)
    refine tc_cut (x := g 1) (y := g 0) false (decide (tc_g3 (a2 1) (a2 8) (a2 2) 2 = 2)) (fun y => y.2.2 y.1.symm) ⟨fun y => absurd y (by decide), fun y => absurd y.1.symm y.2.1⟩ (tc_t 2 (by omega) (hg 2 (by omega)).1 (hg 2 (by omega)).2 (by rw [G1]; decide) (by rw [G0]; decide)) (fun s' P K hd => hd _ (fun P' => ?_))
    have t : ((tc_w3 (a2 1) (a2 8) (a2 2) (a1 1) (a1 8) (a1 2)).toInt64 * tc_dv false (decide (tc_g3 (a2 1) (a2 8) (a2 2) 2 = 2)) D).toInt32 = tc_oB (a1 8) (a2 1) (a2 8) (a2 2) + tc_oD (a1 2) (a2 1) (a2 8) (a2 2) := by
      rw [tc_dvf, hD 14 (by omega), hDE, P1 zz]
    rw [← t] at H
    exact H _ _ _ _ _ _
end
end
section
/-! The plain law of the checks -/
theorem tc_pl0 {p q r : Int32} (a b d : Int32) (hp : tc_M p) (hq : tc_M q) (hr : tc_M r) : 0 + tc_hv p r q b a + tc_hv r p q b d = tc_ab a b p q r + tc_bd b d p q r := by
  unfold tc_hv tc_ab tc_bd
  rcases hp with rfl | rfl | rfl <;> rcases hq with rfl | rfl | rfl <;> rcases hr with rfl | rfl | rfl <;> simp <;> grind
theorem tc_pl1 {p q r : Int32} (a b d : Int32) (hp : tc_M p) (hq : tc_M q) (hr : tc_M r) : 0 + tc_hv p q r d a + tc_hv q p r d b = tc_ad a d p q r + tc_bd b d p q r := by
  unfold tc_hv tc_ad tc_bd
  rcases hp with rfl | rfl | rfl <;> rcases hq with rfl | rfl | rfl <;> rcases hr with rfl | rfl | rfl <;> simp <;> grind
theorem tc_pl2 {p q r : Int32} (a b d : Int32) (hp : tc_M p) (hq : tc_M q) (hr : tc_M r) : 0 + tc_hv r q p a d + tc_hv q r p a b = tc_ab a b p q r + tc_ad a d p q r := by
  unfold tc_hv tc_ab tc_ad
  rcases hp with rfl | rfl | rfl <;> rcases hq with rfl | rfl | rfl <;> rcases hr with rfl | rfl | rfl <;> simp <;> grind
def tc_z (v : Int32) : Int32 := if v = 0 then 1 else 0
theorem tc_nvz {all val v : Int32} (h : all = val + v) : tc_nv all val = tc_z v := by
  unfold tc_nv tc_z
  by_cases c : v = 0
  · rw [if_pos c, if_pos (by rw [h, c, Int32.add_zero])]
  · rw [if_neg c, if_neg (fun e => c (by grind))]
theorem tc_if3 {c1 c2 c3 A B : Prop} (hA : c1 ∨ c2 ∨ c3 → A) (hB : ¬ (c1 ∨ c2 ∨ c3) → B) : (c1 → A) ∧ (¬ c1 → ((c2 → A) ∧ (¬ c2 → ((c3 → A) ∧ (¬ c3 → B))))) :=
  ⟨fun h => hA (Or.inl h), fun n1 => ⟨fun h => hA (Or.inr (Or.inl h)), fun n2 => ⟨fun h => hA (Or.inr (Or.inr h)), fun n3 => hB (fun z => z.elim n1 (fun z => z.elim n2 n3))⟩⟩⟩
section
variable {pp : Int32 → St0 → Prop} {mc ms kc ks : Nat} {w s : Int32} {a1 a2 a3 : Nat → Int32} {a4 a5 : Nat → Int64} {a6 : Nat → Int32} {a b d p q r : Int32}
theorem tc_566 {x18 z0 : Int32} (h1 : pp 1 ()) (hE : tc_E a b d a1) (hM : tc_E p q r a2) (hp : tc_M p) (hq : tc_M q) (hr : tc_M r)
    (h18 : 0 + tc_iv a (tc_ab a b p q r + tc_ad a d p q r) + tc_iv d (tc_ad a d p q r + tc_bd b d p q r) + tc_iv b (tc_ab a b p q r + tc_bd b d p q r) = x18)
    (hz : tc_T a b d p q r = 0 → 0 = z0)
    (hn : ¬ tc_T a b d p q r = 0 → 0 + tc_nv (tc_T a b d p q r) (tc_ab a b p q r + tc_ad a d p q r) + tc_nv (tc_T a b d p q r) (tc_ad a d p q r + tc_bd b d p q r) + tc_nv (tc_T a b d p q r) (tc_ab a b p q r + tc_bd b d p q r) = z0) :
    wL_lawOf_566 pp mc ms x18 z0 kc ks 3 w s a1 a2 a3 a4 a5 a6 := by
  unfold wL_lawOf_566
  exact tc_idle hE hM hp hq hr (fun w s f a3 a4 a5 a6 hM => br_t h18 (tc_needed hE hM hp hq hr (fun t w s f a3 a4 a5 a6 hM => br_t (hz t) h1) (fun t w s f a3 a4 a5 a6 hM => br_t (hn t) h1)))
theorem tc_554 {x18 z0 z1 : Int32} (h1 : pp 1 ()) (hE : tc_E a b d a1) (hM : tc_E p q r a2) (hp : tc_M p) (hq : tc_M q) (hr : tc_M r) (hT : ¬ tc_T a b d p q r = 0)
    (h18 : 0 + tc_iv a (tc_ab a b p q r + tc_ad a d p q r) + tc_iv d (tc_ad a d p q r + tc_bd b d p q r) + tc_iv b (tc_ab a b p q r + tc_bd b d p q r) = x18)
    (hz1 : z1 = tc_z (tc_bd b d p q r)) (hz0 : z0 = tc_z (tc_ad a d p q r)) :
    wL_lawOf_554 pp mc ms (tc_ab a b p q r) x18 z0 z1 kc ks 3 w s a1 a2 a3 a4 a5 a6 := by
  have K : 0 + tc_nv (tc_T a b d p q r) (tc_ab a b p q r + tc_ad a d p q r) + tc_nv (tc_T a b d p q r) (tc_ad a d p q r + tc_bd b d p q r) + tc_nv (tc_T a b d p q r) (tc_ab a b p q r + tc_bd b d p q r) = (z1 + z0) + tc_z (tc_ab a b p q r) := by
    rw [tc_nvz (v := tc_bd b d p q r) (by unfold tc_T; grind), tc_nvz (v := tc_ab a b p q r) (by unfold tc_T; grind), tc_nvz (v := tc_ad a d p q r) (by unfold tc_T; grind), hz1, hz0]
    grind
  unfold tc_z at K
  unfold wL_lawOf_554
  refine br_c (fun z => ?_) (fun z => ?_)
  · unfold wL_lawOf_565
    rw [if_pos z] at K
    exact tc_566 h1 hE hM hp hq hr h18 (fun t => absurd t hT) (fun _ => K)
  · unfold wL_lawOf_565
    rw [if_neg z] at K
    exact tc_566 h1 hE hM hp hq hr h18 (fun t => absurd t hT) (fun _ => K)
theorem tc_544 {x18 z0 : Int32} (h1 : pp 1 ()) (hE : tc_E a b d a1) (hM : tc_E p q r a2) (hp : tc_M p) (hq : tc_M q) (hr : tc_M r) (hT : ¬ tc_T a b d p q r = 0)
    (h18 : 0 + tc_iv a (tc_ab a b p q r + tc_ad a d p q r) + tc_iv d (tc_ad a d p q r + tc_bd b d p q r) + tc_iv b (tc_ab a b p q r + tc_bd b d p q r) = x18)
    (hz0 : z0 = tc_z (tc_bd b d p q r)) :
    wL_lawOf_544 pp mc ms (tc_ab a b p q r) (tc_ad a d p q r) x18 z0 kc ks 3 w s a1 a2 a3 a4 a5 a6 := by
  unfold wL_lawOf_544
  exact br_c (fun z => tc_554 h1 hE hM hp hq hr hT h18 hz0 (by unfold tc_z; rw [if_pos z])) (fun z => tc_554 h1 hE hM hp hq hr hT h18 hz0 (by unfold tc_z; rw [if_neg z]))
theorem tc_522 {z0 z1 : Int32} (h1 : pp 1 ()) (hE : tc_E a b d a1) (hM : tc_E p q r a2) (hp : tc_M p) (hq : tc_M q) (hr : tc_M r)
    (hz1 : z1 = tc_iv a (tc_ab a b p q r + tc_ad a d p q r) + tc_iv b (tc_ab a b p q r + tc_bd b d p q r)) (hz0 : z0 = tc_iv d (tc_ad a d p q r + tc_bd b d p q r)) :
    wL_lawOf_522 pp mc ms (tc_ab a b p q r) (tc_ad a d p q r) (tc_bd b d p q r) (tc_T a b d p q r) z0 z1 kc ks 3 w s a1 a2 a3 a4 a5 a6 := by
  have h18 : 0 + tc_iv a (tc_ab a b p q r + tc_ad a d p q r) + tc_iv d (tc_ad a d p q r + tc_bd b d p q r) + tc_iv b (tc_ab a b p q r + tc_bd b d p q r) = z1 + z0 := by
    rw [hz1, hz0]
    grind
  unfold wL_lawOf_522
  exact nm_e (br_c (fun z => tc_566 h1 hE hM hp hq hr h18 (fun _ => rfl) (fun t => absurd z t)) (fun hT => br_c (fun z => tc_544 h1 hE hM hp hq hr hT h18 (by unfold tc_z; rw [if_pos z])) (fun z => tc_544 h1 hE hM hp hq hr hT h18 (by unfold tc_z; rw [if_neg z]))))
theorem tc_503 {z0 z1 : Int32} (h1 : pp 1 ()) (hE : tc_E a b d a1) (hM : tc_E p q r a2) (hp : tc_M p) (hq : tc_M q) (hr : tc_M r)
    (hz1 : z1 = tc_iv a (tc_ab a b p q r + tc_ad a d p q r)) (hz0 : z0 = tc_iv b (tc_ab a b p q r + tc_bd b d p q r)) :
    wL_lawOf_503 pp mc ms d (tc_ab a b p q r) (tc_ad a d p q r) (tc_bd b d p q r) (tc_T a b d p q r) z0 z1 kc ks 3 w s a1 a2 a3 a4 a5 a6 := by
  have e : z1 + z0 = tc_iv a (tc_ab a b p q r + tc_ad a d p q r) + tc_iv b (tc_ab a b p q r + tc_bd b d p q r) := by rw [hz1, hz0]
  unfold wL_lawOf_503
  refine br_c (fun z => ?_) (fun z => br_c (fun y => ?_) (fun y => ?_))
  · unfold wL_lawOf_521
    exact tc_522 h1 hE hM hp hq hr e (by unfold tc_iv; rw [if_pos z])
  · exact tc_522 h1 hE hM hp hq hr e (by unfold tc_iv; rw [if_neg z, if_pos y])
  · unfold wL_lawOf_521
    exact tc_522 h1 hE hM hp hq hr e (by unfold tc_iv; rw [if_neg z, if_neg y])
theorem tc_485 {z0 : Int32} (h1 : pp 1 ()) (hE : tc_E a b d a1) (hM : tc_E p q r a2) (hp : tc_M p) (hq : tc_M q) (hr : tc_M r)
    (hz0 : z0 = tc_iv a (tc_ab a b p q r + tc_ad a d p q r)) :
    wL_lawOf_485 pp mc ms b d (tc_ab a b p q r) (tc_ad a d p q r) (tc_bd b d p q r) (tc_T a b d p q r) z0 kc ks 3 w s a1 a2 a3 a4 a5 a6 := by
  unfold wL_lawOf_485
  refine br_c (fun z => ?_) (fun z => br_c (fun y => ?_) (fun y => ?_))
  · unfold wL_lawOf_502
    exact tc_503 h1 hE hM hp hq hr hz0 (by unfold tc_iv; rw [if_pos z])
  · exact tc_503 h1 hE hM hp hq hr hz0 (by unfold tc_iv; rw [if_neg z, if_pos y])
  · unfold wL_lawOf_502
    exact tc_503 h1 hE hM hp hq hr hz0 (by unfold tc_iv; rw [if_neg z, if_neg y])
theorem tc_436 {x16 z0 : Int32} (h1 : pp 1 ()) (hE : tc_E a b d a1) (hM : tc_E p q r a2) (hp : tc_M p) (hq : tc_M q) (hr : tc_M r)
    (h16 : x16 = tc_oB b p q r) (hz0 : z0 = tc_oD d p q r) :
    wL_lawOf_436 pp mc ms a b d (tc_ab a b p q r) (tc_ad a d p q r) (tc_bd b d p q r) (tc_T a b d p q r) x16 z0 kc ks 3 w s a1 a2 a3 a4 a5 a6 := by
  subst h16 hz0
  unfold wL_lawOf_436
  refine tc_apart01 hE hM hp hq hr (fun w s a3 a4 a5 a6 => br_t rfl (tc_apart10 hE hM hp hq hr (fun w s a3 a4 a5 a6 => br_t rfl (br_c (fun z => ?_) (fun z => br_c (fun y => ?_) (fun y => ?_))))))
  · unfold wL_lawOf_484
    exact tc_485 h1 hE hM hp hq hr (by unfold tc_iv; rw [if_pos z])
  · exact tc_485 h1 hE hM hp hq hr (by unfold tc_iv; rw [if_neg z, if_pos y])
  · unfold wL_lawOf_484
    exact tc_485 h1 hE hM hp hq hr (by unfold tc_iv; rw [if_neg z, if_neg y])
theorem tc_410 {z0 : Int32} (h1 : pp 1 ()) (hE : tc_E a b d a1) (hM : tc_E p q r a2) (hp : tc_M p) (hq : tc_M q) (hr : tc_M r)
    (hz0 : z0 = tc_oB b p q r) :
    wL_lawOf_410 pp mc ms a b d p q r (tc_ab a b p q r) (tc_ad a d p q r) (tc_bd b d p q r) (tc_T a b d p q r) z0 kc ks 3 w s a1 a2 a3 a4 a5 a6 := by
  unfold wL_lawOf_410
  refine tc_if3 (fun z => ?_) (fun z => ?_)
  · unfold wL_lawOf_435
    exact tc_436 h1 hE hM hp hq hr hz0 (by unfold tc_oD; rw [if_pos z])
  · exact tc_436 h1 hE hM hp hq hr hz0 (by unfold tc_oD; rw [if_neg z])
theorem tc_224 {x12 x13 z0 : Int32} (h1 : pp 1 ()) (hE : tc_E a b d a1) (hM : tc_E p q r a2) (hp : tc_M p) (hq : tc_M q) (hr : tc_M r)
    (h12 : x12 = tc_ab a b p q r) (h13 : x13 = tc_ad a d p q r) (hz0 : z0 = tc_bd b d p q r) :
    wL_lawOf_224 pp mc ms a b d p q r x12 x13 z0 kc ks 3 w s a1 a2 a3 a4 a5 a6 := by
  subst h12 h13 hz0
  unfold wL_lawOf_224
  refine nm_r (e' := tc_T a b d p q r) rfl (tc_trees hE hM hp hq hr (fun w s a3 a4 a5 a6 => br_t rfl ?_))
  refine tc_using 0 1 (by omega) (by omega) (by omega) (tc_cu01 hE hM hp hq hr (fun w s f a3 a4 a5 a6 hM => br_t rfl ?_)).1
  refine tc_using 2 1 (by omega) (by omega) (by omega) (tc_cu12 hE hM hp hq hr (fun w s f a3 a4 a5 a6 hM => br_t rfl ?_)).2
  refine tc_using 2 0 (by omega) (by omega) (by omega) (tc_cu02 hE hM hp hq hr (fun w s f a3 a4 a5 a6 hM => br_t rfl ?_)).2
  refine tc_leaf0 hE hM hp hq hr (fun w s a3 a4 a5 a6 => br_t (tc_pl0 a b d hp hq hr) ?_)
  refine tc_leaf1 hE hM hp hq hr (fun w s a3 a4 a5 a6 => br_t (tc_pl1 a b d hp hq hr) ?_)
  refine tc_leaf2 hE hM hp hq hr (fun w s a3 a4 a5 a6 => br_t (tc_pl2 a b d hp hq hr) ?_)
  refine tc_deg0 hE hM hp hq hr (fun w s f a3 a4 a5 a6 hM => br_t (by grind) ?_)
  refine tc_deg1 hE hM hp hq hr (fun w s f a3 a4 a5 a6 hM => br_t (by grind) ?_)
  refine tc_deg2 hE hM hp hq hr (fun w s f a3 a4 a5 a6 hM => br_t (by grind) ?_)
  refine tc_if3 (fun z => ?_) (fun z => ?_)
  · unfold wL_lawOf_409
    exact tc_410 h1 hE hM hp hq hr (by unfold tc_oB; rw [if_pos z])
  · exact tc_410 h1 hE hM hp hq hr (by unfold tc_oB; rw [if_neg z])
theorem tc_208 {x11 x12 z0 : Int32} (h1 : pp 1 ()) (hE : tc_E a b d a1) (hM : tc_E p q r a2) (hp : tc_M p) (hq : tc_M q) (hr : tc_M r)
    (h11 : x11 = if q = 2 ∨ r = 2 ∨ p = 1 then 0 else 1) (h12 : x12 = tc_ab a b p q r) (hz0 : z0 = tc_ad a d p q r) :
    wL_lawOf_208 pp mc ms a b d p q r x11 x12 z0 kc ks 3 w s a1 a2 a3 a4 a5 a6 := by
  unfold wL_lawOf_208
  by_cases c : q = 2 ∨ r = 2 ∨ p = 1
  · rw [if_pos c] at h11
    exact br_t h11 (tc_224 h1 hE hM hp hq hr h12 hz0 (by unfold tc_bd; rw [if_pos c]))
  · rw [if_neg c] at h11
    exact br_f (by rw [h11]; decide) (tc_224 h1 hE hM hp hq hr h12 hz0 (by unfold tc_bd; rw [if_neg c]))
theorem tc_193 {x10 x11 z0 : Int32} (h1 : pp 1 ()) (hE : tc_E a b d a1) (hM : tc_E p q r a2) (hp : tc_M p) (hq : tc_M q) (hr : tc_M r)
    (h10 : x10 = if p = 2 ∨ r = 2 ∨ q = 1 then 0 else 1) (h11 : x11 = if q = 2 ∨ r = 2 ∨ p = 1 then 0 else 1) (hz0 : z0 = tc_ab a b p q r) :
    wL_lawOf_193 pp mc ms a b d p q r x10 x11 z0 kc ks 3 w s a1 a2 a3 a4 a5 a6 := by
  unfold wL_lawOf_193
  by_cases c : p = 2 ∨ r = 2 ∨ q = 1
  · rw [if_pos c] at h10
    exact br_t h10 (tc_208 h1 hE hM hp hq hr h11 hz0 (by unfold tc_ad; rw [if_pos c]))
  · rw [if_neg c] at h10
    exact br_f (by rw [h10]; decide) (tc_208 h1 hE hM hp hq hr h11 hz0 (by unfold tc_ad; rw [if_neg c]))
theorem tc_178 {x9 x10 z0 : Int32} (h1 : pp 1 ()) (hE : tc_E a b d a1) (hM : tc_E p q r a2) (hp : tc_M p) (hq : tc_M q) (hr : tc_M r)
    (h9 : x9 = if p = 2 ∨ q = 2 ∨ r = 1 then 0 else 1) (h10 : x10 = if p = 2 ∨ r = 2 ∨ q = 1 then 0 else 1) (hz0 : z0 = if q = 2 ∨ r = 2 ∨ p = 1 then 0 else 1) :
    wL_lawOf_178 pp mc ms a b d p q r x9 x10 z0 kc ks 3 w s a1 a2 a3 a4 a5 a6 := by
  unfold wL_lawOf_178
  by_cases c : p = 2 ∨ q = 2 ∨ r = 1
  · rw [if_pos c] at h9
    exact br_t h9 (tc_193 h1 hE hM hp hq hr h10 hz0 (by unfold tc_ab; rw [if_pos c]))
  · rw [if_neg c] at h9
    exact br_f (by rw [h9]; decide) (tc_193 h1 hE hM hp hq hr h10 hz0 (by unfold tc_ab; rw [if_neg c]))
theorem tc_153 {x9 z0 : Int32} (h1 : pp 1 ()) (hE : tc_E a b d a1) (hM : tc_E p q r a2) (hp : tc_M p) (hq : tc_M q) (hr : tc_M r)
    (h9 : x9 = if p = 2 ∨ q = 2 ∨ r = 1 then 0 else 1) (hz0 : z0 = if p = 2 ∨ r = 2 ∨ q = 1 then 0 else 1) :
    wL_lawOf_153 pp mc ms a b d p q r x9 z0 kc ks 3 w s a1 a2 a3 a4 a5 a6 := by
  unfold wL_lawOf_153
  refine tc_if3 (fun z => ?_) (fun z => ?_)
  · unfold wL_lawOf_177
    exact tc_178 h1 hE hM hp hq hr h9 hz0 (by rw [if_pos z])
  · exact tc_178 h1 hE hM hp hq hr h9 hz0 (by rw [if_neg z])
theorem tc_128 {z0 : Int32} (h1 : pp 1 ()) (hE : tc_E a b d a1) (hM : tc_E p q r a2) (hp : tc_M p) (hq : tc_M q) (hr : tc_M r)
    (hz0 : z0 = if p = 2 ∨ q = 2 ∨ r = 1 then 0 else 1) :
    wL_lawOf_128 pp mc ms a b d p q r z0 kc ks 3 w s a1 a2 a3 a4 a5 a6 := by
  unfold wL_lawOf_128
  refine tc_if3 (fun z => ?_) (fun z => ?_)
  · unfold wL_lawOf_152
    exact tc_153 h1 hE hM hp hq hr hz0 (by rw [if_pos z])
  · exact tc_153 h1 hE hM hp hq hr hz0 (by rw [if_neg z])
end
/-! the object made, its pairs set -/
section
variable {po : Int32 → St2 → Prop} {w s : Int32} {a1 a2 a3 : Nat → Int32} {a4 a5 : Nat → Int64} {a6 : Nat → Int32}
theorem tc_init {post : St2 → Prop} (H : post (3, 0, 0, fun _ => 0, fun _ => 0, fun _ => 0, fun _ => 0, fun _ => 0, fun _ => 0)) : wpX_init post 6 156 (0, 0, 0) 3 := by
  unfold wpX_init
  dsimp only
  refine ⟨by omega, by omega, by omega, by omega, by omega, by omega, by omega, by omega, by omega, by omega, by omega, by omega, br_t (by decide) ?_⟩
  unfold wX_init_61
  exact br_t (by decide) H
theorem tc_edges (u v : Nat) (hu : u < 3) (hv : v < 3) (huv : u ≠ v) {e : Int32} (h0 : ¬ e < 0) (h3 : e ≤ 3)
    (H : ∀ y : Int32, po y (3, w, s, upd (upd a1 (u * 6 + v) e) (v * 6 + u) e, a2, a3, a4, a5, a6)) : wpX_edges po (3, w, s, a1, a2, a3, a4, a5, a6) (nI u) (nI v) e := by
  unfold wpX_edges
  dsimp only
  exact tc_bp u v hu hv huv (br_t rfl (br_f h0 (br_t h3 ⟨tc_in (by omega) (by omega), nm_e ⟨tc_in (by omega) (by omega), nm_r (e' := upd a1 (u * 6 + v) e) (by rw [tc_cl (by omega) (by omega)]) ⟨tc_in (by omega) (by omega), nm_r (e' := upd (upd a1 (u * 6 + v) e) (v * 6 + u) e) (by rw [tc_cl (by omega) (by omega)]) (H _)⟩⟩⟩)))
theorem tc_mode (u v : Nat) (hu : u < 3) (hv : v < 3) (huv : u ≠ v) {m : Int32} (h0 : ¬ m < 0) (h3 : m ≤ 2)
    (H : ∀ y : Int32, po y (3, w, s, a1, upd (upd a2 (u * 6 + v) m) (v * 6 + u) m, a3, a4, a5, a6)) : wpX_mode po (3, w, s, a1, a2, a3, a4, a5, a6) (nI u) (nI v) m := by
  unfold wpX_mode
  dsimp only
  exact tc_bp u v hu hv huv (br_t rfl (br_f h0 (br_t h3 ⟨tc_in (by omega) (by omega), nm_e (tc_set u v hu hv (H _))⟩)))
end
theorem tc_e4 (x : Int32) : ¬ x &&& 3 < 0 ∧ x &&& 3 ≤ 3 := by
  obtain ⟨j, hj, e⟩ := pk_andE x (m := 3) 2 (by decide)
  rw [e]
  exact ⟨nI_pos (by omega), nI_le (b := 3) (by omega) (by decide)⟩
theorem tc_m3 (x : Int32) : tc_M ((x &&& 3) - (x &&& 3) / 3 * 3) := by
  obtain ⟨j, hj, e⟩ := pk_andE x (m := 3) 2 (by decide)
  rw [e]
  have t : nI j - nI j / 3 * 3 = nI (j % 3) := pk_rem (d := 3) (by omega) (by omega) (by omega)
  rw [t]
  have h : j % 3 = 0 ∨ j % 3 = 1 ∨ j % 3 = 2 := by omega
  rcases h with h | h | h
  · rw [h]; exact Or.inl rfl
  · rw [h]; exact Or.inr (Or.inl rfl)
  · rw [h]; exact Or.inr (Or.inr rfl)
theorem tc_mr {m : Int32} (h : tc_M m) : ¬ m < 0 ∧ m ≤ 2 := by
  rcases h with rfl | rfl | rfl <;> decide
theorem tc_lawOf {pp : Int32 → St0 → Prop} (x m : Int32) (h1 : pp 1 ()) : wpL_lawOf pp 7 165 () x m := by
  unfold wpL_lawOf
  have A := tc_e4 x
  have B := tc_e4 (x >>> ((2 : Int32) &&& 31))
  have D := tc_e4 (x >>> ((4 : Int32) &&& 31))
  have hp := tc_m3 m
  have hq := tc_m3 (m >>> ((2 : Int32) &&& 31))
  have hr := tc_m3 (m >>> ((4 : Int32) &&& 31))
  have P := tc_mr hp
  have Q := tc_mr hq
  have R := tc_mr hr
  refine ⟨by omega, by omega, 6, 156, by omega, by omega, tc_init ?_⟩
  refine nm_e (nm_e (nm_e ⟨by decide, nm_e ⟨by decide, nm_e ⟨by decide, nm_e ?_⟩⟩⟩))
  generalize x &&& 3 = a at *
  generalize x >>> ((2 : Int32) &&& 31) &&& 3 = b at *
  generalize x >>> ((4 : Int32) &&& 31) &&& 3 = d at *
  generalize (m &&& 3) - (m &&& 3) / 3 * 3 = p at *
  generalize ((m >>> ((2 : Int32) &&& 31)) &&& 3) - ((m >>> ((2 : Int32) &&& 31)) &&& 3) / 3 * 3 = q at *
  generalize ((m >>> ((4 : Int32) &&& 31)) &&& 3) - ((m >>> ((4 : Int32) &&& 31)) &&& 3) / 3 * 3 = r at *
  refine tc_edges 0 1 (by omega) (by omega) (by omega) A.1 A.2 (fun _ => tc_edges 1 2 (by omega) (by omega) (by omega) B.1 B.2 (fun _ => tc_edges 2 0 (by omega) (by omega) (by omega) D.1 D.2 (fun _ => ?_)))
  refine tc_mode 1 0 (by omega) (by omega) (by omega) P.1 P.2 (fun _ => tc_mode 2 1 (by omega) (by omega) (by omega) Q.1 Q.2 (fun _ => tc_mode 0 2 (by omega) (by omega) (by omega) R.1 R.2 (fun _ => ?_)))
  have hE : tc_E a b d (upd (upd (upd (upd (upd (upd (fun _ => 0) (0 * 6 + 1) a) (1 * 6 + 0) a) (1 * 6 + 2) b) (2 * 6 + 1) b) (2 * 6 + 0) d) (0 * 6 + 2) d) := by
    refine ⟨?_, ?_, ?_, ?_, ?_, ?_⟩ <;> simp [upd]
  have hM : tc_E p q r (upd (upd (upd (upd (upd (upd (fun _ => 0) (1 * 6 + 0) p) (0 * 6 + 1) p) (2 * 6 + 1) q) (1 * 6 + 2) q) (0 * 6 + 2) r) (2 * 6 + 0) r) := by
    refine ⟨?_, ?_, ?_, ?_, ?_, ?_⟩ <;> simp [upd]
  refine tc_if3 (fun z => ?_) (fun z => ?_)
  · unfold wL_lawOf_127
    exact tc_128 h1 hE hM hp hq hr (by rw [if_pos z])
  · exact tc_128 h1 hE hM hp hq hr (by rw [if_neg z])
theorem tc_cell {pq : Int32 → Prop} {L : Nat} {xs : Nat → Int32} (hL : L ≤ 2) (k : Nat) (hk : k < 2) (H : ∀ v, pq v) : wpL_cellAt pq L xs () (nI k) := by
  unfold wpL_cellAt
  exact pk_le L k (fun _ => H 0) (fun z => ⟨pk_in k L z, H _⟩)
theorem i_vc (xs : Nat → Int32) (L : Nat) (hL : L ≤ 2) : wpL_law (fun r => r = 1) L xs := by
  unfold wpL_law
  exact tc_cell hL 0 (by omega) (fun x => tc_cell hL 1 (by omega) (fun m => ⟨7, 165, by omega, by omega, tc_lawOf x m rfl⟩))
end
