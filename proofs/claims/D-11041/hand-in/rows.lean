section
/-! ===== the pure machine: straight programs of the instructions 0 .. 5 ===== -/
def mr_cb (e x y : Int32) : Int32 := if e = 2 then x + y else if e = 3 then x - y else if e = 4 then x * y else if y ≤ x then 0 else 1
def mr_put (h : Nat) (g : Nat → Int32) (v : Int32) : Option (Nat × (Nat → Int32)) := if h = 6 then none else if v < -1000 then none else if v ≤ 1000 then some (h + 1, upd g h v) else none
def mr_ex (e m x : Int32) (h : Nat) (g : Nat → Int32) : Option (Nat × (Nat → Int32)) := if e = 0 then mr_put h g m else if e = 1 then mr_put h g x else if h < 2 then none else mr_put (h - 2) g (mr_cb e (g (h - 2)) (g (h - 1)))
/-- the outcome of what is left: k instructions from place p on, the pile h high -/
def mr_rn (x : Int32) (eo en : Nat → Int32) : Nat → Nat → Nat → (Nat → Int32) → Int32
  | 0, _, h, g => if h = 0 then 10003 else g (h - 1)
  | k + 1, p, h, g => match mr_ex (eo p) (en p) x h g with
    | none => 10001
    | some s => mr_rn x eo en k (p + 1) s.1 s.2
/-- the program with one place changed -/
def mr_eo (c v : Int32) (f : Nat → Int32) (p : Nat) : Int32 := if nI p = c then v else f p
def mr_ok5 (e : Int32) : Prop := ∃ k : Nat, k ≤ 5 ∧ e = nI k
/-- what was noted -/
def mr_sn (a10 a11 a12 : Nat → Int32) : Prop := ∀ i, i < 10 → ¬ a10 i = 0 → ∃ d h : Nat, d ≤ i ∧ h ≤ i ∧ h ≤ 6 ∧ a11 i = nI d ∧ a12 i = nI h
/-- the mutants, as a list: place, instruction, number -/
def mr_os (i : Nat) (e : Int32) : Nat → Nat → List (Nat × Int32 × Int32)
  | 0, _ => []
  | c + 1, j => (if nI j = e then [] else [(i, nI j, 0)]) ++ mr_os i e c (j + 1)
def mr_at (i : Nat) (e n : Int32) : List (Nat × Int32 × Int32) := if e = 0 then (if 7 ≤ n then [] else [(i, 0, n + 1)]) ++ (if n ≤ -8 then [] else [(i, 0, n - 1)]) else if e = 1 then [(i, 0, 0)] else mr_os i e 4 2
def mr_ml (b1 b2 : Nat → Int32) : Nat → List (Nat × Int32 × Int32)
  | 0 => []
  | i + 1 => mr_ml b1 b2 i ++ mr_at i (b1 i) (b2 i)
def mr_mt (l : List (Nat × Int32 × Int32)) (a4 a5 a6 : Nat → Int32) : Prop := ∀ j x, l[j]? = some x → a4 j = nI x.1 ∧ a5 j = x.2.1 ∧ a6 j = x.2.2
theorem mr_put_b {h h' : Nat} {g g' : Nat → Int32} {v : Int32} (hh : h ≤ 6) (e : mr_put h g v = some (h', g')) : h' ≤ h + 1 ∧ h' ≤ 6 := by
  unfold mr_put at e
  split at e
  · exact absurd e (by simp)
  · split at e
    · exact absurd e (by simp)
    · split at e
      · rename_i z _ _
        have := congrArg Prod.fst (Option.some.inj e)
        dsimp only at this
        omega
      · exact absurd e (by simp)
theorem mr_ex_b {h h' : Nat} {g g' : Nat → Int32} {e m x : Int32} (hh : h ≤ 6) (z : mr_ex e m x h g = some (h', g')) : h' ≤ h + 1 ∧ h' ≤ 6 := by
  unfold mr_ex at z
  split at z
  · exact mr_put_b hh z
  · split at z
    · exact mr_put_b hh z
    · split at z
      · exact absurd z (by simp)
      · have := mr_put_b (by omega) z
        omega
theorem mr_rn_congr {x : Int32} {eo eo' en en' : Nat → Int32} : ∀ (k p h : Nat) (g : Nat → Int32), (∀ j, j < p + k → eo j = eo' j ∧ en j = en' j) → mr_rn x eo en k p h g = mr_rn x eo' en' k p h g
  | 0, p, h, g, _ => rfl
  | k + 1, p, h, g, H => by
    unfold mr_rn
    rw [(H p (by omega)).1, (H p (by omega)).2]
    split
    · rfl
    · exact mr_rn_congr k (p + 1) _ _ (fun j hj => H j (by omega))
theorem mr_ne {a b : Nat} (h : a ≠ b) (ha : a < 2 ^ 31) (hb : b < 2 ^ 31) : ¬ nI a = nI b := fun z => h ((nI_eq ha hb).mp z)
theorem mr_m1 : ∀ p, p < 10 → ¬ nI p = -1 := by decide +kernel
theorem mr_eo_m1 {v : Int32} {f : Nat → Int32} {p : Nat} (hp : p < 10) : mr_eo (-1) v f p = f p := if_neg (mr_m1 p hp)
theorem mr_sn_put {a10 a11 a12 : Nat → Int32} {p d h : Nat} (H : mr_sn a10 a11 a12) (hd : d ≤ p) (hh : h ≤ p) (h6 : h ≤ 6) : mr_sn (upd a10 p 1) (upd a11 p (nI d)) (upd a12 p (nI h)) := by
  intro i hi z
  by_cases e : i = p
  · subst e
    exact ⟨d, h, hd, hh, h6, pk_us, pk_us⟩
  · rw [pk_un e] at z
    rw [pk_un e, pk_un e]
    exact H i hi z
theorem mr_sn_0 {a10 a11 a12 : Nat → Int32} (H : ∀ i, i < 10 → a10 i = 0) : mr_sn a10 a11 a12 := fun i hi z => absurd (H i hi) z
/-! the mutants -/
theorem mr_mt_0 {a4 a5 a6 : Nat → Int32} : mr_mt [] a4 a5 a6 := fun j x h => absurd h (by simp)
theorem mr_mt_add {l : List (Nat × Int32 × Int32)} {a4 a5 a6 : Nat → Int32} {i : Nat} {e n : Int32} (H : mr_mt l a4 a5 a6) : mr_mt (l ++ [(i, e, n)]) (upd a4 l.length (nI i)) (upd a5 l.length e) (upd a6 l.length n) := by
  intro j x h
  rcases Nat.lt_trichotomy j l.length with z | z | z
  · rw [List.getElem?_append_left z] at h
    have hne : j ≠ l.length := by omega
    rw [pk_un hne, pk_un hne, pk_un hne]
    exact H j x h
  · subst z
    rw [List.getElem?_append_right (Nat.le_refl _), Nat.sub_self] at h
    have hx : (i, e, n) = x := Option.some.inj h
    subst hx
    exact ⟨pk_us, pk_us, pk_us⟩
  · rw [List.getElem?_eq_none (by rw [List.length_append]; simp; omega)] at h
    exact absurd h (by simp)
theorem mr_at_len {i : Nat} {e n : Int32} (he : mr_ok5 e) : (mr_at i e n).length ≤ 3 := by
  obtain ⟨k, hk, rfl⟩ := he
  have h6 : k < 6 := by omega
  unfold mr_at
  split
  · split <;> split <;> simp
  · split
    · simp
    · rename_i h0 h1
      have : ∀ k, k < 6 → ¬ nI k = 0 → ¬ nI k = 1 → ((mr_os 0 (nI k) 4 2).length ≤ 3) := by decide +kernel
      have e : ∀ c j, (mr_os i (nI k) c j).length = (mr_os 0 (nI k) c j).length := by
        intro c
        induction c with
        | zero => intro j; rfl
        | succ c ih =>
          intro j
          unfold mr_os
          rw [List.length_append, List.length_append, ih (j + 1)]
          split <;> rfl
      rw [e]
      exact this k h6 h0 h1
theorem mr_os_in {i : Nat} {e : Int32} : ∀ (c j : Nat), j + c ≤ 6 → ∀ x, x ∈ mr_os i e c j → x.1 = i ∧ mr_ok5 x.2.1
  | 0, j, _, x, h => absurd h (by simp [mr_os])
  | c + 1, j, hj, x, h => by
    unfold mr_os at h
    rcases List.mem_append.mp h with z | z
    · split at z
      · exact absurd z (by simp)
      · rw [List.mem_singleton] at z
        subst z
        exact ⟨rfl, j, by omega, rfl⟩
    · exact mr_os_in c (j + 1) (by omega) x z
theorem mr_at_in {i : Nat} {e n : Int32} (x : Nat × Int32 × Int32) (h : x ∈ mr_at i e n) : x.1 = i ∧ mr_ok5 x.2.1 := by
  unfold mr_at at h
  split at h
  · rcases List.mem_append.mp h with z | z
    · split at z
      · exact absurd z (by simp)
      · rw [List.mem_singleton] at z
        subst z
        exact ⟨rfl, 0, by omega, rfl⟩
    · split at z
      · exact absurd z (by simp)
      · rw [List.mem_singleton] at z
        subst z
        exact ⟨rfl, 0, by omega, rfl⟩
  · split at h
    · rw [List.mem_singleton] at h
      subst h
      exact ⟨rfl, 0, by omega, rfl⟩
    · exact mr_os_in 4 2 (by omega) x h
theorem mr_ml_in {b1 b2 : Nat → Int32} : ∀ (s : Nat) (x : Nat × Int32 × Int32), x ∈ mr_ml b1 b2 s → x.1 < s ∧ mr_ok5 x.2.1
  | 0, x, h => absurd h (by simp [mr_ml])
  | s + 1, x, h => by
    unfold mr_ml at h
    rcases List.mem_append.mp h with z | z
    · have := mr_ml_in s x z
      exact ⟨by omega, this.2⟩
    · have := mr_at_in x z
      exact ⟨by omega, this.2⟩
theorem mr_ml_len {b1 b2 : Nat → Int32} : ∀ (s : Nat), (∀ j, j < s → mr_ok5 (b1 j)) → (mr_ml b1 b2 s).length ≤ 3 * s
  | 0, _ => by simp [mr_ml]
  | s + 1, H => by
    unfold mr_ml
    rw [List.length_append]
    have h1 := mr_ml_len s (fun j hj => H j (by omega)) (b2 := b2)
    have h2 := mr_at_len (i := s) (n := b2 s) (H s (by omega))
    omega
end
section
section
variable {sz tr rd mu pl dn ht ip tp ch co cn : Int32} {a1 a2 a3 a4 a5 a6 a7 a8 a9 a10 a11 a12 a13 : Nat → Int32}
theorem mr_putL {post : St2 → Prop} {h : Nat} {v : Int32} (hh : h ≤ 6) (hN : mr_put h a9 v = none → post (sz, tr, rd, mu, pl, dn, nI h, ip, 1, ch, co, cn, a1, a2, a3, a4, a5, a6, a7, a8, a9, a10, a11, a12, a13)) (hS : ∀ h' g', mr_put h a9 v = some (h', g') → post (sz, tr, rd, mu, pl, dn, nI h', ip, tp, ch, co, cn, a1, a2, a3, a4, a5, a6, a7, a8, g', a10, a11, a12, a13)) : wpX_put post (sz, tr, rd, mu, pl, dn, nI h, ip, tp, ch, co, cn, a1, a2, a3, a4, a5, a6, a7, a8, a9, a10, a11, a12, a13) v := by
  unfold mr_put at hN hS
  refine pk_eq h 6 (fun z => hN (if_pos z)) (fun z => br_c (fun z1 => hN ?_) (fun z1 => br_c (fun z2 => ⟨pk_in h 6 (by omega), nm_r (e' := upd a9 h v) ?_ (nm_r (nI_1 h) (hS (h + 1) (upd a9 h v) ?_))⟩) (fun z2 => hN ?_)))
  · rw [if_neg z, if_pos z1]
  · rw [nI_clamp (by omega)]
  · rw [if_neg z, if_neg z1, if_pos z2]
  · rw [if_neg z, if_neg z1, if_neg z2]
theorem mr_needs0 {post : Int32 → Prop} {u : St2} {k : Nat} (hk : k < 2) (H : post 0) : wpX_needs post u (nI k) := by
  obtain ⟨sz, tr, rd, mu, pl, dn, ht, ip, tp, ch, co, cn, a1, a2, a3, a4, a5, a6, a7, a8, a9, a10, a11, a12, a13⟩ := u
  exact pk_le 2 k (fun z => absurd z (by omega)) (fun _ => H)
theorem mr_needs2 {post : Int32 → Prop} {u : St2} {k : Nat} (h2 : 2 ≤ k) (h5 : k ≤ 5) (H : post 2) : wpX_needs post u (nI k) := by
  obtain ⟨sz, tr, rd, mu, pl, dn, ht, ip, tp, ch, co, cn, a1, a2, a3, a4, a5, a6, a7, a8, a9, a10, a11, a12, a13⟩ := u
  exact pk_le 2 k (fun _ => pk_le k 5 (fun _ => H) (fun z => absurd z (by omega))) (fun z => absurd z (by omega))
theorem mr_comb {post : Int32 → Prop} {u : St2} {e x y : Int32} (H : post (mr_cb e x y)) : wpX_combined post u e x y := by
  obtain ⟨sz, tr, rd, mu, pl, dn, ht, ip, tp, ch, co, cn, a1, a2, a3, a4, a5, a6, a7, a8, a9, a10, a11, a12, a13⟩ := u
  unfold mr_cb at H
  refine br_c (fun z => ?_) (fun z => br_c (fun z1 => ?_) (fun z1 => br_c (fun z2 => ?_) (fun z2 => br_c (fun z3 => ?_) (fun z3 => ?_))))
  · rw [if_pos z] at H
    exact H
  · rw [if_neg z, if_pos z1] at H
    exact H
  · rw [if_neg z, if_neg z1, if_pos z2] at H
    exact H
  · rw [if_neg z, if_neg z1, if_neg z2, if_pos z3] at H
    exact H
  · rw [if_neg z, if_neg z1, if_neg z2, if_neg z3] at H
    exact H
theorem mr_exec {post : St2 → Prop} {e m : Int32} {h : Nat} (he : mr_ok5 e) (hh : h ≤ 6) (hN : mr_ex e m ip h a9 = none → ∀ (pl' : Int32) (h' : Nat), post (sz, tr, rd, mu, pl', dn + 1, nI h', ip, 1, ch, co, cn, a1, a2, a3, a4, a5, a6, a7, a8, a9, a10, a11, a12, a13)) (hS : ∀ h' g', mr_ex e m ip h a9 = some (h', g') → post (sz, tr, rd, mu, pl + 1, dn + 1, nI h', ip, tp, ch, co, cn, a1, a2, a3, a4, a5, a6, a7, a8, g', a10, a11, a12, a13)) : wpX_execute post (sz, tr, rd, mu, pl, dn, nI h, ip, tp, ch, co, cn, a1, a2, a3, a4, a5, a6, a7, a8, a9, a10, a11, a12, a13) e m := by
  obtain ⟨k, hk, rfl⟩ := he
  refine nm_e ?_
  by_cases k0 : k = 0
  · subst k0
    have e : mr_ex (nI 0) m ip h a9 = mr_put h a9 m := if_pos rfl
    rw [e] at hN hS
    exact mr_needs0 (by omega) (pk_le 0 h (fun _ => nm_e (br_t rfl (mr_putL hh (fun z => hN z _ _) (fun h' g' z => hS h' g' z)))) (fun z => absurd z (by omega)))
  · by_cases k1 : k = 1
    · subst k1
      have e : mr_ex (nI 1) m ip h a9 = mr_put h a9 ip := (if_neg (by decide)).trans (if_pos rfl)
      rw [e] at hN hS
      exact mr_needs0 (by omega) (pk_le 0 h (fun _ => nm_e (br_f (by decide) (br_t rfl (mr_putL hh (fun z => hN z _ _) (fun h' g' z => hS h' g' z))))) (fun z => absurd z (by omega)))
    · have n0 : ¬ nI k = 0 := mr_ne (b := 0) k0 (by omega) (by omega)
      have n1 : ¬ nI k = 1 := mr_ne (b := 1) k1 (by omega) (by omega)
      refine mr_needs2 (by omega) hk (pk_le 2 h (fun h2 => nm_e (br_f n0 (br_f n1 (pk_lt 5 k (fun z => absurd z (by omega)) (fun _ => nm_r (e' := nI (h - 2)) (pk_sub h2) ⟨pk_in (h - 2) 6 (by omega), pk_in (h - 1) 6 (by omega) ?_, mr_comb ?_⟩))))) (fun z => hN ?_ _ h))
      · rw [nI_1, show h - 2 + 1 = h - 1 by omega]
      · have e : mr_ex (nI k) m ip h a9 = mr_put (h - 2) a9 (mr_cb (nI k) (a9 (h - 2)) (a9 (h - 1))) := (if_neg n0).trans ((if_neg n1).trans (if_neg (by omega)))
        rw [e] at hN hS
        rw [nI_1, show h - 2 + 1 = h - 1 by omega, nI_clamp (show h - 2 < 2 ^ 31 by omega), nI_clamp (show h - 1 < 2 ^ 31 by omega)]
        exact mr_putL (by omega) (fun z => hN z _ _) (fun h' g' z => hS h' g' z)
      · exact (if_neg n0).trans ((if_neg n1).trans (if_pos (by omega)))
theorem mr_noteL {post : St2 → Prop} {p h : Nat} (hp : p < 10) (hh : h ≤ 6) (H : ∀ a13', post (sz, tr, rd, mu, nI p, dn, nI h, ip, tp, ch, co, cn, a1, a2, a3, a4, a5, a6, a7, a8, a9, upd a10 p 1, upd a11 p dn, upd a12 p (nI h), a13')) : wpX_note post (sz, tr, rd, mu, nI p, dn, nI h, ip, tp, ch, co, cn, a1, a2, a3, a4, a5, a6, a7, a8, a9, a10, a11, a12, a13) := by
  have hc : (nI p).toNatClampNeg = p := nI_clamp (by omega)
  refine ⟨pk_in p 10 hp, nm_r (e' := upd a10 p 1) (by rw [hc]) ⟨pk_in p 10 hp, nm_r (e' := upd a11 p dn) (by rw [hc]) ⟨pk_in p 10 hp, nm_r (e' := upd a12 p (nI h)) (by rw [hc]) ?_⟩⟩⟩
  exact pk_loop (fun n i s => wX_note_38 post sz tr rd mu (nI p) dn (nI h) ip tp ch co cn n (nI i) a1 a2 a3 a4 a5 a6 a7 a8 a9 (upd a10 p 1) (upd a11 p dn) (upd a12 p (nI h)) s) (fun _ _ => True) h 0 a13 (by omega) trivial
    (fun n s _ => pk_le h h (fun _ => H s) (fun z => absurd z (by omega)))
    (fun n i s hi _ hw => pk_le h i (fun z => absurd z (by omega)) (fun _ => ⟨pk_in i 6 (by omega), pk_in (p * 6 + i) 60 (by omega) (by rw [← nI_add, ← pk_mul]; rfl), nm_e (nm_r (nI_1 i) (hw _ trivial))⟩))
end
end
section
section
variable {sz tr rd mu pl dn ht ip tp ch co cn : Int32} {a1 a2 a3 a4 a5 a6 a7 a8 a9 a10 a11 a12 a13 : Nat → Int32}
theorem mr_f114t {post : Int32 → St2 → Prop} (H : post 10001 (sz, tr, rd, mu, pl, dn, ht, ip, 1, ch, co, cn, a1, a2, a3, a4, a5, a6, a7, a8, a9, a10, a11, a12, a13)) : wX_finish_114 post sz tr rd mu pl dn ht ip 1 ch co cn a1 a2 a3 a4 a5 a6 a7 a8 a9 a10 a11 a12 a13 := br_f (by decide) H
theorem mr_f114e {post : Int32 → St2 → Prop} {s h : Nat} (hs : s ≤ 10) (hh : h ≤ 6) (H : post (if h = 0 then 10003 else a9 (h - 1)) (nI s, tr, rd, mu, nI s, dn, nI h, ip, 0, ch, co, cn, a1, a2, a3, a4, a5, a6, a7, a8, a9, a10, a11, a12, a13)) : wX_finish_114 post (nI s) tr rd mu (nI s) dn (nI h) ip 0 ch co cn a1 a2 a3 a4 a5 a6 a7 a8 a9 a10 a11 a12 a13 := by
  refine br_t rfl (pk_le s s (fun _ => pk_eq h 0 (fun z => ?_) (fun z => ⟨pk_in (h - 1) 6 (by omega) (pk_sub (b := 1) (by omega)), ?_⟩)) (fun z => absurd z (by omega)))
  · rw [if_pos z] at H
    exact H
  · rw [if_neg z] at H
    rw [show nI h - 1 = nI (h - 1) from pk_sub (b := 1) (by omega), nI_clamp (by omega)]
    exact H
/-- trapped: the loop ends -/
theorem mr_f7t {post : Int32 → St2 → Prop} {x1 x2 : Int32} {n : Nat} (H : post 10001 (sz, tr, rd, mu, pl, dn, ht, ip, 1, ch, co, cn, a1, a2, a3, a4, a5, a6, a7, a8, a9, a10, a11, a12, a13)) : wX_finish_7 post x1 (n + 1) x2 sz tr rd mu pl dn ht ip 1 ch co cn a1 a2 a3 a4 a5 a6 a7 a8 a9 a10 a11 a12 a13 :=
  br_c (fun _ => mr_f114t H) (fun _ => br_c (fun _ => mr_f114t H) (fun _ => br_c (fun _ => mr_f114t H) (fun _ => br_f (by decide) (mr_f114t H))))
theorem mr_f60 {post : Int32 → St2 → Prop} {J7 : Int32 → Int32 → Int32 → Int32 → Int32 → Int32 → Int32 → Int32 → Int32 → Int32 → Int32 → Int32 → Int32 → (Nat → Int32) → (Nat → Int32) → (Nat → Int32) → (Nat → Int32) → (Nat → Int32) → (Nat → Int32) → (Nat → Int32) → (Nat → Int32) → (Nat → Int32) → (Nat → Int32) → (Nat → Int32) → (Nat → Int32) → (Nat → Int32) → Prop} {x1 x2 : Int32} {p h : Nat} (hp : p < 10) (hh : h ≤ 6) (he : mr_ok5 (mr_eo ch co a1 p))
    (hN : mr_ex (mr_eo ch co a1 p) (mr_eo ch cn a2 p) ip h a9 = none → ∀ (pl' : Int32) (h' : Nat), J7 (x2 + 1) sz tr rd mu pl' (dn + 1) (nI h') ip 1 ch co cn a1 a2 a3 a4 a5 a6 a7 a8 a9 a10 a11 a12 a13)
    (hS : ∀ h' g', mr_ex (mr_eo ch co a1 p) (mr_eo ch cn a2 p) ip h a9 = some (h', g') → J7 (x2 + 1) sz tr rd mu (nI p + 1) (dn + 1) (nI h') ip tp ch co cn a1 a2 a3 a4 a5 a6 a7 a8 g' a10 a11 a12 a13) :
    wX_finish_60 post J7 x1 x2 sz tr rd mu (nI p) dn (nI h) ip tp ch co cn a1 a2 a3 a4 a5 a6 a7 a8 a9 a10 a11 a12 a13 := by
  unfold mr_eo at he hN hS
  by_cases c : nI p = ch
  · simp only [if_pos c] at he hN hS
    exact br_t c (mr_exec he hh (fun z pl' h' => nm_e (hN z pl' h')) (fun h' g' z => nm_e (hS h' g' z)))
  · simp only [if_neg c] at he hN hS
    refine br_f c ⟨pk_in p 10 hp, pk_in p 10 hp, ?_⟩
    rw [nI_clamp (show p < 2 ^ 31 by omega)]
    exact mr_exec he hh (fun z pl' h' => nm_e (hN z pl' h')) (fun h' g' z => nm_e (hS h' g' z))
/-- the loop of finish -/
theorem mr_fin {post : Int32 → St2 → Prop} {x1 : Int32} {s : Nat} (hs : s ≤ 10) (ho : ∀ j, j < s → mr_ok5 (mr_eo ch co a1 j)) : ∀ (k p i h d : Nat) (a9 a10 a11 a12 a13 : Nat → Int32), p + k = s → i ≤ p → d ≤ p → h ≤ p → h ≤ 6 → mr_sn a10 a11 a12 → (¬ x1 = 0 → 0 < p → ¬ a10 0 = 0) →
    (∀ (pl' dn' ht' tp' : Int32) (a9' a10' a11' a12' a13' : Nat → Int32), mr_sn a10' a11' a12' → (¬ x1 = 0 → 0 < s → ¬ a10' 0 = 0) → post (mr_rn ip (mr_eo ch co a1) (mr_eo ch cn a2) k p h a9) (nI s, tr, rd, mu, pl', dn', ht', ip, tp', ch, co, cn, a1, a2, a3, a4, a5, a6, a7, a8, a9', a10', a11', a12', a13')) →
    wX_finish_7 post x1 (k + 1) (nI i) (nI s) tr rd mu (nI p) (nI d) (nI h) ip 0 ch co cn a1 a2 a3 a4 a5 a6 a7 a8 a9 a10 a11 a12 a13
  | 0, p, i, h, d, a9, a10, a11, a12, a13, e, hi, hd, hp, h6, hn, hz, H => by
    have e' : p = s := by omega
    subst e'
    refine pk_le 40 i (fun z => absurd z (by omega)) (fun _ => pk_le 40 d (fun z => absurd z (by omega)) (fun _ => pk_le p p (fun _ => ?_) (fun z => absurd z (by omega))))
    exact mr_f114e hs h6 (H _ _ _ _ _ _ _ _ _ hn hz)
  | k + 1, p, i, h, d, a9, a10, a11, a12, a13, e, hi, hd, hp, h6, hn, hz, H => by
    have hp10 : p < 10 := by omega
    have main : ∀ a10 a11 a12 a13, mr_sn a10 a11 a12 → (¬ x1 = 0 → ¬ a10 0 = 0) → wX_finish_60 post (wX_finish_7 post x1 (k + 1)) x1 (nI i) (nI s) tr rd mu (nI p) (nI d) (nI h) ip 0 ch co cn a1 a2 a3 a4 a5 a6 a7 a8 a9 a10 a11 a12 a13 := by
      intro a10 a11 a12 a13 hn hz
      refine mr_f60 hp10 h6 (ho p (by omega)) (fun z pl' h' => mr_f7t ?_) (fun h' g' z => ?_)
      · have r : mr_rn ip (mr_eo ch co a1) (mr_eo ch cn a2) (k + 1) p h a9 = 10001 := by
          unfold mr_rn
          rw [z]
        rw [r] at H
        exact H _ _ _ _ _ _ _ _ _ hn (fun w _ => hz w)
      · have r : mr_rn ip (mr_eo ch co a1) (mr_eo ch cn a2) (k + 1) p h a9 = mr_rn ip (mr_eo ch co a1) (mr_eo ch cn a2) k (p + 1) h' g' := by
          rw [mr_rn, z]
        rw [r] at H
        have b := mr_ex_b h6 z
        rw [nI_1, nI_1, nI_1]
        exact mr_fin hs ho k (p + 1) (i + 1) h' (d + 1) g' a10 a11 a12 a13 (by omega) (by omega) (by omega) (by omega) b.2 hn (fun w _ => hz w) H
    refine pk_le 40 i (fun z => absurd z (by omega)) (fun _ => pk_le 40 d (fun z => absurd z (by omega)) (fun _ => pk_le s p (fun z => absurd z (by omega)) (fun _ => br_t rfl (br_c (fun z => ?_) (fun z => ⟨pk_in p 10 hp10, ?_⟩)))))
    · exact main a10 a11 a12 a13 hn (fun w => absurd z w)
    · rw [nI_clamp (show p < 2 ^ 31 by omega)]
      refine br_c (fun c => mr_noteL hp10 h6 (fun a13' => ?_)) (fun c => ?_)
      · refine main _ _ _ _ (mr_sn_put hn hd hp h6) (fun _ => ?_)
        by_cases p0 : 0 = p
        · subst p0
          rw [pk_us]
          decide
        · rw [pk_un p0]
          exact hz z (by omega)
      · refine main _ _ _ _ hn (fun _ => ?_)
        by_cases p0 : p = 0
        · rw [p0] at c
          exact c
        · exact hz z (by omega)
theorem mr_finL {post : Int32 → St2 → Prop} {x1 : Int32} {s p h d : Nat} (hs : s ≤ 10) (ho : ∀ j, j < s → mr_ok5 (mr_eo ch co a1 j)) (hp : p ≤ s) (hd : d ≤ p) (hh : h ≤ p) (h6 : h ≤ 6) (hn : mr_sn a10 a11 a12) (hz : ¬ x1 = 0 → 0 < p → ¬ a10 0 = 0)
    (H : ∀ (pl' dn' ht' tp' : Int32) (a9' a10' a11' a12' a13' : Nat → Int32), mr_sn a10' a11' a12' → (¬ x1 = 0 → 0 < s → ¬ a10' 0 = 0) → post (mr_rn ip (mr_eo ch co a1) (mr_eo ch cn a2) (s - p) p h a9) (nI s, tr, rd, mu, pl', dn', ht', ip, tp', ch, co, cn, a1, a2, a3, a4, a5, a6, a7, a8, a9', a10', a11', a12', a13')) :
    wpX_finish post (nI s, tr, rd, mu, nI p, nI d, nI h, ip, tp, ch, co, cn, a1, a2, a3, a4, a5, a6, a7, a8, a9, a10, a11, a12, a13) x1 :=
  ⟨s - p + 1, mr_fin hs ho (s - p) p 0 h d a9 a10 a11 a12 a13 (by omega) (by omega) hd hh h6 hn hz H⟩
end
end
section
/-! the second copies of the printed predicates are the first -/
theorem mr_put2 (post : St2 → Prop) (u : St2) (v : Int32) : wpX_put_2 post u v = wpX_put post u v := rfl
theorem mr_exec2 (post : St2 → Prop) (u : St2) (e m : Int32) : wpX_execute_2 post u e m = wpX_execute post u e m := rfl
section
variable {sz tr rd mu pl dn ht ip tp ch co cn : Int32} {a1 a2 a3 a4 a5 a6 a7 a8 a9 a10 a11 a12 a13 : Nat → Int32}
theorem mr_note2_38 (post : St2 → Prop) : ∀ n, wX_note_2_38 post sz tr rd mu pl dn ht ip tp ch co cn n = wX_note_38 post sz tr rd mu pl dn ht ip tp ch co cn n
  | 0 => rfl
  | n + 1 => by
    unfold wX_note_2_38 wX_note_38
    rw [mr_note2_38 post n]
end
theorem mr_note2 (post : St2 → Prop) (u : St2) : wpX_note_2 post u = wpX_note post u := by
  unfold wpX_note_2 wpX_note
  simp only [mr_note2_38]
theorem mr_fin2_7 (post : Int32 → St2 → Prop) (x1 : Int32) : ∀ n, wX_finish_2_7 post x1 n = wX_finish_7 post x1 n
  | 0 => rfl
  | n + 1 => by
    unfold wX_finish_2_7 wX_finish_7
    rw [mr_fin2_7 post x1 n]
    simp only [mr_note2]
    rfl
theorem mr_fin2 (post : Int32 → St2 → Prop) (u : St2) (x1 : Int32) : wpX_finish_2 post u x1 = wpX_finish post u x1 := by
  unfold wpX_finish_2 wpX_finish
  simp only [mr_fin2_7]
section
variable {sz tr rd mu pl dn ht ip tp ch co cn : Int32} {a1 a2 a3 a4 a5 a6 a7 a8 a9 a10 a11 a12 a13 : Nat → Int32}
theorem mr_rw2_2 (post : Int32 → St2 → Prop) (x1 : Int32) : ∀ n, wX_runWhole_2_2 post x1 sz tr rd mu pl dn ht ip tp ch co cn n = wX_runWhole_2 post x1 sz tr rd mu pl dn ht ip tp ch co cn n
  | 0 => rfl
  | n + 1 => by
    unfold wX_runWhole_2_2 wX_runWhole_2
    rw [mr_rw2_2 post x1 n]
    simp only [mr_fin2]
end
theorem mr_rw2 (post : Int32 → St2 → Prop) (u : St2) (x1 : Int32) : wpX_runWhole_2 post u x1 = wpX_runWhole post u x1 := by
  unfold wpX_runWhole_2 wpX_runWhole
  simp only [mr_rw2_2]
end
section
section
variable {sz tr rd mu pl dn ht ip tp ch co cn : Int32} {a1 a2 a3 a4 a5 a6 a7 a8 a9 a10 a11 a12 a13 : Nat → Int32}
theorem mr_rwL {post : Int32 → St2 → Prop} {s : Nat} {x : Int32} (hs : s ≤ 10) (ho : ∀ j, j < s → mr_ok5 (a1 j))
    (H : ∀ (pl' dn' ht' tp' : Int32) (a9' a10' a11' a12' a13' : Nat → Int32), mr_sn a10' a11' a12' → (0 < s → ¬ a10' 0 = 0) → post (mr_rn x a1 a2 s 0 0 a9) (nI s, tr, rd, mu, pl', dn', ht', x, tp', -1, co, cn, a1, a2, a3, a4, a5, a6, a7, a8, a9', a10', a11', a12', a13')) :
    wpX_runWhole post (nI s, tr, rd, mu, pl, dn, ht, ip, tp, ch, co, cn, a1, a2, a3, a4, a5, a6, a7, a8, a9, a10, a11, a12, a13) x := by
  have ho' : ∀ j, j < s → mr_ok5 (mr_eo (-1) co a1 j) := fun j hj => by
    rw [mr_eo_m1 (by omega)]
    exact ho j hj
  have r : mr_rn x (mr_eo (-1) co a1) (mr_eo (-1) cn a2) s 0 0 a9 = mr_rn x a1 a2 s 0 0 a9 := mr_rn_congr s 0 0 a9 (fun j hj => ⟨mr_eo_m1 (by omega), mr_eo_m1 (by omega)⟩)
  rw [← r] at H
  exact pk_loop (fun n i g => wX_runWhole_2 post x (nI s) tr rd mu pl dn ht ip tp ch co cn n (nI i) a1 a2 a3 a4 a5 a6 a7 a8 a9 g a11 a12 a13) (fun i g => ∀ j, j < i → g j = 0) 10 0 a10 (by omega) (fun j hj => absurd hj (by omega))
    (fun n g hg => pk_le 10 10 (fun _ => mr_finL (p := 0) (h := 0) (d := 0) hs ho' (by omega) (by omega) (by omega) (by omega) (mr_sn_0 hg) (fun _ z => absurd z (by omega)) (fun pl' dn' ht' tp' a9' a10' a11' a12' a13' hn hz => H pl' dn' ht' tp' a9' a10' a11' a12' a13' hn (hz (by decide)))) (fun z => absurd z (by omega)))
    (fun n i g hi hg hw => pk_le 10 i (fun z => absurd z (by omega)) (fun _ => ⟨pk_in i 10 hi, nm_r (e' := upd g i 0) (by rw [nI_clamp (by omega)]) (nm_r (nI_1 i) (hw _ (fun j hj => by
      by_cases e : j = i
      · rw [e, pk_us]
      · rw [pk_un e]
        exact hg j (by omega))))⟩))
theorem mr_rfL {post : Int32 → St2 → Prop} {s i m : Nat} {same : Int32} (hs : s ≤ 10) (hm : m < 30) (hi : i < s) (h4 : a4 m = nI i) (h5 : mr_ok5 (a5 m)) (ho : ∀ j, j < s → mr_ok5 (a1 j)) (hn : mr_sn a10 a11 a12)
    (H : ∀ (r pl' dn' ht' tp' ch' co' cn' : Int32) (a9' a10' a11' a12' a13' : Nat → Int32), mr_sn a10' a11' a12' → (i = 0 → ¬ a10 0 = 0 → ∃ g, r = mr_rn ip (mr_eo 0 (a5 m) a1) (mr_eo 0 (a6 m) a2) s 0 0 g) → post r (nI s, tr, rd, mu, pl', dn', ht', ip, tp', ch', co', cn', a1, a2, a3, a4, a5, a6, a7, a8, a9', a10', a11', a12', a13')) :
    wpX_runFrom post (nI s, tr, rd, mu, pl, dn, ht, ip, tp, ch, co, cn, a1, a2, a3, a4, a5, a6, a7, a8, a9, a10, a11, a12, a13) (nI m) same := by
  have hc : (nI m).toNatClampNeg = m := nI_clamp (by omega)
  have hi' : (nI i).toNatClampNeg = i := nI_clamp (by omega)
  refine ⟨pk_in m 30 hm, nm_r (e' := nI i) (by rw [hc, h4]) ⟨pk_in i 10 (by omega), br_c (fun z => ?_) (fun z => ?_)⟩⟩
  · rw [hi'] at z
    exact H _ _ _ _ _ _ _ _ _ _ _ _ _ hn (fun e w => absurd (e ▸ z) w)
  · rw [hi'] at z
    obtain ⟨d, h, hd, hh, h6, e11, e12⟩ := hn i (by omega) z
    refine ⟨pk_in i 10 (by omega), nm_r (e' := nI d) (by rw [hi', e11]) ⟨pk_in i 10 (by omega), nm_r (e' := nI h) (by rw [hi', e12]) ?_⟩⟩
    have ho' : ∀ j, j < s → mr_ok5 (mr_eo (nI i) (a5 m) a1 j) := fun j hj => by
      unfold mr_eo
      split
      · exact h5
      · exact ho j hj
    refine pk_loop (fun n j g => wX_runFrom_46 post (nI m) (nI i) (nI s) tr rd mu (nI i) (nI d) (nI h) ip tp ch co cn n (nI j) a1 a2 a3 a4 a5 a6 a7 a8 g a10 a11 a12 a13) (fun _ _ => True) h 0 a9 (by omega) trivial ?_ ?_
    · intro n g _
      refine pk_le h h (fun _ => ⟨pk_in m 30 hm, nm_r (e' := a5 m) (by rw [hc]) ⟨pk_in m 30 hm, nm_r (e' := a6 m) (by rw [hc]) ?_⟩⟩) (fun z => absurd z (by omega))
      rw [mr_fin2]
      refine mr_finL hs ho' (by omega) hd hh h6 hn (fun w => absurd rfl w) (fun pl' dn' ht' tp' a9' a10' a11' a12' a13' hn' _ => H _ _ _ _ _ _ _ _ _ _ _ _ _ hn' (fun e w => ⟨g, ?_⟩))
      subst e
      have h0 : h = 0 := by omega
      subst h0
      rfl
    · intro n j g hj _ hw
      exact pk_le h j (fun z => absurd z (by omega)) (fun _ => ⟨pk_in (i * 6 + j) 60 (by omega) (by rw [← nI_add, ← pk_mul]; rfl), pk_in j 6 (by omega), nm_e (nm_r (nI_1 j) (hw _ trivial))⟩)
end
end
section
section
variable {sz tr rd mu pl dn ht ip tp ch co cn : Int32} {a1 a2 a3 a4 a5 a6 a7 a8 a9 a10 a11 a12 a13 : Nat → Int32}
theorem mr_addL {post : St2 → Prop} {l : List (Nat × Int32 × Int32)} {i : Nat} {e n : Int32} (hl : l.length < 30) (hm : mr_mt l a4 a5 a6)
    (H : ∀ a4' a5' a6', mr_mt (l ++ [(i, e, n)]) a4' a5' a6' → post (sz, tr, rd, nI (l ++ [(i, e, n)]).length, pl, dn, ht, ip, tp, ch, co, cn, a1, a2, a3, a4', a5', a6', a7, a8, a9, a10, a11, a12, a13)) :
    wpX_add post (sz, tr, rd, nI l.length, pl, dn, ht, ip, tp, ch, co, cn, a1, a2, a3, a4, a5, a6, a7, a8, a9, a10, a11, a12, a13) (nI i) e n := by
  have hc : (nI l.length).toNatClampNeg = l.length := nI_clamp (by omega)
  refine ⟨pk_in l.length 30 hl, nm_r (e' := upd a4 l.length (nI i)) (by rw [hc]) ⟨pk_in l.length 30 hl, nm_r (e' := upd a5 l.length e) (by rw [hc]) ⟨pk_in l.length 30 hl, nm_r (e' := upd a6 l.length n) (by rw [hc]) (nm_r (e' := nI (l ++ [(i, e, n)]).length) ?_ (H _ _ _ (mr_mt_add hm)))⟩⟩⟩
  rw [nI_1, List.length_append]
  rfl
theorem mr_at33 {post : St2 → Prop} {l : List (Nat × Int32 × Int32)} {i : Nat} {n : Int32} (hl : l.length < 30) (hm : mr_mt l a4 a5 a6)
    (H : ∀ a4' a5' a6', mr_mt (l ++ (if n ≤ -8 then [] else [(i, 0, n - 1)])) a4' a5' a6' → post (sz, tr, rd, nI (l ++ (if n ≤ -8 then [] else [(i, 0, n - 1)])).length, pl, dn, ht, ip, tp, ch, co, cn, a1, a2, a3, a4', a5', a6', a7, a8, a9, a10, a11, a12, a13)) :
    wX_addAt_33 post (nI i) n sz tr rd (nI l.length) pl dn ht ip tp ch co cn a1 a2 a3 a4 a5 a6 a7 a8 a9 a10 a11 a12 a13 := by
  refine br_c (fun z => ?_) (fun z => ?_)
  · simp only [if_pos z, List.append_nil] at H
    exact H _ _ _ hm
  · simp only [if_neg z] at H
    exact mr_addL hl hm H
theorem mr_at74 {post : St2 → Prop} {i : Nat} {e : Int32} : ∀ (c j : Nat) (l : List (Nat × Int32 × Int32)) (a4 a5 a6 : Nat → Int32), j + c = 6 → l.length + c ≤ 30 → mr_mt l a4 a5 a6 →
    (∀ a4' a5' a6', mr_mt (l ++ mr_os i e c j) a4' a5' a6' → post (sz, tr, rd, nI (l ++ mr_os i e c j).length, pl, dn, ht, ip, tp, ch, co, cn, a1, a2, a3, a4', a5', a6', a7, a8, a9, a10, a11, a12, a13)) →
    wX_addAt_74 post (nI i) e (c + 1) (nI j) sz tr rd (nI l.length) pl dn ht ip tp ch co cn a1 a2 a3 a4 a5 a6 a7 a8 a9 a10 a11 a12 a13
  | 0, j, l, a4, a5, a6, hj, hl, hm, H => by
    simp only [mr_os, List.append_nil] at H
    exact pk_lt 5 j (fun _ => H _ _ _ hm) (fun z => absurd z (by omega))
  | c + 1, j, l, a4, a5, a6, hj, hl, hm, H => by
    refine pk_lt 5 j (fun z => absurd z (by omega)) (fun _ => br_c (fun z => nm_r (nI_1 j) ?_) (fun z => ?_))
    · simp only [mr_os, if_pos z, List.nil_append] at H
      exact mr_at74 c (j + 1) l a4 a5 a6 (by omega) (by omega) hm H
    · simp only [mr_os, if_neg z, ← List.append_assoc] at H
      refine mr_addL (by omega) hm (fun a4' a5' a6' hm' => nm_r (nI_1 j) ?_)
      exact mr_at74 c (j + 1) (l ++ [(i, nI j, 0)]) a4' a5' a6' (by omega) (by rw [List.length_append, List.length_singleton]; omega) hm' H
theorem mr_atL {post : St2 → Prop} {l : List (Nat × Int32 × Int32)} {i : Nat} (hi : i < 10) (hl : l.length + 4 ≤ 30) (he : mr_ok5 (a1 i)) (hm : mr_mt l a4 a5 a6)
    (H : ∀ a4' a5' a6', mr_mt (l ++ mr_at i (a1 i) (a2 i)) a4' a5' a6' → post (sz, tr, rd, nI (l ++ mr_at i (a1 i) (a2 i)).length, pl, dn, ht, ip, tp, ch, co, cn, a1, a2, a3, a4', a5', a6', a7, a8, a9, a10, a11, a12, a13)) :
    wpX_addAt post (sz, tr, rd, nI l.length, pl, dn, ht, ip, tp, ch, co, cn, a1, a2, a3, a4, a5, a6, a7, a8, a9, a10, a11, a12, a13) (nI i) := by
  have hc : (nI i).toNatClampNeg = i := nI_clamp (by omega)
  refine ⟨pk_in i 10 hi, nm_r (e' := a1 i) (by rw [hc]) ⟨pk_in i 10 hi, nm_r (e' := a2 i) (by rw [hc]) ?_⟩⟩
  unfold mr_at at H
  by_cases c0 : a1 i = 0
  · simp only [if_pos c0] at H
    refine br_t c0 (br_c (fun z => ?_) (fun z => ?_))
    · simp only [if_pos z, List.nil_append] at H
      exact mr_at33 (by omega) hm H
    · simp only [if_neg z, ← List.append_assoc] at H
      exact mr_addL (e := 0) (n := a2 i + 1) (by omega) hm (fun a4' a5' a6' hm' => mr_at33 (l := l ++ [(i, 0, a2 i + 1)]) (by rw [List.length_append, List.length_singleton]; omega) hm' H)
  · by_cases c1 : a1 i = 1
    · simp only [if_neg c0, if_pos c1] at H
      exact br_f c0 (br_t c1 (mr_addL (by omega) hm H))
    · simp only [if_neg c0, if_neg c1] at H
      obtain ⟨k, hk, ek⟩ := he
      exact br_f c0 (br_f c1 (br_f (by rw [ek]; exact nI_nlt (a := 5) hk (by omega)) ⟨5, mr_at74 4 2 l a4 a5 a6 (by omega) (by omega) hm H⟩))
end
end
section
section
variable {sz tr rd mu pl dn ht ip tp ch co cn : Int32} {a1 a2 a3 a4 a5 a6 a7 a8 a9 a10 a11 a12 a13 : Nat → Int32}
theorem mr_pr36 {post : St2 → Prop} {M : Nat} (hM : M ≤ 30) (H : ∀ a7', ∃ fu, wX_prepare_59 post fu 0 sz tr rd (nI M) pl dn ht ip tp ch co cn a1 a2 a3 a4 a5 a6 a7' a8 a9 a10 a11 a12 a13) : ∃ fu, wX_prepare_36 post sz tr rd (nI M) pl dn ht ip tp ch co cn fu 0 a1 a2 a3 a4 a5 a6 a7 a8 a9 a10 a11 a12 a13 :=
  pk_loop (fun n i g => wX_prepare_36 post sz tr rd (nI M) pl dn ht ip tp ch co cn n (nI i) a1 a2 a3 a4 a5 a6 g a8 a9 a10 a11 a12 a13) (fun _ _ => True) M 0 a7 (by omega) trivial
    (fun n g _ => pk_le M M (fun _ => H g) (fun z => absurd z (by omega)))
    (fun n i g hi _ hw => pk_le M i (fun z => absurd z (by omega)) (fun _ => ⟨pk_in i 30 (by omega), nm_e (nm_r (nI_1 i) (hw _ trivial))⟩))
theorem mr_pr15 {post : St2 → Prop} {s : Nat} (hs : s ≤ 8) (ho : ∀ j, j < s → mr_ok5 (a1 j))
    (H : ∀ a4' a5' a6', mr_mt (mr_ml a1 a2 s) a4' a5' a6' → ∃ fu, wX_prepare_36 post (nI s) tr rd (nI (mr_ml a1 a2 s).length) pl dn ht ip tp ch co cn fu 0 a1 a2 a3 a4' a5' a6' a7 a8 a9 a10 a11 a12 a13) :
    ∀ (c i : Nat) (a4 a5 a6 : Nat → Int32), i + c = s → mr_mt (mr_ml a1 a2 i) a4 a5 a6 → wX_prepare_15 post (c + 1) (nI i) (nI s) tr rd (nI (mr_ml a1 a2 i).length) pl dn ht ip tp ch co cn a1 a2 a3 a4 a5 a6 a7 a8 a9 a10 a11 a12 a13
  | 0, i, a4, a5, a6, hi, hm => by
    have e : i = s := by omega
    subst e
    exact pk_le i i (fun _ => H _ _ _ hm) (fun z => absurd z (by omega))
  | c + 1, i, a4, a5, a6, hi, hm => by
    have hl := mr_ml_len (b1 := a1) (b2 := a2) i (fun j hj => ho j (by omega))
    exact pk_le s i (fun z => absurd z (by omega)) (fun _ => mr_atL (by omega) (by omega) (ho i (by omega)) hm (fun a4' a5' a6' hm' => nm_r (nI_1 i) (mr_pr15 hs ho H c (i + 1) a4' a5' a6' (by omega) hm')))
theorem mr_pr81 {post : St2 → Prop} {J59 : Int32 → Int32 → Int32 → Int32 → Int32 → Int32 → Int32 → Int32 → Int32 → Int32 → Int32 → Int32 → Int32 → (Nat → Int32) → (Nat → Int32) → (Nat → Int32) → (Nat → Int32) → (Nat → Int32) → (Nat → Int32) → (Nat → Int32) → (Nat → Int32) → (Nat → Int32) → (Nat → Int32) → (Nat → Int32) → (Nat → Int32) → (Nat → Int32) → Prop} {s x : Nat} {l : List (Nat × Int32 × Int32)} (hs : s ≤ 10) (hx : x < 16) (ho : ∀ j, j < s → mr_ok5 (a1 j)) (hl : l.length ≤ 30) (hm : mr_mt l a4 a5 a6) (hin : ∀ t, t ∈ l → t.1 < s ∧ mr_ok5 t.2.1)
    (H : ∀ (pl' dn' ht' tp' ch' co' cn' : Int32) (a7' a9' a10' a11' a12' a13' : Nat → Int32), J59 (nI (x + 1)) (nI s) tr rd (nI l.length) pl' dn' ht' ip tp' ch' co' cn' a1 a2 a3 a4 a5 a6 a7' a8 a9' a10' a11' a12' a13') :
    ∀ (c m : Nat) (pl dn ht tp ch co cn : Int32) (a7 a9 a10 a11 a12 a13 : Nat → Int32), m + c = l.length → mr_sn a10 a11 a12 → wX_prepare_81 post J59 (nI x) (c + 1) (nI m) (nI s) tr rd (nI l.length) pl dn ht ip tp ch co cn a1 a2 a3 a4 a5 a6 a7 a8 a9 a10 a11 a12 a13
  | 0, m, pl, dn, ht, tp, ch, co, cn, a7, a9, a10, a11, a12, a13, e, hn =>
    pk_le l.length m (fun _ => nm_r (nI_1 x) (H _ _ _ _ _ _ _ _ _ _ _ _ _)) (fun z => absurd z (by omega))
  | c + 1, m, pl, dn, ht, tp, ch, co, cn, a7, a9, a10, a11, a12, a13, e, hn => by
    have hml : m < l.length := by omega
    obtain ⟨t4, t5, t6⟩ := hm m l[m] (List.getElem?_eq_getElem hml)
    obtain ⟨i1, i2⟩ := hin l[m] (List.getElem_mem hml)
    refine pk_le l.length m (fun z => absurd z (by omega)) (fun _ => ⟨pk_in x 16 hx, mr_rfL hs (by omega) i1 t4 (by rw [t5]; exact i2) ho hn (fun r pl' dn' ht' tp' ch' co' cn' a9' a10' a11' a12' a13' hn' _ => ⟨pk_in x 16 hx, br_c (fun z => nm_r (nI_1 m) ?_) (fun z => ⟨pk_in m 30 (by omega), pk_in m 30 (by omega), nm_e (nm_r (nI_1 m) ?_)⟩)⟩)⟩)
    · exact mr_pr81 hs hx ho hl hm hin H c (m + 1) _ _ _ _ _ _ _ _ _ _ _ _ _ (by omega) hn'
    · exact mr_pr81 hs hx ho hl hm hin H c (m + 1) _ _ _ _ _ _ _ _ _ _ _ _ _ (by omega) hn'
theorem mr_pr59 {post : St2 → Prop} {s : Nat} {l : List (Nat × Int32 × Int32)} (hs : s ≤ 10) (ho : ∀ j, j < s → mr_ok5 (a1 j)) (hl : l.length ≤ 30) (hm : mr_mt l a4 a5 a6) (hin : ∀ t, t ∈ l → t.1 < s ∧ mr_ok5 t.2.1)
    (H : ∀ (pl' dn' ht' ip' tp' ch' co' cn' : Int32) (a7' a8' a9' a10' a11' a12' a13' : Nat → Int32), (∀ j, j < 16 → ∃ g, a8' j = mr_rn (nI j - 8) a1 a2 s 0 0 g) → post (nI s, tr, 1, nI l.length, pl', dn', ht', ip', tp', ch', co', cn', a1, a2, a3, a4, a5, a6, a7', a8', a9', a10', a11', a12', a13')) :
    ∀ (c x : Nat) (pl dn ht ip tp ch co cn : Int32) (a7 a8 a9 a10 a11 a12 a13 : Nat → Int32), x + c = 16 → (∀ j, j < x → ∃ g, a8 j = mr_rn (nI j - 8) a1 a2 s 0 0 g) → wX_prepare_59 post (c + 1) (nI x) (nI s) tr rd (nI l.length) pl dn ht ip tp ch co cn a1 a2 a3 a4 a5 a6 a7 a8 a9 a10 a11 a12 a13
  | 0, x, pl, dn, ht, ip, tp, ch, co, cn, a7, a8, a9, a10, a11, a12, a13, e, h8 => by
    have e' : x = 16 := by omega
    subst e'
    exact pk_le 16 16 (fun _ => H _ _ _ _ _ _ _ _ _ _ _ _ _ _ _ h8) (fun z => absurd z (by omega))
  | c + 1, x, pl, dn, ht, ip, tp, ch, co, cn, a7, a8, a9, a10, a11, a12, a13, e, h8 => by
    refine pk_le 16 x (fun z => absurd z (by omega)) (fun _ => mr_rwL hs ho (fun pl' dn' ht' tp' a9' a10' a11' a12' a13' hn' _ => ⟨pk_in x 16 (by omega), nm_r (e' := upd a8 x (mr_rn (nI x - 8) a1 a2 s 0 0 a9)) (by rw [nI_clamp (by omega)]) ⟨l.length + 1, ?_⟩⟩))
    refine mr_pr81 hs (by omega) ho hl hm hin (fun pl' dn' ht' tp' ch' co' cn' a7' a9' a10' a11' a12' a13' => ?_) l.length 0 _ _ _ _ _ _ _ _ _ _ _ _ _ (by omega) hn'
    refine mr_pr59 hs ho hl hm hin H c (x + 1) _ _ _ _ _ _ _ _ _ _ _ _ _ _ _ (by omega) (fun j hj => ?_)
    by_cases ej : j = x
    · subst ej
      exact ⟨a9, pk_us⟩
    · rw [pk_un ej]
      exact h8 j (by omega)
end
/-- the program -/
def mr_D (s : Nat) (b1 b2 : Nat → Int32) (u : St2) : Prop := match u with
  | (sz, tr, rd, mu, pl, dn, ht, ip, tp, ch, co, cn, a1, a2, a3, a4, a5, a6, a7, a8, a9, a10, a11, a12, a13) => sz = nI s ∧ a1 = b1 ∧ a2 = b2
/-- prepared for it -/
def mr_R (s : Nat) (b1 b2 : Nat → Int32) (u : St2) : Prop := match u with
  | (sz, tr, rd, mu, pl, dn, ht, ip, tp, ch, co, cn, a1, a2, a3, a4, a5, a6, a7, a8, a9, a10, a11, a12, a13) => sz = nI s ∧ a1 = b1 ∧ a2 = b2 ∧ rd = 1 ∧ mu = nI (mr_ml b1 b2 s).length ∧ mr_mt (mr_ml b1 b2 s) a4 a5 a6 ∧ ∀ j, j < 16 → ∃ g, a8 j = mr_rn (nI j - 8) b1 b2 s 0 0 g
/-- not yet prepared, or prepared for it -/
def mr_Q (s : Nat) (b1 b2 : Nat → Int32) (u : St2) : Prop := match u with
  | (sz, tr, rd, mu, pl, dn, ht, ip, tp, ch, co, cn, a1, a2, a3, a4, a5, a6, a7, a8, a9, a10, a11, a12, a13) => (sz = nI s ∧ a1 = b1 ∧ a2 = b2 ∧ rd = 0) ∨ mr_R s b1 b2 (sz, tr, rd, mu, pl, dn, ht, ip, tp, ch, co, cn, a1, a2, a3, a4, a5, a6, a7, a8, a9, a10, a11, a12, a13)
theorem mr_prep {post : St2 → Prop} {s : Nat} {b1 b2 : Nat → Int32} {u : St2} (hs : s ≤ 8) (ho : ∀ j, j < s → mr_ok5 (b1 j)) (hu : mr_Q s b1 b2 u) (H : ∀ u', mr_R s b1 b2 u' → post u') : wpX_prepare post u := by
  obtain ⟨sz, tr, rd, mu, pl, dn, ht, ip, tp, ch, co, cn, a1, a2, a3, a4, a5, a6, a7, a8, a9, a10, a11, a12, a13⟩ := u
  rcases hu with ⟨rfl, rfl, rfl, rfl⟩ | hr
  · have hl := mr_ml_len (b1 := a1) (b2 := a2) s ho
    refine br_t rfl ⟨s + 1, mr_pr15 hs ho (fun a4' a5' a6' hm => mr_pr36 (by omega) (fun a7' => ⟨17, ?_⟩)) s 0 a4 a5 a6 (by omega) mr_mt_0⟩
    exact mr_pr59 (by omega) ho (by omega) hm (mr_ml_in s) (fun pl' dn' ht' ip' tp' ch' co' cn' a7' a8' a9' a10' a11' a12' a13' h8 => H _ ⟨rfl, rfl, rfl, rfl, rfl, hm, h8⟩) 16 0 _ _ _ _ _ _ _ _ _ _ _ _ _ _ _ (by omega) (fun j hj => absurd hj (by omega))
  · have h1 : rd = 1 := hr.2.2.2.1
    subst h1
    exact br_f (by decide) (H _ hr)
end
section
def mr_in (x : Int32) : Prop := ¬ x < -8 ∧ x ≤ 7
theorem mr_in_ix {x : Int32} (h : mr_in x) : ∃ j : Nat, j < 16 ∧ x + 8 = nI j ∧ nI j - 8 = x := by
  obtain ⟨h1, h2⟩ := h
  rw [Int32.lt_iff_toInt_lt, show (-8 : Int32).toInt = -8 from by decide] at h1
  rw [Int32.le_iff_toInt_le, show (7 : Int32).toInt = 7 from by decide] at h2
  have e : (x + 8).toInt = x.toInt + 8 := by
    rw [Int32.toInt_add, show (8 : Int32).toInt = 8 from by decide]
    exact Int.bmod_eq_of_le (by omega) (by omega)
  have e0 : ¬ x + 8 < 0 := by
    rw [Int32.lt_iff_toInt_lt, e, show (0 : Int32).toInt = 0 from by decide]
    omega
  have e15 : x + 8 ≤ 15 := by
    rw [Int32.le_iff_toInt_le, e, show (15 : Int32).toInt = 15 from by decide]
    omega
  obtain ⟨j, hj, ej⟩ := nI_of2 (n := 15) (by decide) e0 e15
  refine ⟨j, by omega, ej, ?_⟩
  rw [← ej]
  exact Int32.add_sub_cancel x 8
theorem mr_ix_in : ∀ j, j < 16 → ¬ (nI j - 8) < -8 ∧ nI j - 8 ≤ 7 := by decide +kernel
theorem mr_bad {post : Int32 → Prop} {u : St2} {x : Int32} (h1 : mr_in x → post 0) (h2 : ¬ mr_in x → post 1) : wpX_badInput post u x := by
  obtain ⟨sz, tr, rd, mu, pl, dn, ht, ip, tp, ch, co, cn, a1, a2, a3, a4, a5, a6, a7, a8, a9, a10, a11, a12, a13⟩ := u
  exact br_c (fun z => h2 (fun w => w.1 z)) (fun z => br_c (fun z1 => h1 ⟨z, z1⟩) (fun z1 => h2 (fun w => z1 w.2)))
theorem mr_badN0 {post : Int32 → Prop} {u : St2} {x : Int32} (h1 : mr_in x → post 0) (h2 : ¬ mr_in x → post 1) : wpX_badNumber post u 0 x := by
  obtain ⟨sz, tr, rd, mu, pl, dn, ht, ip, tp, ch, co, cn, a1, a2, a3, a4, a5, a6, a7, a8, a9, a10, a11, a12, a13⟩ := u
  exact br_t rfl (br_c (fun z => h2 (fun w => w.1 z)) (fun z => br_c (fun z1 => h1 ⟨z, z1⟩) (fun z1 => h2 (fun w => z1 w.2))))
theorem mr_badNk {post : Int32 → Prop} {u : St2} {k : Nat} {x : Int32} (h1 : 1 ≤ k) (h5 : k ≤ 5) (H : post 0) : wpX_badNumber post u (nI k) x := by
  obtain ⟨sz, tr, rd, mu, pl, dn, ht, ip, tp, ch, co, cn, a1, a2, a3, a4, a5, a6, a7, a8, a9, a10, a11, a12, a13⟩ := u
  exact pk_eq k 0 (fun z => absurd z (by omega)) (fun _ => pk_eq k 8 (fun z => absurd z (by omega)) (fun _ => pk_eq k 9 (fun z => absurd z (by omega)) (fun _ => H)))
theorem mr_R_Q {s : Nat} {b1 b2 : Nat → Int32} {u : St2} (h : mr_R s b1 b2 u) : mr_Q s b1 b2 u := by
  obtain ⟨sz, tr, rd, mu, pl, dn, ht, ip, tp, ch, co, cn, a1, a2, a3, a4, a5, a6, a7, a8, a9, a10, a11, a12, a13⟩ := u
  exact Or.inr h
theorem mr_Q_D {s : Nat} {b1 b2 : Nat → Int32} {u : St2} (h : mr_Q s b1 b2 u) : mr_D s b1 b2 u := by
  obtain ⟨sz, tr, rd, mu, pl, dn, ht, ip, tp, ch, co, cn, a1, a2, a3, a4, a5, a6, a7, a8, a9, a10, a11, a12, a13⟩ := u
  rcases h with h | h
  · exact ⟨h.1, h.2.1, h.2.2.1⟩
  · exact ⟨h.1, h.2.1, h.2.2.1⟩
theorem mr_outL {post : Int32 → St2 → Prop} {s : Nat} {b1 b2 : Nat → Int32} {u : St2} {x : Int32} (hs : s ≤ 8) (ho : ∀ j, j < s → mr_ok5 (b1 j)) (hu : mr_Q s b1 b2 u)
    (H : ∀ r u', mr_Q s b1 b2 u' → (mr_in x → ∃ g, r = mr_rn x b1 b2 s 0 0 g) → (¬ mr_in x → r = -10001) → post r u') : wpX_outcome post u x := by
  obtain ⟨sz, tr, rd, mu, pl, dn, ht, ip, tp, ch, co, cn, a1, a2, a3, a4, a5, a6, a7, a8, a9, a10, a11, a12, a13⟩ := u
  unfold wpX_outcome
  refine mr_bad (fun hx => br_t rfl (mr_prep hs ho hu (fun u' hr => ?_))) (fun hx => br_f (by decide) (H _ _ hu (fun z => absurd z hx) (fun _ => rfl)))
  obtain ⟨sz, tr, rd, mu, pl, dn, ht, ip, tp, ch, co, cn, a1, a2, a3, a4, a5, a6, a7, a8, a9, a10, a11, a12, a13⟩ := u'
  obtain ⟨j, hj, e1, e2⟩ := mr_in_ix hx
  refine ⟨pk_in j 16 hj e1, H _ _ (Or.inr hr) (fun _ => ?_) (fun z => absurd hx z)⟩
  obtain ⟨g, hg⟩ := hr.2.2.2.2.2.2 j hj
  rw [e2] at hg
  rw [e1, nI_clamp (by omega)]
  exact ⟨g, hg⟩
/-- append of a number, in range -/
theorem mr_app0 {post : Int32 → St2 → Prop} {s : Nat} {b1 b2 : Nat → Int32} {u : St2} {n : Int32} (hs : s < 10) (hn : mr_in n) (hu : mr_D s b1 b2 u) (H : ∀ u', mr_Q (s + 1) (upd b1 s 0) (upd b2 s n) u' → post (nI s) u') : wpX_append post u 0 n := by
  obtain ⟨sz, tr, rd, mu, pl, dn, ht, ip, tp, ch, co, cn, a1, a2, a3, a4, a5, a6, a7, a8, a9, a10, a11, a12, a13⟩ := u
  obtain ⟨rfl, rfl, rfl⟩ := hu
  have hc : (nI s).toNatClampNeg = s := nI_clamp (by omega)
  refine br_f (by decide) (br_f (by decide) (mr_badN0 (fun _ => br_t rfl (pk_eq s 10 (fun z => absurd z (by omega)) (fun _ => ⟨pk_in s 10 hs, nm_r (e' := upd a1 s 0) (by rw [hc]) (br_t rfl ⟨pk_in s 10 hs, nm_r (e' := upd a2 s n) (by rw [hc]) (nm_r (nI_1 s) ?_)⟩)⟩))) (fun z => absurd hn z)))
  rw [nI_pred]
  exact H _ (Or.inl ⟨rfl, rfl, rfl, rfl⟩)
theorem mr_app0' {post : Int32 → St2 → Prop} {u : St2} {n : Int32} (hn : ¬ mr_in n) (H : post (-10001) u) : wpX_append post u 0 n := by
  obtain ⟨sz, tr, rd, mu, pl, dn, ht, ip, tp, ch, co, cn, a1, a2, a3, a4, a5, a6, a7, a8, a9, a10, a11, a12, a13⟩ := u
  exact br_f (by decide) (br_f (by decide) (mr_badN0 (fun z => absurd z hn) (fun _ => br_f (by decide) H)))
theorem mr_appk {post : Int32 → St2 → Prop} {s k : Nat} {b1 b2 : Nat → Int32} {u : St2} {n : Int32} (hs : s < 10) (h1 : 1 ≤ k) (h5 : k ≤ 5) (hu : mr_D s b1 b2 u) (H : ∀ u', mr_Q (s + 1) (upd b1 s (nI k)) (upd b2 s 0) u' → post (nI s) u') : wpX_append post u (nI k) n := by
  obtain ⟨sz, tr, rd, mu, pl, dn, ht, ip, tp, ch, co, cn, a1, a2, a3, a4, a5, a6, a7, a8, a9, a10, a11, a12, a13⟩ := u
  obtain ⟨rfl, rfl, rfl⟩ := hu
  have hc : (nI s).toNatClampNeg = s := nI_clamp (by omega)
  refine pk_lt k 0 (fun z => absurd z (by omega)) (fun _ => pk_lt 9 k (fun z => absurd z (by omega)) (fun _ => mr_badNk h1 h5 (br_t rfl (pk_eq s 10 (fun z => absurd z (by omega)) (fun _ => ⟨pk_in s 10 hs, nm_r (e' := upd a1 s (nI k)) (by rw [hc]) (pk_eq k 0 (fun z => absurd z (by omega)) (fun _ => pk_lt k 8 (fun _ => ⟨pk_in s 10 hs, nm_r (e' := upd a2 s 0) (by rw [hc]) (nm_r (nI_1 s) ?_)⟩) (fun z => absurd z (by omega))))⟩)))))
  rw [nI_pred]
  exact H _ (Or.inl ⟨rfl, rfl, rfl, rfl⟩)
theorem mr_mutL {post : Int32 → St2 → Prop} {s : Nat} {b1 b2 : Nat → Int32} {u : St2} (hs : s ≤ 8) (ho : ∀ j, j < s → mr_ok5 (b1 j)) (hu : mr_Q s b1 b2 u)
    (H : ∀ u', mr_R s b1 b2 u' → post (nI (mr_ml b1 b2 s).length) u') : wpX_mutants post u := by
  obtain ⟨sz, tr, rd, mu, pl, dn, ht, ip, tp, ch, co, cn, a1, a2, a3, a4, a5, a6, a7, a8, a9, a10, a11, a12, a13⟩ := u
  refine mr_prep hs ho hu (fun u' hr => ?_)
  obtain ⟨sz, tr, rd, mu, pl, dn, ht, ip, tp, ch, co, cn, a1, a2, a3, a4, a5, a6, a7, a8, a9, a10, a11, a12, a13⟩ := u'
  have e : mu = nI (mr_ml b1 b2 s).length := hr.2.2.2.2.1
  have := H _ hr
  rw [← e] at this
  exact this
theorem mr_noM {post : Int32 → St2 → Prop} {s : Nat} {b1 b2 : Nat → Int32} {u : St2} (hs : s ≤ 8) (ho : ∀ j, j < s → mr_ok5 (b1 j)) (hu : mr_Q s b1 b2 u) (h0 : 0 < (mr_ml b1 b2 s).length)
    (H : ∀ u', mr_R s b1 b2 u' → post 0 u') : wpX_noMutant post u 0 := by
  obtain ⟨sz, tr, rd, mu, pl, dn, ht, ip, tp, ch, co, cn, a1, a2, a3, a4, a5, a6, a7, a8, a9, a10, a11, a12, a13⟩ := u
  refine mr_prep hs ho hu (fun u' hr => ?_)
  obtain ⟨sz, tr, rd, mu, pl, dn, ht, ip, tp, ch, co, cn, a1, a2, a3, a4, a5, a6, a7, a8, a9, a10, a11, a12, a13⟩ := u'
  have hl := mr_ml_len (b2 := b2) s ho
  exact br_f (by decide) (pk_lt 0 (mr_ml b1 b2 s).length (fun _ => H _ hr) (fun z => absurd z (by omega)) rfl hr.2.2.2.2.1)
theorem mr_numbL {post : Int32 → St2 → Prop} {s : Nat} {b1 b2 : Nat → Int32} {u : St2} {x : Nat × Int32 × Int32} (hs : s ≤ 8) (ho : ∀ j, j < s → mr_ok5 (b1 j)) (hu : mr_Q s b1 b2 u) (h0 : (mr_ml b1 b2 s)[0]? = some x)
    (H : ∀ u', mr_R s b1 b2 u' → post x.2.2 u') : wpX_mutantNumber post u 0 := by
  obtain ⟨sz, tr, rd, mu, pl, dn, ht, ip, tp, ch, co, cn, a1, a2, a3, a4, a5, a6, a7, a8, a9, a10, a11, a12, a13⟩ := u
  have hl : 0 < (mr_ml b1 b2 s).length := by
    rcases Nat.eq_zero_or_pos (mr_ml b1 b2 s).length with z | z
    · rw [List.getElem?_eq_none (by omega)] at h0
      exact absurd h0 (by simp)
    · exact z
  unfold wpX_mutantNumber
  refine mr_noM hs ho hu hl (fun u' hr => ?_)
  obtain ⟨sz, tr, rd, mu, pl, dn, ht, ip, tp, ch, co, cn, a1, a2, a3, a4, a5, a6, a7, a8, a9, a10, a11, a12, a13⟩ := u'
  have e := (hr.2.2.2.2.2.1 0 x h0).2.2
  have hp := H _ hr
  rw [← e] at hp
  exact br_t rfl ⟨pk_in 0 30 (by omega), hp⟩
theorem mr_ooL {post : Int32 → St2 → Prop} {s : Nat} {b1 b2 : Nat → Int32} {u : St2} {e n i : Int32} (hs : s ≤ 8) (ho : ∀ j, j < s → mr_ok5 (b1 j)) (hu : mr_R s b1 b2 u) (h0 : (mr_ml b1 b2 s)[0]? = some (0, e, n))
    (H : ∀ r u', mr_R s b1 b2 u' → (mr_in i → ∃ g, r = mr_rn i (mr_eo 0 e b1) (mr_eo 0 n b2) s 0 0 g) → (¬ mr_in i → r = -10001) → post r u') : wpX_outcomeOf post u 0 i := by
  have hl : 0 < (mr_ml b1 b2 s).length := by
    rcases Nat.eq_zero_or_pos (mr_ml b1 b2 s).length with z | z
    · rw [List.getElem?_eq_none (by omega)] at h0
      exact absurd h0 (by simp)
    · exact z
  have hin := mr_ml_in s _ (List.mem_of_getElem? h0)
  have hq := mr_R_Q hu
  obtain ⟨sz, tr, rd, mu, pl, dn, ht, ip, tp, ch, co, cn, a1, a2, a3, a4, a5, a6, a7, a8, a9, a10, a11, a12, a13⟩ := u
  unfold wpX_outcomeOf
  refine mr_bad (fun hx => br_t rfl (mr_noM hs ho hq hl (fun u' hr => ?_))) (fun hx => br_f (by decide) (H _ _ hu (fun z => absurd z hx) (fun _ => rfl)))
  obtain ⟨sz, tr, rd, mu, pl, dn, ht, ip, tp, ch, co, cn, a1, a2, a3, a4, a5, a6, a7, a8, a9, a10, a11, a12, a13⟩ := u'
  refine br_t rfl ?_
  rw [mr_rw2]
  obtain ⟨rfl, rfl, rfl, rfl, rfl, hm, h8⟩ := hr
  obtain ⟨t4, t5, t6⟩ := hm 0 _ h0
  dsimp only at t4 t5 t6
  refine mr_rwL (by omega) ho (fun pl' dn' ht' tp' a9' a10' a11' a12' a13' hn hz => ?_)
  refine mr_rfL (m := 0) (i := 0) (by omega) (by omega) hin.1 t4 (by rw [t5]; exact hin.2) ho hn (fun r pl' dn' ht' tp' ch' co' cn' a9' a10' a11' a12' a13' hn' hr => ?_)
  refine H _ _ ⟨rfl, rfl, rfl, rfl, rfl, hm, h8⟩ (fun _ => ?_) (fun z => absurd hx z)
  obtain ⟨g, hg⟩ := hr rfl (hz hin.1)
  rw [t5, t6] at hg
  exact ⟨g, hg⟩
theorem mr_numL {post : Int32 → St2 → Prop} {s : Nat} {b1 b2 : Nat → Int32} {u : St2} {c : Bool} (hs : s ≤ 8) (ho : ∀ j, j < s → mr_ok5 (b1 j)) (hu : mr_R s b1 b2 u) (hc : ∀ x g, mr_in x → (1000 < mr_rn x b1 b2 s 0 0 g ↔ c = false))
    (H : ∀ u', post (nI (if c then 16 else 0)) u') : wpX_numbers post u := by
  have hq := mr_R_Q hu
  obtain ⟨sz, tr, rd, mu, pl, dn, ht, ip, tp, ch, co, cn, a1, a2, a3, a4, a5, a6, a7, a8, a9, a10, a11, a12, a13⟩ := u
  refine mr_prep hs ho hq (fun u' hr => ?_)
  obtain ⟨sz, tr, rd, mu, pl, dn, ht, ip, tp, ch, co, cn, a1, a2, a3, a4, a5, a6, a7, a8, a9, a10, a11, a12, a13⟩ := u'
  have h8 : ∀ j, j < 16 → (1000 < a8 j ↔ c = false) := fun j hj => by
    obtain ⟨g, hg⟩ := hr.2.2.2.2.2.2 j hj
    rw [hg]
    exact hc _ g (mr_ix_in j hj)
  refine Exists.elim (pk_loop (σ := Unit) (fun n i _ => wX_numbers_8 post sz tr rd mu pl dn ht ip tp ch co cn a1 a2 a3 a4 a5 a6 a7 a8 a9 a10 a11 a12 a13 n (nI (if c then i else 0)) (nI i)) (fun _ _ => True) 16 0 () (by omega) trivial ?_ ?_) (fun n hn => ⟨n, ?_⟩)
  · intro n _ _
    exact pk_le 16 16 (fun _ => H _) (fun z => absurd z (by omega))
  · intro n i _ hi _ hw
    have t := hw () trivial
    refine pk_le 16 i (fun z => absurd z (by omega)) (fun _ => ⟨pk_in i 16 hi, ?_⟩)
    rw [nI_clamp (show i < 2 ^ 31 by omega)]
    refine br_c (fun z => nm_r (nI_1 i) ?_) (fun z => nm_e (nm_r (nI_1 i) ?_))
    · have hcf := (h8 i hi).mp z
      subst hcf
      exact t
    · cases c with
      | false => exact absurd ((h8 i hi).mpr rfl) z
      | true =>
        have t' : wX_numbers_8 post sz tr rd mu pl dn ht ip tp ch co cn a1 a2 a3 a4 a5 a6 a7 a8 a9 a10 a11 a12 a13 n (nI (i + 1)) (nI (i + 1)) := t
        rw [← nI_1] at t'
        rw [← nI_1]
        exact t'
  · cases c with
    | false => exact hn
    | true => exact hn
end
section
/-! ===== what the programs of the law answer ===== -/
theorem mr_cb_in : ∀ k, k < 4 → ∀ a, a < 16 → ∀ b, b < 16 → ¬ mr_cb (nI (2 + k)) (nI a - 8) (nI b - 8) < -1000 ∧ mr_cb (nI (2 + k)) (nI a - 8) (nI b - 8) ≤ 1000 := by decide +kernel
theorem mr_in_1000 {x : Int32} (h : mr_in x) : ¬ x < -1000 ∧ x ≤ 1000 := by
  obtain ⟨j, hj, _, e⟩ := mr_in_ix h
  have : ∀ j, j < 16 → ¬ (nI j - 8) < -1000 ∧ nI j - 8 ≤ 1000 := by decide +kernel
  rw [← e]
  exact this j hj
theorem mr_put_ok {h : Nat} {g : Nat → Int32} {v : Int32} (hh : h < 6) (hv : ¬ v < -1000 ∧ v ≤ 1000) : mr_put h g v = some (h + 1, upd g h v) := by
  unfold mr_put
  rw [if_neg (by omega), if_neg hv.1, if_pos hv.2]
theorem mr_cb_ok {k : Nat} {v x : Int32} (hk : k < 4) (hv : mr_in v) (hx : mr_in x) : ¬ mr_cb (nI (2 + k)) v x < -1000 ∧ mr_cb (nI (2 + k)) v x ≤ 1000 := by
  obtain ⟨a, ha, _, ea⟩ := mr_in_ix hv
  obtain ⟨b, hb, _, eb⟩ := mr_in_ix hx
  rw [← ea, ← eb]
  exact mr_cb_in k hk a ha b hb
/-- number, input, operation -/
theorem mr_run3 {k : Nat} {v x : Int32} {eo en g : Nat → Int32} (hk : k < 4) (hv : mr_in v) (hx : mr_in x) (e0 : eo 0 = 0) (n0 : en 0 = v) (e1 : eo 1 = 1) (e2 : eo 2 = nI (2 + k)) : mr_rn x eo en 3 0 0 g = mr_cb (nI (2 + k)) v x := by
  have s0 : mr_ex (eo 0) (en 0) x 0 g = some (1, upd g 0 v) := by
    rw [e0, n0]
    exact (if_pos rfl).trans (mr_put_ok (by omega) (mr_in_1000 hv))
  have s1 : mr_ex (eo 1) (en 1) x 1 (upd g 0 v) = some (2, upd (upd g 0 v) 1 x) := by
    rw [e1]
    exact (if_neg (by decide)).trans ((if_pos rfl).trans (mr_put_ok (by omega) (mr_in_1000 hx)))
  have n0 : ¬ nI (2 + k) = 0 := mr_ne (b := 0) (by omega) (by omega) (by omega)
  have n1 : ¬ nI (2 + k) = 1 := mr_ne (b := 1) (by omega) (by omega) (by omega)
  have s2 : mr_ex (eo 2) (en 2) x 2 (upd (upd g 0 v) 1 x) = some (1, upd (upd (upd g 0 v) 1 x) 0 (mr_cb (nI (2 + k)) v x)) := by
    rw [e2]
    exact (if_neg n0).trans ((if_neg n1).trans ((if_neg (by omega)).trans (mr_put_ok (by omega) (mr_cb_ok hk hv hx))))
  unfold mr_rn
  rw [s0]
  dsimp only
  unfold mr_rn
  rw [s1]
  dsimp only
  unfold mr_rn
  rw [s2]
  rfl
/-- something, operation: the pile is too low -/
theorem mr_run2 {k : Nat} {v x : Int32} {eo en g : Nat → Int32} (hv : mr_in v) (hk : k < 4) (e0 : mr_ex (eo 0) (en 0) x 0 g = some (1, upd g 0 v)) (e1 : eo 1 = nI (2 + k)) : mr_rn x eo en 2 0 0 g = 10001 := by
  have n0 : ¬ nI (2 + k) = 0 := mr_ne (b := 0) (by omega) (by omega) (by omega)
  have n1 : ¬ nI (2 + k) = 1 := mr_ne (b := 1) (by omega) (by omega) (by omega)
  have s1 : mr_ex (eo 1) (en 1) x 1 (upd g 0 v) = none := by
    rw [e1]
    exact (if_neg n0).trans ((if_neg n1).trans (if_pos (by omega)))
  unfold mr_rn
  rw [e0]
  dsimp only
  unfold mr_rn
  rw [s1]
theorem mr_resL {post : Int32 → Prop} {e x y : Int32} (H : post (mr_cb e x y)) : wpL_result post () e x y := by
  unfold mr_cb at H
  refine br_c (fun z => ?_) (fun z => br_c (fun z1 => ?_) (fun z1 => br_c (fun z2 => ?_) (fun z2 => br_c (fun z3 => ?_) (fun z3 => ?_))))
  · rw [if_pos z] at H
    exact H
  · rw [if_neg z, if_pos z1] at H
    exact H
  · rw [if_neg z, if_neg z1, if_pos z2] at H
    exact H
  · rw [if_neg z, if_neg z1, if_neg z2, if_pos z3] at H
    exact H
  · rw [if_neg z, if_neg z1, if_neg z2, if_neg z3] at H
    exact H
/-! ===== the law's last row ===== -/
section
variable {post : Int32 → St0 → Prop} {mc ms kc ks : Nat} {n i op x5 x6 x7 x8 x9 x10 x11 nr : Int32}
/-- n out of range, i out of range -/
theorem mr_e00 (h5 : x5 = -10001) (h6 : x6 = 1) (h7 : x7 = -10001) (h8 : x8 = 0 + 4) (h9 : x9 = 0) (h10 : x10 = -10001) (h11 : x11 = 0) (hp : post 1 ()) : wL_lawOf_119 post mc ms n i op x5 x6 x7 x8 x9 x10 x11 0 0 kc ks :=
  br_t rfl (br_t rfl (br_t h5 (br_t rfl (br_t h6 (br_t rfl (br_t h7 (br_t rfl (br_t h8 (br_t h9 (br_t rfl (br_t h10 (br_t rfl (br_t h11 hp)))))))))))))
theorem mr_e01 (h5 : x5 = 10003) (h6 : x6 = 1) (h7 : x7 = 10001) (h8 : x8 = 0 + 4) (h9 : x9 = 0) (h10 : x10 = 10001) (h11 : x11 = 0) (hp : post 1 ()) : wL_lawOf_119 post mc ms n i op x5 x6 x7 x8 x9 x10 x11 0 1 kc ks :=
  br_t rfl (br_f (by decide) (br_t h5 (br_t rfl (br_t h6 (br_f (by decide) (br_t rfl (br_t h7 (br_t rfl (br_t h8 (br_t h9 (br_f (by decide) (br_t rfl (br_t h10 (br_t rfl (br_t h11 hp)))))))))))))))
theorem mr_212 {x12 x13 x14 z1 : Int32} (h12 : x12 = 1) (h8 : x8 = (if 7 ≤ n then 0 else 1) + (if n ≤ -8 then 0 else 1) + 4) (hz : z1 = x7) (H : wL_lawOf_249 post mc ms i op x9 x10 x11 x12 x13 x14 (x8 - 4) x8 kc ks) : wL_lawOf_212 post mc ms n i op x8 x9 x10 x11 x12 x13 x14 x7 z1 kc ks := by
  subst h12
  have e : ∀ a b : Int32, a + b + 4 - 4 = a + b := fun a b => Int32.add_sub_cancel (a + b) 4
  refine br_t hz (br_f (by decide) (br_c (fun z => br_c (fun w => ?_) (fun w => ?_)) (fun z => br_c (fun w => ?_) (fun w => ?_))))
  · rw [if_pos z, if_pos w] at h8
    rw [h8, e] at H
    rw [h8]
    exact H
  · rw [if_pos z, if_neg w] at h8
    rw [h8, e] at H
    rw [h8]
    exact H
  · rw [if_neg z, if_pos w] at h8
    rw [h8, e] at H
    rw [h8]
    exact H
  · rw [if_neg z, if_neg w] at h8
    rw [h8, e] at H
    rw [h8]
    exact H
theorem mr_249c : x8 = x8 - 4 + 4 := (Int32.sub_add_cancel x8 4).symm
theorem mr_e10 (hnr : nr = if 7 ≤ n then n - 1 else n + 1) (h5 : x5 = -10001) (h6 : x6 = 2) (h7 : x7 = -10001) (h8 : x8 = (if 7 ≤ n then 0 else 1) + (if n ≤ -8 then 0 else 1) + 4) (h9 : x9 = nr) (h10 : x10 = -10001) (h11 : x11 = 16) (hp : post 1 ()) : wL_lawOf_119 post mc ms n i op x5 x6 x7 x8 x9 x10 x11 1 0 kc ks := by
  have H : ∀ z0, z0 = nr → wL_lawOf_145 post mc ms n i op x5 x6 x7 x8 x9 x10 x11 1 0 z0 kc ks := by
    intro z0 e0
    subst e0
    exact br_t rfl (br_t h5 (br_f (by decide) (br_t h6 (br_t rfl (by
      subst h7
      exact mr_212 rfl h8 rfl (br_t mr_249c (br_t h9 (br_t rfl (br_t h10 (br_f (by decide) (br_t h11 hp))))))))))) 
  refine br_f (by decide) (br_c (fun z => H _ ?_) (fun z => H _ ?_))
  · rw [hnr, if_pos z]
  · rw [hnr, if_neg z]
theorem mr_e11 (hnr : nr = if 7 ≤ n then n - 1 else n + 1) (h5 : x5 = 10003) (h6 : x6 = 2) (h7 : x7 = mr_cb op n i) (h8 : x8 = (if 7 ≤ n then 0 else 1) + (if n ≤ -8 then 0 else 1) + 4) (h9 : x9 = nr) (h10 : x10 = mr_cb op nr i) (h11 : x11 = 16) (hp : post 1 ()) : wL_lawOf_119 post mc ms n i op x5 x6 x7 x8 x9 x10 x11 1 1 kc ks := by
  have H : ∀ z0, z0 = nr → wL_lawOf_145 post mc ms n i op x5 x6 x7 x8 x9 x10 x11 1 1 z0 kc ks := by
    intro z0 e0
    subst e0
    exact br_f (by decide) (br_t h5 (br_f (by decide) (br_t h6 (br_f (by decide) (br_f (by decide) (mr_resL (by
      subst h7
      exact mr_212 rfl h8 rfl (br_t mr_249c (br_t h9 (br_f (by decide) (br_f (by decide) (mr_resL (br_t h10 (br_f (by decide) (br_t h11 hp)))))))))))))))
  refine br_f (by decide) (br_c (fun z => H _ ?_) (fun z => H _ ?_))
  · rw [hnr, if_pos z]
  · rw [hnr, if_neg z]
/-- the row's head: is n in range, is i -/
theorem mr_top (H : ∀ x12 x13 : Int32, (mr_in n → x12 = 1) → (¬ mr_in n → x12 = 0) → (mr_in i → x13 = 1) → (¬ mr_in i → x13 = 0) → wL_lawOf_119 post mc ms n i op x5 x6 x7 x8 x9 x10 x11 x12 x13 kc ks) :
    ((n < (-8) → (wL_lawOf_99 post mc ms n i op x5 x6 x7 x8 x9 x10 x11 kc ks)) ∧ (¬ n < (-8) → (((7 < n → (wL_lawOf_99 post mc ms n i op x5 x6 x7 x8 x9 x10 x11 kc ks)) ∧ (¬ 7 < n → (wL_lawOf_100 post mc ms n i op x5 x6 x7 x8 x9 x10 x11 1 kc ks)))))) := by
  have g : ∀ x12 : Int32, (mr_in n → x12 = 1) → (¬ mr_in n → x12 = 0) → wL_lawOf_100 post mc ms n i op x5 x6 x7 x8 x9 x10 x11 x12 kc ks := by
    intro x12 p q
    exact br_c (fun z => H x12 0 p q (fun w => absurd z w.1) (fun _ => rfl)) (fun z => br_c (fun z1 => H x12 0 p q (fun w => absurd z1 (Int32.not_lt.mpr w.2)) (fun _ => rfl)) (fun z1 => H x12 1 p q (fun _ => rfl) (fun w => absurd ⟨z, Int32.not_lt.mp z1⟩ w)))
  exact br_c (fun z => g 0 (fun w => absurd z w.1) (fun _ => rfl)) (fun z => br_c (fun z1 => g 0 (fun w => absurd z1 (Int32.not_lt.mpr w.2)) (fun _ => rfl)) (fun z1 => g 1 (fun _ => rfl) (fun w => absurd ⟨z, Int32.not_lt.mp z1⟩ w)))
end
end
section
section
variable {b1 b2 : Nat → Int32} {n : Int32} {k : Nat}
theorem mr_os_l1 : ∀ k, k < 4 → (mr_os 1 (nI (2 + k)) 4 2).length = 3 := by decide +kernel
theorem mr_os_l2 : ∀ k, k < 4 → (mr_os 2 (nI (2 + k)) 4 2).length = 3 := by decide +kernel
theorem mr_at_op {i : Nat} (hk : k < 4) : mr_at i (nI (2 + k)) n = mr_os i (nI (2 + k)) 4 2 :=
  (if_neg (mr_ne (b := 0) (by omega) (by omega) (by omega))).trans (if_neg (mr_ne (b := 1) (by omega) (by omega) (by omega)))
theorem mr_ml3 (hk : k < 4) (e0 : b1 0 = 0) (n0 : b2 0 = n) (e1 : b1 1 = 1) (e2 : b1 2 = nI (2 + k)) : mr_ml b1 b2 3 = ((if 7 ≤ n then [] else [(0, 0, n + 1)]) ++ (if n ≤ -8 then [] else [(0, 0, n - 1)])) ++ [(1, 0, 0)] ++ mr_os 2 (nI (2 + k)) 4 2 := by
  have h : mr_ml b1 b2 3 = mr_at 0 (b1 0) (b2 0) ++ mr_at 1 (b1 1) (b2 1) ++ mr_at 2 (b1 2) (b2 2) := rfl
  rw [h, e0, n0, e1, e2, mr_at_op hk]
  rfl
theorem mr_ml2 (hk : k < 4) (e0 : b1 0 = 1) (e1 : b1 1 = nI (2 + k)) : mr_ml b1 b2 2 = [(0, 0, 0)] ++ mr_os 1 (nI (2 + k)) 4 2 := by
  have h : mr_ml b1 b2 2 = mr_at 0 (b1 0) (b2 0) ++ mr_at 1 (b1 1) (b2 1) := rfl
  rw [h, e0, e1, mr_at_op hk]
  rfl
theorem mr_cnt3 (hk : k < 4) (e0 : b1 0 = 0) (n0 : b2 0 = n) (e1 : b1 1 = 1) (e2 : b1 2 = nI (2 + k)) : nI (mr_ml b1 b2 3).length = (if 7 ≤ n then 0 else 1) + (if n ≤ -8 then 0 else 1) + 4 := by
  rw [mr_ml3 hk e0 n0 e1 e2, List.length_append, mr_os_l2 k hk]
  split <;> split <;> rfl
theorem mr_cnt2 (hk : k < 4) (e0 : b1 0 = 1) (e1 : b1 1 = nI (2 + k)) : (mr_ml b1 b2 2).length = 4 := by
  rw [mr_ml2 hk e0 e1, List.length_append, mr_os_l1 k hk]
  rfl
theorem mr_fst3 (hk : k < 4) (e0 : b1 0 = 0) (n0 : b2 0 = n) (e1 : b1 1 = 1) (e2 : b1 2 = nI (2 + k)) : (mr_ml b1 b2 3)[0]? = some (0, 0, if 7 ≤ n then n - 1 else n + 1) := by
  rw [mr_ml3 hk e0 n0 e1 e2]
  by_cases c : 7 ≤ n
  · have d : ¬ n ≤ -8 := by
      rw [Int32.le_iff_toInt_le, show (7 : Int32).toInt = 7 from by decide] at c
      rw [Int32.le_iff_toInt_le, show (-8 : Int32).toInt = -8 from by decide]
      omega
    rw [if_pos c, if_pos c, if_neg d]
    rfl
  · rw [if_neg c, if_neg c]
    rfl
theorem mr_fst2 (hk : k < 4) (e0 : b1 0 = 1) (e1 : b1 1 = nI (2 + k)) : (mr_ml b1 b2 2)[0]? = some (0, 0, 0) := by
  rw [mr_ml2 hk e0 e1]
  rfl
theorem mr_near (hn : mr_in n) : mr_in (if 7 ≤ n then n - 1 else n + 1) := by
  obtain ⟨j, hj, _, e⟩ := mr_in_ix hn
  have : ∀ j, j < 16 → ¬ (if 7 ≤ nI j - 8 then nI j - 8 - 1 else nI j - 8 + 1) < -8 ∧ (if 7 ≤ nI j - 8 then nI j - 8 - 1 else nI j - 8 + 1) ≤ 7 := by decide +kernel
  rw [← e]
  exact this j hj
end
end
section
theorem mr_begL {post : St2 → Prop} {u : St2} (H : ∀ b1 b2 u', mr_Q 0 b1 b2 u' → post u') : wpX_begin post u := by
  obtain ⟨sz, tr, rd, mu, pl, dn, ht, ip, tp, ch, co, cn, a1, a2, a3, a4, a5, a6, a7, a8, a9, a10, a11, a12, a13⟩ := u
  exact H a1 a2 _ (Or.inl ⟨rfl, rfl, rfl, rfl⟩)
theorem mr_iniL {post : St2 → Prop} {v : St1} (H : ∀ u, post u) : wpX_init post 13 258 v := by
  obtain ⟨sz, tr, rd, mu, pl, dn, ht, ip, tp, ch, co, cn⟩ := v
  exact ⟨by omega, by omega, by omega, by omega, by omega, by omega, by omega, by omega, by omega, by omega, by omega, by omega, by omega, by omega, by omega, by omega, by omega, by omega, by omega, by omega, by omega, by omega, by omega, by omega, by omega, by omega, nm_e (H _)⟩
/-- n in range: the program number, input, operation -/
theorem mr_lawIn {post : Int32 → St0 → Prop} {n kind i : Int32} (hn : mr_in n) (hp : post 1 ()) : wpL_lawOf post 166 2656 () n kind i := by
  obtain ⟨k, hk, ek⟩ := pk_andE kind (m := 3) 2 (by decide)
  have hk4 : k < 4 := hk
  refine ⟨by omega, by omega, 13, 258, by omega, by omega, mr_iniL (fun u => ?_)⟩
  obtain ⟨sz, tr, rd, mu, pl, dn, ht, ip, tp, ch, co, cn, a1, a2, a3, a4, a5, a6, a7, a8, a9, a10, a11, a12, a13⟩ := u
  refine nm_r (e' := nI (2 + k)) (by rw [ek]; exact nI_add 2 k) (mr_begL (fun c1 c2 u hu => ?_))
  obtain ⟨sz, tr, rd, mu, pl, dn, ht, ip, tp, ch, co, cn, a1, a2, a3, a4, a5, a6, a7, a8, a9, a10, a11, a12, a13⟩ := u
  refine mr_outL (by omega) (fun j hj => absurd hj (by omega)) hu (fun r5 u hu h5 h5' => ?_)
  obtain ⟨sz, tr, rd, mu, pl, dn, ht, ip, tp, ch, co, cn, a1, a2, a3, a4, a5, a6, a7, a8, a9, a10, a11, a12, a13⟩ := u
  refine mr_app0 (by omega) hn (mr_Q_D hu) (fun u hu => ?_)
  obtain ⟨sz, tr, rd, mu, pl, dn, ht, ip, tp, ch, co, cn, a1, a2, a3, a4, a5, a6, a7, a8, a9, a10, a11, a12, a13⟩ := u
  refine mr_appk (k := 1) (by omega) (by omega) (by omega) (mr_Q_D hu) (fun u hu => ?_)
  obtain ⟨sz, tr, rd, mu, pl, dn, ht, ip, tp, ch, co, cn, a1, a2, a3, a4, a5, a6, a7, a8, a9, a10, a11, a12, a13⟩ := u
  refine mr_appk (k := 2 + k) (by omega) (by omega) (by omega) (mr_Q_D hu) (fun u hu => ?_)
  obtain ⟨sz, tr, rd, mu, pl, dn, ht, ip, tp, ch, co, cn, a1, a2, a3, a4, a5, a6, a7, a8, a9, a10, a11, a12, a13⟩ := u
  have ho : ∀ j, j < 0 + 1 + 1 + 1 → mr_ok5 (upd (upd (upd c1 0 0) (0 + 1) (nI 1)) (0 + 1 + 1) (nI (2 + k)) j) := fun j hj => co_3 (P := fun j => mr_ok5 (upd (upd (upd c1 0 0) (0 + 1) (nI 1)) (0 + 1 + 1) (nI (2 + k)) j)) ⟨0, by omega, rfl⟩ ⟨1, by omega, rfl⟩ ⟨2 + k, by omega, rfl⟩ hj
  refine mr_outL (by omega) ho hu (fun r7 u hu h7 h7' => ?_)
  obtain ⟨sz, tr, rd, mu, pl, dn, ht, ip, tp, ch, co, cn, a1, a2, a3, a4, a5, a6, a7, a8, a9, a10, a11, a12, a13⟩ := u
  refine mr_mutL (by omega) ho hu (fun u hu => ?_)
  obtain ⟨sz, tr, rd, mu, pl, dn, ht, ip, tp, ch, co, cn, a1, a2, a3, a4, a5, a6, a7, a8, a9, a10, a11, a12, a13⟩ := u
  have hf := mr_fst3 (b1 := upd (upd (upd c1 0 0) (0 + 1) (nI 1)) (0 + 1 + 1) (nI (2 + k))) (b2 := upd (upd (upd c2 0 n) (0 + 1) 0) (0 + 1 + 1) 0) (n := n) hk4 rfl rfl rfl rfl
  refine mr_numbL (by omega) ho (mr_R_Q hu) hf (fun u hu => ?_)
  obtain ⟨sz, tr, rd, mu, pl, dn, ht, ip, tp, ch, co, cn, a1, a2, a3, a4, a5, a6, a7, a8, a9, a10, a11, a12, a13⟩ := u
  refine mr_ooL (by omega) ho hu hf (fun r10 u hu h10 h10' => ?_)
  obtain ⟨sz, tr, rd, mu, pl, dn, ht, ip, tp, ch, co, cn, a1, a2, a3, a4, a5, a6, a7, a8, a9, a10, a11, a12, a13⟩ := u
  refine mr_numL (c := true) (by omega) ho hu (fun x g hx => ⟨fun z => ?_, fun z => absurd z (by decide)⟩) (fun u => ?_)
  · exfalso
    rw [mr_run3 (v := n) hk4 hn hx rfl rfl rfl rfl] at z
    exact Int32.not_lt.mpr (mr_cb_ok hk4 hn hx).2 z
  obtain ⟨sz, tr, rd, mu, pl, dn, ht, ip, tp, ch, co, cn, a1, a2, a3, a4, a5, a6, a7, a8, a9, a10, a11, a12, a13⟩ := u
  have hc := mr_cnt3 (b1 := upd (upd (upd c1 0 0) (0 + 1) (nI 1)) (0 + 1 + 1) (nI (2 + k))) (b2 := upd (upd (upd c2 0 n) (0 + 1) 0) (0 + 1 + 1) 0) (n := n) hk4 rfl rfl rfl rfl
  refine mr_top (fun x12 x13 p q p' q' => ?_)
  have e12 := p hn
  subst e12
  by_cases hi : mr_in i
  · have e13 := p' hi
    subst e13
    refine mr_e11 rfl ?_ rfl ?_ hc rfl ?_ rfl hp
    · obtain ⟨g, hg⟩ := h5 hi
      exact hg
    · obtain ⟨g, hg⟩ := h7 hi
      rw [hg]
      exact mr_run3 hk4 hn hi rfl rfl rfl rfl
    · obtain ⟨g, hg⟩ := h10 hi
      rw [hg]
      exact mr_run3 hk4 (mr_near hn) hi rfl rfl rfl rfl
  · have e13 := q' hi
    subst e13
    exact mr_e10 rfl (h5' hi) rfl (h7' hi) hc rfl (h10' hi) rfl hp
/-- n out of range: the program input, operation -/
theorem mr_lawOut {post : Int32 → St0 → Prop} {n kind i : Int32} (hn : ¬ mr_in n) (hp : post 1 ()) : wpL_lawOf post 166 2656 () n kind i := by
  obtain ⟨k, hk, ek⟩ := pk_andE kind (m := 3) 2 (by decide)
  have hk4 : k < 4 := hk
  have in0 : mr_in 0 := ⟨by decide, by decide⟩
  refine ⟨by omega, by omega, 13, 258, by omega, by omega, mr_iniL (fun u => ?_)⟩
  obtain ⟨sz, tr, rd, mu, pl, dn, ht, ip, tp, ch, co, cn, a1, a2, a3, a4, a5, a6, a7, a8, a9, a10, a11, a12, a13⟩ := u
  refine nm_r (e' := nI (2 + k)) (by rw [ek]; exact nI_add 2 k) (mr_begL (fun c1 c2 u hu => ?_))
  obtain ⟨sz, tr, rd, mu, pl, dn, ht, ip, tp, ch, co, cn, a1, a2, a3, a4, a5, a6, a7, a8, a9, a10, a11, a12, a13⟩ := u
  refine mr_outL (by omega) (fun j hj => absurd hj (by omega)) hu (fun r5 u hu h5 h5' => ?_)
  obtain ⟨sz, tr, rd, mu, pl, dn, ht, ip, tp, ch, co, cn, a1, a2, a3, a4, a5, a6, a7, a8, a9, a10, a11, a12, a13⟩ := u
  refine mr_app0' hn ?_
  refine mr_appk (k := 1) (by omega) (by omega) (by omega) (mr_Q_D hu) (fun u hu => ?_)
  obtain ⟨sz, tr, rd, mu, pl, dn, ht, ip, tp, ch, co, cn, a1, a2, a3, a4, a5, a6, a7, a8, a9, a10, a11, a12, a13⟩ := u
  refine mr_appk (k := 2 + k) (by omega) (by omega) (by omega) (mr_Q_D hu) (fun u hu => ?_)
  obtain ⟨sz, tr, rd, mu, pl, dn, ht, ip, tp, ch, co, cn, a1, a2, a3, a4, a5, a6, a7, a8, a9, a10, a11, a12, a13⟩ := u
  have ho : ∀ j, j < 0 + 1 + 1 → mr_ok5 (upd (upd c1 0 (nI 1)) (0 + 1) (nI (2 + k)) j) := fun j hj => co_2 (P := fun j => mr_ok5 (upd (upd c1 0 (nI 1)) (0 + 1) (nI (2 + k)) j)) ⟨1, by omega, rfl⟩ ⟨2 + k, by omega, rfl⟩ hj
  refine mr_outL (by omega) ho hu (fun r7 u hu h7 h7' => ?_)
  obtain ⟨sz, tr, rd, mu, pl, dn, ht, ip, tp, ch, co, cn, a1, a2, a3, a4, a5, a6, a7, a8, a9, a10, a11, a12, a13⟩ := u
  refine mr_mutL (by omega) ho hu (fun u hu => ?_)
  obtain ⟨sz, tr, rd, mu, pl, dn, ht, ip, tp, ch, co, cn, a1, a2, a3, a4, a5, a6, a7, a8, a9, a10, a11, a12, a13⟩ := u
  have hf := mr_fst2 (b1 := upd (upd c1 0 (nI 1)) (0 + 1) (nI (2 + k))) (b2 := upd (upd c2 0 0) (0 + 1) 0) hk4 rfl rfl
  refine mr_numbL (by omega) ho (mr_R_Q hu) hf (fun u hu => ?_)
  obtain ⟨sz, tr, rd, mu, pl, dn, ht, ip, tp, ch, co, cn, a1, a2, a3, a4, a5, a6, a7, a8, a9, a10, a11, a12, a13⟩ := u
  refine mr_ooL (by omega) ho hu hf (fun r10 u hu h10 h10' => ?_)
  obtain ⟨sz, tr, rd, mu, pl, dn, ht, ip, tp, ch, co, cn, a1, a2, a3, a4, a5, a6, a7, a8, a9, a10, a11, a12, a13⟩ := u
  have r2 : ∀ x g, mr_in x → mr_rn x (upd (upd c1 0 (nI 1)) (0 + 1) (nI (2 + k))) (upd (upd c2 0 0) (0 + 1) 0) (0 + 1 + 1) 0 0 g = 10001 := fun x g hx => mr_run2 (v := x) hx hk4 ((if_neg (show ¬ nI 1 = 0 by decide)).trans ((if_pos rfl).trans (mr_put_ok (by omega) (mr_in_1000 hx)))) rfl
  refine mr_numL (c := false) (by omega) ho hu (fun x g hx => ⟨fun z => rfl, fun z => ?_⟩) (fun u => ?_)
  · rw [r2 x g hx]
    decide
  obtain ⟨sz, tr, rd, mu, pl, dn, ht, ip, tp, ch, co, cn, a1, a2, a3, a4, a5, a6, a7, a8, a9, a10, a11, a12, a13⟩ := u
  have hc := mr_cnt2 (b1 := upd (upd c1 0 (nI 1)) (0 + 1) (nI (2 + k))) (b2 := upd (upd c2 0 0) (0 + 1) 0) hk4 rfl rfl
  refine mr_top (fun x12 x13 p q p' q' => ?_)
  have e12 := q hn
  subst e12
  have hc' : nI (mr_ml (upd (upd c1 0 (nI 1)) (0 + 1) (nI (2 + k))) (upd (upd c2 0 0) (0 + 1) 0) (0 + 1 + 1)).length = 0 + 4 := by
    rw [show (mr_ml (upd (upd c1 0 (nI 1)) (0 + 1) (nI (2 + k))) (upd (upd c2 0 0) (0 + 1) 0) (0 + 1 + 1)).length = 4 from hc]
    rfl
  by_cases hi : mr_in i
  · have e13 := p' hi
    subst e13
    refine mr_e01 ?_ rfl ?_ hc' rfl ?_ rfl hp
    · obtain ⟨g, hg⟩ := h5 hi
      exact hg
    · obtain ⟨g, hg⟩ := h7 hi
      rw [hg]
      exact r2 i g hi
    · obtain ⟨g, hg⟩ := h10 hi
      rw [hg]
      exact mr_run2 (v := 0) in0 hk4 ((if_pos rfl).trans (mr_put_ok (by omega) (mr_in_1000 in0))) rfl
  · have e13 := q' hi
    subst e13
    exact mr_e00 (h5' hi) rfl (h7' hi) hc' rfl (h10' hi) rfl hp
theorem mr_cell {post : Int32 → Prop} {L j : Nat} {xs : Nat → Int32} (hL : L ≤ 3) (hj : j < 3) (H : ∀ r, post r) : wpL_cellAt post L xs () (nI j) :=
  pk_le L j (fun _ => H _) (fun z => ⟨pk_in j L z, H _⟩)
theorem i_vc (xs : Nat → Int32) (L : Nat) (hL : L ≤ 3) : wpL_law (fun r => r = 1) L xs := by
  refine mr_cell (j := 0) hL (by omega) (fun n => mr_cell (j := 1) hL (by omega) (fun kind => mr_cell (j := 2) hL (by omega) (fun i => ⟨166, 2656, by omega, by omega, ?_⟩)))
  by_cases hn : mr_in n
  · exact mr_lawIn hn rfl
  · exact mr_lawOut hn rfl
end
