section
/-- two piles agree below the height -/
def mr_ag (h : Nat) (a p : Nat → Int32) : Prop := ∀ k, k < h → a k = p k
/-- an instruction that the machine can carry out -/
def mr_ok (w n : Int32) : Prop := ∃ k : Nat, k ≤ 9 ∧ w = nI k ∧ (k = 8 → ∃ y : Nat, y ≤ 3 ∧ n = nI y) ∧ (k = 9 → ∃ y : Nat, y ≤ 9 ∧ n = nI y)
theorem mr_ag_le {h h' : Nat} {a p : Nat → Int32} (e : h' ≤ h) (ha : mr_ag h a p) : mr_ag h' a p := fun k hk => ha k (by omega)
theorem mr_ag_put {h : Nat} {a p : Nat → Int32} {v v' : Int32} (hv : v' = v) (ha : mr_ag h a p) : mr_ag (h + 1) (upd a h v') (upd p h v) := by
  intro k hk
  by_cases e : k = h
  · rw [e, pk_us, pk_us, hv]
  · rw [pk_un e, pk_un e]
    exact ha k (by omega)
theorem mr_ag_upd {h i : Nat} {a p : Nat → Int32} {v v' : Int32} (hv : v' = v) (ha : mr_ag h a p) : mr_ag h (upd a i v') (upd p i v) := by
  intro k hk
  by_cases e : k = i
  · rw [e, pk_us, pk_us, hv]
  · rw [pk_un e, pk_un e]
    exact ha k hk
def mr_nd (w : Nat) : Nat := if w < 2 then 0 else if w ≤ 5 then 2 else if w = 7 then 2 else 1
theorem mr_needs {post : Int32 → Prop} {sz tr rd mu pl dn ht ip tp ch co cn : Int32} {a1 a2 a3 a4 a5 a6 a7 a8 a9 a10 a11 a12 a13 : Nat → Int32} (w : Nat) (hw : w ≤ 9) (H : post (nI (mr_nd w))) : wpX_needs post (sz, tr, rd, mu, pl, dn, ht, ip, tp, ch, co, cn, a1, a2, a3, a4, a5, a6, a7, a8, a9, a10, a11, a12, a13) (nI w) := by
  unfold mr_nd at H
  refine pk_le 2 w (fun z => ?_) (fun z => ?_)
  · rw [if_neg (by omega)] at H
    refine pk_le w 5 (fun z5 => ?_) (fun z5 => ?_)
    · rw [if_pos z5] at H
      exact H
    · rw [if_neg (by omega)] at H
      refine pk_eq w 7 (fun z7 => ?_) (fun z7 => ?_)
      · rw [if_pos z7] at H
        exact H
      · rw [if_neg z7] at H
        exact H
  · rw [if_pos z] at H
    exact H
def mr_cv (w : Nat) (x y : Int32) : Int32 := if w = 2 then x + y else if w = 3 then x - y else if w = 4 then x * y else if y ≤ x then 0 else 1
theorem mr_comb {post : Int32 → Prop} {sz tr rd mu pl dn ht ip tp ch co cn : Int32} {a1 a2 a3 a4 a5 a6 a7 a8 a9 a10 a11 a12 a13 : Nat → Int32} (w : Nat) (hw : w ≤ 9) {x y x' y' : Int32} (hx : x' = x) (hy : y' = y) (H : post (mr_cv w x y)) : wpX_combined post (sz, tr, rd, mu, pl, dn, ht, ip, tp, ch, co, cn, a1, a2, a3, a4, a5, a6, a7, a8, a9, a10, a11, a12, a13) (nI w) x' y' := by
  subst hx
  subst hy
  unfold mr_cv at H
  refine pk_eq w 2 (fun z => ?_) (fun z => pk_eq w 3 (fun z3 => ?_) (fun z3 => pk_eq w 4 (fun z4 => ?_) (fun z4 => br_c (fun z5 => ?_) (fun z5 => ?_))))
  · rw [if_pos z] at H
    exact H
  · rw [if_neg z, if_pos z3] at H
    exact H
  · rw [if_neg z, if_neg z3, if_pos z4] at H
    exact H
  · rw [if_neg z, if_neg z3, if_neg z4, if_pos z5] at H
    exact H
  · rw [if_neg z, if_neg z3, if_neg z4, if_neg z5] at H
    exact H
/-- put: its outcome is a function of the height, the pile below it and the value -/
theorem mr_put (h : Nat) (hh : h ≤ 6) (p : Nat → Int32) (v : Int32) : ∃ (h' : Nat) (t : Int32) (p' : Nat → Int32), h' ≤ 6 ∧ (t = 0 ∨ t = 1) ∧
    ∀ {post : St1 → Prop} {sz tr rd mu pl dn ip ch co cn v' : Int32} {a1 a2 a3 a4 a5 a6 a7 a8 a9 a10 a11 a12 a13 : Nat → Int32}, v' = v → mr_ag h a9 p →
      (∀ b, mr_ag h' b p' → post (sz, tr, rd, mu, pl, dn, nI h', ip, t, ch, co, cn, a1, a2, a3, a4, a5, a6, a7, a8, b, a10, a11, a12, a13)) → wpX_put post (sz, tr, rd, mu, pl, dn, nI h, ip, 0, ch, co, cn, a1, a2, a3, a4, a5, a6, a7, a8, a9, a10, a11, a12, a13) v' := by
  by_cases h6 : h = 6
  · refine ⟨h, 1, p, hh, Or.inr rfl, ?_⟩
    intro post sz tr rd mu pl dn ip ch co cn v' a1 a2 a3 a4 a5 a6 a7 a8 a9 a10 a11 a12 a13 ev ha H
    exact br_t (by rw [h6]; rfl) (H a9 ha)
  · by_cases hv : v < (-1000)
    · refine ⟨h, 1, p, hh, Or.inr rfl, ?_⟩
      intro post sz tr rd mu pl dn ip ch co cn v' a1 a2 a3 a4 a5 a6 a7 a8 a9 a10 a11 a12 a13 ev ha H
      subst ev
      exact pk_eq h 6 (fun e => absurd e h6) (fun _ => br_t hv (H a9 ha))
    · by_cases hv2 : v ≤ 1000
      · refine ⟨h + 1, 0, upd p h v, by omega, Or.inl rfl, ?_⟩
        intro post sz tr rd mu pl dn ip ch co cn v' a1 a2 a3 a4 a5 a6 a7 a8 a9 a10 a11 a12 a13 ev ha H
        subst ev
        exact pk_eq h 6 (fun e => absurd e h6) (fun _ => br_f hv (br_t hv2 ⟨pk_in h 6 (by omega), nm_r (by rw [nI_clamp (by omega)]) (nm_r (nI_1 h) (H _ (mr_ag_put rfl ha)))⟩))
      · refine ⟨h, 1, p, hh, Or.inr rfl, ?_⟩
        intro post sz tr rd mu pl dn ip ch co cn v' a1 a2 a3 a4 a5 a6 a7 a8 a9 a10 a11 a12 a13 ev ha H
        subst ev
        exact pk_eq h 6 (fun e => absurd e h6) (fun _ => br_f hv (br_f hv2 (H a9 ha)))
theorem mr_top {h i : Nat} {a p : Nat → Int32} (ha : mr_ag h a p) (hi : i < h) (hh : h ≤ 6) {x : Int32} (e : x = nI i) : a x.toNatClampNeg = p i := by
  rw [e, nI_clamp (by omega)]
  exact ha i hi
theorem mr_s1 {h : Nat} (c : 1 ≤ h) : nI h - 1 = nI (h - 1) := pk_sub (b := 1) c
theorem mr_s2 {h : Nat} (c : 2 ≤ h) : nI h - 2 = nI (h - 2) := pk_sub (b := 2) c
theorem mr_nd2 (w : Nat) : mr_nd w ≤ 2 := by
  unfold mr_nd
  split
  · omega
  · split
    · omega
    · split <;> omega
/-- what execute does, as a property of the pure picture: the new place, height, trap and pile -/
def mr_X (w n : Int32) (pl dn h : Nat) (ip : Int32) (p : Nat → Int32) (pl' h' : Nat) (t : Int32) (p' : Nat → Int32) : Prop :=
  ∀ {post : St1 → Prop} {sz tr rd mu ch co cn : Int32} {a1 a2 a3 a4 a5 a6 a7 a8 a9 a10 a11 a12 a13 : Nat → Int32}, mr_ag h a9 p →
    (∀ b, mr_ag h' b p' → post (sz, tr, rd, mu, nI pl', nI (dn + 1), nI h', ip, t, ch, co, cn, a1, a2, a3, a4, a5, a6, a7, a8, b, a10, a11, a12, a13)) → wpX_execute post (sz, tr, rd, mu, nI pl, nI dn, nI h, ip, 0, ch, co, cn, a1, a2, a3, a4, a5, a6, a7, a8, a9, a10, a11, a12, a13) w n
theorem mr_exec0 (w : Nat) (hw : w ≤ 9) (n : Int32) (h8 : w = 8 → ∃ y : Nat, y ≤ 3 ∧ n = nI y) (h9 : w = 9 → ∃ y : Nat, y ≤ 9 ∧ n = nI y) (pl dn h : Nat) (hpl : pl < 10) (hdn : dn ≤ 40) (hh : h ≤ 6) (ip : Int32) (p : Nat → Int32) :
    ∃ (pl' h' : Nat) (t : Int32) (p' : Nat → Int32), pl' ≤ 100 ∧ h' ≤ 6 ∧ (t = 0 ∨ t = 1) ∧ mr_X (nI w) n pl dn h ip p pl' h' t p' := by
  have hb := mr_nd2 w
  by_cases hn : mr_nd w ≤ h
  · have hc : w = 0 ∨ w = 1 ∨ (2 ≤ w ∧ w ≤ 5) ∨ w = 6 ∨ w = 7 ∨ w = 8 ∨ w = 9 := by omega
    rcases hc with e | e | e | e | e | e | e
    · subst e
      obtain ⟨h', t, p', q1, q2, Q⟩ := mr_put h hh p n
      refine ⟨pl + 1, h', t, p', by omega, q1, q2, ?_⟩
      intro post sz tr rd mu ch co cn a1 a2 a3 a4 a5 a6 a7 a8 a9 a10 a11 a12 a13 ha H
      exact nm_r (nI_1 dn) (mr_needs 0 hw (pk_le (mr_nd 0) h (fun _ => nm_r (nI_1 pl) (br_t rfl (Q rfl ha (fun b hb => H b hb)))) (fun z => absurd hn (by omega))))
    · subst e
      obtain ⟨h', t, p', q1, q2, Q⟩ := mr_put h hh p ip
      refine ⟨pl + 1, h', t, p', by omega, q1, q2, ?_⟩
      intro post sz tr rd mu ch co cn a1 a2 a3 a4 a5 a6 a7 a8 a9 a10 a11 a12 a13 ha H
      exact nm_r (nI_1 dn) (mr_needs 1 hw (pk_le (mr_nd 1) h (fun _ => nm_r (nI_1 pl) (br_f (by decide) (br_t rfl (Q rfl ha (fun b hb => H b hb))))) (fun z => absurd hn (by omega))))
    · have e2 : mr_nd w = 2 := by
        unfold mr_nd
        rw [if_neg (by omega), if_pos (by omega)]
      obtain ⟨h', t, p', q1, q2, Q⟩ := mr_put (h - 2) (by omega) p (mr_cv w (p (h - 2)) (p (h - 1)))
      refine ⟨pl + 1, h', t, p', by omega, q1, q2, ?_⟩
      intro post sz tr rd mu ch co cn a1 a2 a3 a4 a5 a6 a7 a8 a9 a10 a11 a12 a13 ha H
      refine nm_r (nI_1 dn) (mr_needs w hw (pk_le (mr_nd w) h (fun _ => nm_r (nI_1 pl) ?_) (fun z => absurd hn (by omega))))
      refine pk_eq w 0 (fun z => absurd z (by omega)) (fun _ => pk_eq w 1 (fun z => absurd z (by omega)) (fun _ => pk_lt 5 w (fun z => absurd z (by omega)) (fun _ => nm_r (mr_s2 (by omega)) ?_)))
      exact ⟨pk_in (h - 2) 6 (by omega), pk_in (h - 2 + 1) 6 (by omega) (nI_1 _), mr_comb w hw (mr_top ha (by omega) hh rfl) (mr_top (i := h - 1) ha (by omega) hh (by rw [nI_1, show h - 2 + 1 = h - 1 by omega])) (Q rfl (mr_ag_le (by omega) ha) (fun b hb => H b hb))⟩
    · subst e
      have e2 : mr_nd 6 = 1 := by decide
      obtain ⟨h', t, p', q1, q2, Q⟩ := mr_put h hh p (p (h - 1))
      refine ⟨pl + 1, h', t, p', by omega, q1, q2, ?_⟩
      intro post sz tr rd mu ch co cn a1 a2 a3 a4 a5 a6 a7 a8 a9 a10 a11 a12 a13 ha H
      refine nm_r (nI_1 dn) (mr_needs 6 hw (pk_le (mr_nd 6) h (fun _ => nm_r (nI_1 pl) ?_) (fun z => absurd hn (by omega))))
      exact br_f (by decide) (br_f (by decide) (br_t (by decide) (br_t rfl ⟨pk_in (h - 1) 6 (by omega) (mr_s1 (by omega)), Q (mr_top ha (by omega) hh (mr_s1 (by omega))) ha (fun b hb => H b hb)⟩)))
    · subst e
      have e2 : mr_nd 7 = 2 := by decide
      refine ⟨pl + 1, h, 0, upd (upd p (h - 1) (p (h - 2))) (h - 2) (p (h - 1)), by omega, hh, Or.inl rfl, ?_⟩
      intro post sz tr rd mu ch co cn a1 a2 a3 a4 a5 a6 a7 a8 a9 a10 a11 a12 a13 ha H
      refine nm_r (nI_1 dn) (mr_needs 7 hw (pk_le (mr_nd 7) h (fun _ => nm_r (nI_1 pl) ?_) (fun z => absurd hn (by omega))))
      have i1 : vp_in (nI h - 1) 6 := pk_in (h - 1) 6 (by omega) (mr_s1 (by omega))
      have i2 : vp_in (nI h - 2) 6 := pk_in (h - 2) 6 (by omega) (mr_s2 (by omega))
      have t1 : a9 (nI h - 1).toNatClampNeg = p (h - 1) := mr_top ha (by omega) hh (mr_s1 (by omega))
      have t2 : a9 (nI h - 2).toNatClampNeg = p (h - 2) := mr_top ha (by omega) hh (mr_s2 (by omega))
      have c1 : (nI h - 1).toNatClampNeg = h - 1 := by rw [mr_s1 (by omega), nI_clamp (by omega)]
      have c2 : (nI h - 2).toNatClampNeg = h - 2 := by rw [mr_s2 (by omega), nI_clamp (by omega)]
      exact br_f (by decide) (br_f (by decide) (br_t (by decide) (br_f (by decide) (br_t rfl ⟨i1, nm_r t1 ⟨i2, i1, nm_r (by rw [t2, c1]) ⟨i2, nm_r (by rw [c2]) (H _ (mr_ag_upd rfl (mr_ag_upd rfl ha)))⟩⟩⟩))))
    · subst e
      have e2 : mr_nd 8 = 1 := by decide
      obtain ⟨y, hy, en⟩ := h8 rfl
      subst en
      by_cases z : p (h - 1) = 0
      · refine ⟨pl + 1, h - 1, 0, p, by omega, by omega, Or.inl rfl, ?_⟩
        intro post sz tr rd mu ch co cn a1 a2 a3 a4 a5 a6 a7 a8 a9 a10 a11 a12 a13 ha H
        refine nm_r (nI_1 dn) (mr_needs 8 hw (pk_le (mr_nd 8) h (fun _ => nm_r (nI_1 pl) ?_) (fun z => absurd hn (by omega))))
        exact br_f (by decide) (br_f (by decide) (br_t (by decide) (br_f (by decide) (br_f (by decide) (nm_r (mr_s1 (by omega)) (br_t rfl ⟨pk_in (h - 1) 6 (by omega), br_t ((mr_top ha (by omega) hh rfl).trans z) (br_f (by decide) (H a9 (mr_ag_le (by omega) ha)))⟩))))))
      · refine ⟨pl + 1 + y, h - 1, 0, p, by omega, by omega, Or.inl rfl, ?_⟩
        intro post sz tr rd mu ch co cn a1 a2 a3 a4 a5 a6 a7 a8 a9 a10 a11 a12 a13 ha H
        refine nm_r (nI_1 dn) (mr_needs 8 hw (pk_le (mr_nd 8) h (fun _ => nm_r (nI_1 pl) ?_) (fun z => absurd hn (by omega))))
        exact br_f (by decide) (br_f (by decide) (br_t (by decide) (br_f (by decide) (br_f (by decide) (nm_r (mr_s1 (by omega)) (br_t rfl ⟨pk_in (h - 1) 6 (by omega), br_f (fun g => z ((mr_top ha (by omega) hh rfl).symm.trans g)) (nm_r (nI_add _ _) (H a9 (mr_ag_le (by omega) ha)))⟩))))))
    · subst e
      have e2 : mr_nd 9 = 1 := by decide
      obtain ⟨y, hy, en⟩ := h9 rfl
      subst en
      by_cases z : p (h - 1) ≤ 0
      · refine ⟨pl + 1, h - 1, 0, p, by omega, by omega, Or.inl rfl, ?_⟩
        intro post sz tr rd mu ch co cn a1 a2 a3 a4 a5 a6 a7 a8 a9 a10 a11 a12 a13 ha H
        refine nm_r (nI_1 dn) (mr_needs 9 hw (pk_le (mr_nd 9) h (fun _ => nm_r (nI_1 pl) ?_) (fun z => absurd hn (by omega))))
        have t1 : a9 (nI (h - 1)).toNatClampNeg = p (h - 1) := mr_top ha (by omega) hh rfl
        exact br_f (by decide) (br_f (by decide) (br_t (by decide) (br_f (by decide) (br_f (by decide) (nm_r (mr_s1 (by omega)) (br_f (by decide) (br_t rfl ⟨pk_in (h - 1) 6 (by omega), br_t (by rw [t1]; exact z) (H a9 (mr_ag_le (by omega) ha))⟩)))))))
      · refine ⟨y, h - 1, 0, p, by omega, by omega, Or.inl rfl, ?_⟩
        intro post sz tr rd mu ch co cn a1 a2 a3 a4 a5 a6 a7 a8 a9 a10 a11 a12 a13 ha H
        refine nm_r (nI_1 dn) (mr_needs 9 hw (pk_le (mr_nd 9) h (fun _ => nm_r (nI_1 pl) ?_) (fun z => absurd hn (by omega))))
        have t1 : a9 (nI (h - 1)).toNatClampNeg = p (h - 1) := mr_top ha (by omega) hh rfl
        exact br_f (by decide) (br_f (by decide) (br_t (by decide) (br_f (by decide) (br_f (by decide) (nm_r (mr_s1 (by omega)) (br_f (by decide) (br_t rfl ⟨pk_in (h - 1) 6 (by omega), br_f (by rw [t1]; exact z) (H a9 (mr_ag_le (by omega) ha))⟩)))))))
  · refine ⟨pl, h, 1, p, by omega, hh, Or.inr rfl, ?_⟩
    intro post sz tr rd mu ch co cn a1 a2 a3 a4 a5 a6 a7 a8 a9 a10 a11 a12 a13 ha H
    exact nm_r (nI_1 dn) (mr_needs w hw (pk_le (mr_nd w) h (fun z => absurd z hn) (fun _ => H a9 ha)))
theorem mr_exec {w n : Int32} (ho : mr_ok w n) (pl dn h : Nat) (hpl : pl < 10) (hdn : dn ≤ 40) (hh : h ≤ 6) (ip : Int32) (p : Nat → Int32) :
    ∃ (pl' h' : Nat) (t : Int32) (p' : Nat → Int32), pl' ≤ 100 ∧ h' ≤ 6 ∧ (t = 0 ∨ t = 1) ∧ mr_X w n pl dn h ip p pl' h' t p' := by
  obtain ⟨k, k9, ek, h8, h9⟩ := ho
  subst ek
  exact mr_exec0 k k9 n h8 h9 pl dn h hpl hdn hh ip p
end
section
/-- the notes of one run: seen, done, height and pile at each instruction -/
abbrev mr_T : Type := (Nat → Int32) × (Nat → Nat) × (Nat → Nat) × (Nat → Nat → Int32)
def mr_nt (T : mr_T) (b10 b11 b12 b13 : Nat → Int32) : Prop := ∀ j, j < 10 → b10 j = T.1 j ∧ (T.1 j ≠ 0 → T.2.1 j ≤ 40 ∧ T.2.2.1 j ≤ 6 ∧ b11 j = nI (T.2.1 j) ∧ b12 j = nI (T.2.2.1 j) ∧ ∀ k, k < T.2.2.1 j → b13 (j * 6 + k) = T.2.2.2 j k)
def mr_up (T : mr_T) (pl dn h : Nat) (p : Nat → Int32) : mr_T := (upd T.1 pl 1, (fun j => if j = pl then dn else T.2.1 j), (fun j => if j = pl then h else T.2.2.1 j), (fun j => if j = pl then p else T.2.2.2 j))
theorem mr_nt_up {T : mr_T} {pl dn h : Nat} {p a10 a11 a12 a13 b13 : Nat → Int32} (hnt : mr_nt T a10 a11 a12 a13) (hdn : dn ≤ 40) (hh : h ≤ 6) (h1 : ∀ k, k < h → b13 (pl * 6 + k) = p k) (h2 : ∀ t, (t < pl * 6 ∨ pl * 6 + 6 ≤ t) → b13 t = a13 t) :
    mr_nt (mr_up T pl dn h p) (upd a10 pl 1) (upd a11 pl (nI dn)) (upd a12 pl (nI h)) b13 := by
  intro j hj
  by_cases e : j = pl
  · subst e
    have s0 : (mr_up T j dn h p).1 j = 1 := pk_us
    have s1 : (mr_up T j dn h p).2.1 j = dn := if_pos rfl
    have s2 : (mr_up T j dn h p).2.2.1 j = h := if_pos rfl
    have s3 : (mr_up T j dn h p).2.2.2 j = p := if_pos rfl
    rw [s0, s1, s2, s3, pk_us, pk_us, pk_us]
    exact ⟨rfl, fun _ => ⟨hdn, hh, rfl, rfl, h1⟩⟩
  · have s0 : (mr_up T pl dn h p).1 j = T.1 j := pk_un e
    have s1 : (mr_up T pl dn h p).2.1 j = T.2.1 j := if_neg e
    have s2 : (mr_up T pl dn h p).2.2.1 j = T.2.2.1 j := if_neg e
    have s3 : (mr_up T pl dn h p).2.2.2 j = T.2.2.2 j := if_neg e
    rw [s0, s1, s2, s3, pk_un e, pk_un e, pk_un e]
    obtain ⟨c1, c2⟩ := hnt j hj
    refine ⟨c1, fun z => ?_⟩
    obtain ⟨d1, d2, d3, d4, d5⟩ := c2 z
    refine ⟨d1, d2, d3, d4, fun k hk => ?_⟩
    rw [h2 _ (by omega)]
    exact d5 k hk
theorem mr_ix (i k : Nat) : nI i * 6 + nI k = nI (i * 6 + k) := by
  rw [← nI_add, ← pk_mul]
  rfl
theorem mr_noteL {post : St1 → Prop} {sz tr rd mu dn ip tp ch co cn : Int32} {a1 a2 a3 a4 a5 a6 a7 a8 a9 a10 a11 a12 a13 : Nat → Int32} {pl h : Nat} (hpl : pl < 10) (hh : h ≤ 6)
    (H : ∀ b13 : Nat → Int32, (∀ k, k < h → b13 (pl * 6 + k) = a9 k) → (∀ t, (t < pl * 6 ∨ pl * 6 + 6 ≤ t) → b13 t = a13 t) → post (sz, tr, rd, mu, nI pl, dn, nI h, ip, tp, ch, co, cn, a1, a2, a3, a4, a5, a6, a7, a8, a9, a10, a11, a12, b13)) :
    ∃ n, wX_note_38 post sz tr rd mu (nI pl) dn (nI h) ip tp ch co cn n 0 a1 a2 a3 a4 a5 a6 a7 a8 a9 a10 a11 a12 a13 :=
  pk_loop (fun n i s => wX_note_38 post sz tr rd mu (nI pl) dn (nI h) ip tp ch co cn n (nI i) a1 a2 a3 a4 a5 a6 a7 a8 a9 a10 a11 a12 s) (fun i s => (∀ k, k < i → s (pl * 6 + k) = a9 k) ∧ (∀ t, (t < pl * 6 ∨ pl * 6 + 6 ≤ t) → s t = a13 t)) h 0 a13 (by omega) ⟨fun k hk => absurd hk (by omega), fun _ _ => rfl⟩
    (fun n s hs => pk_le h h (fun _ => H s hs.1 hs.2) (fun z => absurd z (by omega)))
    (fun n i s hi hs hw => pk_le h i (fun z => absurd z (by omega)) (fun _ => ⟨pk_in i 6 (by omega), pk_in (pl * 6 + i) 60 (by omega) (mr_ix pl i), nm_r (by rw [mr_ix, nI_clamp (by omega), nI_clamp (by omega)]) (nm_r (nI_1 i) (hw (upd s (pl * 6 + i) (a9 i)) ⟨by
      intro k hk
      by_cases e : k = i
      · rw [e, pk_us]
      · rw [pk_un (by omega)]
        exact hs.1 k (by omega), by
      intro t ht
      rw [pk_un (by omega)]
      exact hs.2 t ht⟩))⟩))
theorem mr_note {post : St1 → Prop} {sz tr rd mu ip tp ch co cn : Int32} {a1 a2 a3 a4 a5 a6 a7 a8 a9 a10 a11 a12 a13 : Nat → Int32} {pl dn h : Nat} {p : Nat → Int32} {T : mr_T} (hpl : pl < 10) (hdn : dn ≤ 40) (hh : h ≤ 6) (ha : mr_ag h a9 p) (hnt : mr_nt T a10 a11 a12 a13)
    (H : ∀ b10 b11 b12 b13 : Nat → Int32, mr_nt (mr_up T pl dn h p) b10 b11 b12 b13 → post (sz, tr, rd, mu, nI pl, nI dn, nI h, ip, tp, ch, co, cn, a1, a2, a3, a4, a5, a6, a7, a8, a9, b10, b11, b12, b13)) :
    wpX_note post (sz, tr, rd, mu, nI pl, nI dn, nI h, ip, tp, ch, co, cn, a1, a2, a3, a4, a5, a6, a7, a8, a9, a10, a11, a12, a13) :=
  ⟨pk_in pl 10 hpl, nm_r (by rw [nI_clamp (by omega)]) ⟨pk_in pl 10 hpl, nm_r (by rw [nI_clamp (by omega)]) ⟨pk_in pl 10 hpl, nm_r (by rw [nI_clamp (by omega)]) (mr_noteL hpl hh (fun b13 h1 h2 => H _ _ _ b13 (mr_nt_up hnt hdn hh (fun k hk => (h1 k hk).trans (ha k hk)) h2)))⟩⟩⟩
/-- the end of finish: the answer is a function of the picture -/
theorem mr_114 (sz pl h : Nat) (hsz : sz ≤ 10) (hpl : pl ≤ 100) (hh : h ≤ 6) (t : Int32) (p : Nat → Int32) : ∃ R : Int32,
    ∀ {post : Int32 → St1 → Prop} {tr rd mu dn ip ch co cn : Int32} {a1 a2 a3 a4 a5 a6 a7 a8 a9 a10 a11 a12 a13 : Nat → Int32}, mr_ag h a9 p → post R (nI sz, tr, rd, mu, nI pl, dn, nI h, ip, t, ch, co, cn, a1, a2, a3, a4, a5, a6, a7, a8, a9, a10, a11, a12, a13) → wX_finish_114 post (nI sz) tr rd mu (nI pl) dn (nI h) ip t ch co cn a1 a2 a3 a4 a5 a6 a7 a8 a9 a10 a11 a12 a13 := by
  by_cases h0 : t = 0
  · by_cases hs : sz ≤ pl
    · by_cases hz : h = 0
      · refine ⟨10003, ?_⟩
        intro post tr rd mu dn ip ch co cn a1 a2 a3 a4 a5 a6 a7 a8 a9 a10 a11 a12 a13 ha H
        exact br_t h0 (pk_le sz pl (fun _ => pk_eq h 0 (fun _ => H) (fun g => absurd hz g)) (fun g => absurd g (by omega)))
      · refine ⟨p (h - 1), ?_⟩
        intro post tr rd mu dn ip ch co cn a1 a2 a3 a4 a5 a6 a7 a8 a9 a10 a11 a12 a13 ha H
        have e : a9 (nI h - 1).toNatClampNeg = p (h - 1) := mr_top ha (by omega) hh (mr_s1 (by omega))
        exact br_t h0 (pk_le sz pl (fun _ => pk_eq h 0 (fun g => absurd g hz) (fun _ => ⟨pk_in (h - 1) 6 (by omega) (mr_s1 (by omega)), by rw [e]; exact H⟩)) (fun g => absurd g (by omega)))
    · refine ⟨10002, ?_⟩
      intro post tr rd mu dn ip ch co cn a1 a2 a3 a4 a5 a6 a7 a8 a9 a10 a11 a12 a13 ha H
      exact br_t h0 (pk_le sz pl (fun g => absurd g hs) (fun _ => H))
  · refine ⟨10001, ?_⟩
    intro post tr rd mu dn ip ch co cn a1 a2 a3 a4 a5 a6 a7 a8 a9 a10 a11 a12 a13 ha H
    exact br_f h0 H
theorem mr_60 {sz : Nat} (hsz : sz ≤ 10) {a1 a2 : Nat → Int32} (hP : ∀ j, j < sz → mr_ok (a1 j) (a2 j)) {ch cw cv : Int32} (hc : ∀ j, j < sz → nI j = ch → mr_ok cw cv) (pl dn h : Nat) (hpl : pl < sz) (hdn : dn ≤ 40) (hh : h ≤ 6) (ip : Int32) (p : Nat → Int32) :
    ∃ (pl' h' : Nat) (t : Int32) (p' : Nat → Int32), pl' ≤ 100 ∧ h' ≤ 6 ∧ (t = 0 ∨ t = 1) ∧
      ∀ {post : Int32 → St1 → Prop} {J : Int32 → Int32 → Int32 → Int32 → Int32 → Int32 → Int32 → Int32 → Int32 → Int32 → Int32 → Int32 → Int32 → (Nat → Int32) → (Nat → Int32) → (Nat → Int32) → (Nat → Int32) → (Nat → Int32) → (Nat → Int32) → (Nat → Int32) → (Nat → Int32) → (Nat → Int32) → (Nat → Int32) → (Nat → Int32) → (Nat → Int32) → (Nat → Int32) → Prop} {x1 x2 x2' : Int32} {tr rd mu co cn : Int32} {a3 a4 a5 a6 a7 a8 a9 a10 a11 a12 a13 : Nat → Int32}, x2 + 1 = x2' → (∀ j, j < sz → nI j = ch → co = cw ∧ cn = cv) → mr_ag h a9 p →
        (∀ b, mr_ag h' b p' → J x2' (nI sz) tr rd mu (nI pl') (nI (dn + 1)) (nI h') ip t ch co cn a1 a2 a3 a4 a5 a6 a7 a8 b a10 a11 a12 a13) → wX_finish_60 post J x1 x2 (nI sz) tr rd mu (nI pl) (nI dn) (nI h) ip 0 ch co cn a1 a2 a3 a4 a5 a6 a7 a8 a9 a10 a11 a12 a13 := by
  by_cases e : nI pl = ch
  · obtain ⟨pl', h', t, p', q1, q2, q3, Q⟩ := mr_exec (hc pl hpl e) pl dn h (by omega) hdn hh ip p
    refine ⟨pl', h', t, p', q1, q2, q3, ?_⟩
    intro post J x1 x2 x2' tr rd mu co cn a3 a4 a5 a6 a7 a8 a9 a10 a11 a12 a13 hx hcc ha H
    obtain ⟨e1, e2⟩ := hcc pl hpl e
    rw [e1, e2]
    rw [e1, e2] at H
    exact br_t e (Q ha (fun b hb => nm_r hx (H b hb)))
  · obtain ⟨pl', h', t, p', q1, q2, q3, Q⟩ := mr_exec (hP pl hpl) pl dn h (by omega) hdn hh ip p
    refine ⟨pl', h', t, p', q1, q2, q3, ?_⟩
    intro post J x1 x2 x2' tr rd mu co cn a3 a4 a5 a6 a7 a8 a9 a10 a11 a12 a13 hx hcc ha H
    have c : (nI pl).toNatClampNeg = pl := nI_clamp (by omega)
    refine br_f e ⟨pk_in pl 10 (by omega), pk_in pl 10 (by omega), ?_⟩
    rw [c]
    exact Q ha (fun b hb => nm_r hx (H b hb))
theorem mr_fin {sz : Nat} (hsz : sz ≤ 10) {a1 a2 : Nat → Int32} (hP : ∀ j, j < sz → mr_ok (a1 j) (a2 j)) (ip : Int32) {ch cw cv : Int32} (hc : ∀ j, j < sz → nI j = ch → mr_ok cw cv) (x1 : Int32) :
    ∀ (k i : Nat), i + k = 40 → ∀ (pl dn h : Nat) (t : Int32) (p : Nat → Int32) (T : mr_T), pl ≤ 100 → dn ≤ 40 → h ≤ 6 → (t = 0 ∨ t = 1) → ∃ (R : Int32) (T' : mr_T), (x1 = 0 → T' = T) ∧
      ∀ {post : Int32 → St1 → Prop} {tr rd mu co cn : Int32} {a3 a4 a5 a6 a7 a8 a9 a10 a11 a12 a13 : Nat → Int32}, (∀ j, j < sz → nI j = ch → co = cw ∧ cn = cv) → mr_ag h a9 p → mr_nt T a10 a11 a12 a13 →
        (∀ (pl dn ht tp : Int32) (b9 b10 b11 b12 b13 : Nat → Int32), mr_nt T' b10 b11 b12 b13 → post R (nI sz, tr, rd, mu, pl, dn, ht, ip, tp, ch, co, cn, a1, a2, a3, a4, a5, a6, a7, a8, b9, b10, b11, b12, b13)) → wX_finish_7 post x1 (k + 1) (nI i) (nI sz) tr rd mu (nI pl) (nI dn) (nI h) ip t ch co cn a1 a2 a3 a4 a5 a6 a7 a8 a9 a10 a11 a12 a13 := by
  intro k
  induction k with
  | zero =>
    intro i hi pl dn h t p T hpl hdn hh ht
    obtain ⟨R, hR⟩ := mr_114 sz pl h hsz hpl hh t p
    refine ⟨R, T, fun _ => rfl, ?_⟩
    intro post tr rd mu co cn a3 a4 a5 a6 a7 a8 a9 a10 a11 a12 a13 hcc ha hnt H
    exact pk_le 40 i (fun _ => hR ha (H _ _ _ _ _ _ _ _ _ hnt)) (fun z => absurd z (by omega))
  | succ k ih =>
    intro i hi pl dn h t p T hpl hdn hh ht
    by_cases hx : 40 ≤ dn ∨ sz ≤ pl ∨ ¬ t = 0
    · obtain ⟨R, hR⟩ := mr_114 sz pl h hsz hpl hh t p
      refine ⟨R, T, fun _ => rfl, ?_⟩
      intro post tr rd mu co cn a3 a4 a5 a6 a7 a8 a9 a10 a11 a12 a13 hcc ha hnt H
      have X : wX_finish_114 post (nI sz) tr rd mu (nI pl) (nI dn) (nI h) ip t ch co cn a1 a2 a3 a4 a5 a6 a7 a8 a9 a10 a11 a12 a13 := hR ha (H _ _ _ _ _ _ _ _ _ hnt)
      exact pk_le 40 i (fun _ => X) (fun _ => pk_le 40 dn (fun _ => X) (fun z1 => pk_le sz pl (fun _ => X) (fun z2 => br_f (by
        rcases hx with g | g | g
        · omega
        · omega
        · exact g) X)))
    · have hd : dn < 40 := Nat.lt_of_not_le (fun g => hx (Or.inl g))
      have hp : pl < sz := Nat.lt_of_not_le (fun g => hx (Or.inr (Or.inl g)))
      have h0 : t = 0 := by
        by_cases g : t = 0
        · exact g
        · exact absurd (Or.inr (Or.inr g)) hx
      subst h0
      obtain ⟨pl', h', t', p', q1, q2, q3, Q⟩ := mr_60 hsz hP hc pl dn h hp hdn hh ip p
      by_cases hx1 : x1 = 0
      · obtain ⟨R, T', hT, hR⟩ := ih (i + 1) (by omega) pl' (dn + 1) h' t' p' T q1 (by omega) q2 q3
        refine ⟨R, T', hT, ?_⟩
        intro post tr rd mu co cn a3 a4 a5 a6 a7 a8 a9 a10 a11 a12 a13 hcc ha hnt H
        exact pk_le 40 i (fun z => absurd z (by omega)) (fun _ => pk_le 40 dn (fun z => absurd z (by omega)) (fun _ => pk_le sz pl (fun z => absurd z (by omega)) (fun _ => br_t rfl (br_t hx1 (Q (nI_1 i) hcc ha (fun b hb => hR hcc hb hnt H))))))
      · by_cases hs : T.1 pl = 0
        · obtain ⟨R, T', hT, hR⟩ := ih (i + 1) (by omega) pl' (dn + 1) h' t' p' (mr_up T pl dn h p) q1 (by omega) q2 q3
          refine ⟨R, T', fun z => absurd z hx1, ?_⟩
          intro post tr rd mu co cn a3 a4 a5 a6 a7 a8 a9 a10 a11 a12 a13 hcc ha hnt H
          have c : a10 (nI pl).toNatClampNeg = 0 := by
            rw [nI_clamp (by omega), (hnt pl (by omega)).1]
            exact hs
          exact pk_le 40 i (fun z => absurd z (by omega)) (fun _ => pk_le 40 dn (fun z => absurd z (by omega)) (fun _ => pk_le sz pl (fun z => absurd z (by omega)) (fun _ => br_t rfl (br_f hx1 ⟨pk_in pl 10 (by omega), br_t c (mr_note (by omega) hdn hh ha hnt (fun b10 b11 b12 b13 hb => Q (nI_1 i) hcc ha (fun b hb' => hR hcc hb' hb H)))⟩))))
        · obtain ⟨R, T', hT, hR⟩ := ih (i + 1) (by omega) pl' (dn + 1) h' t' p' T q1 (by omega) q2 q3
          refine ⟨R, T', hT, ?_⟩
          intro post tr rd mu co cn a3 a4 a5 a6 a7 a8 a9 a10 a11 a12 a13 hcc ha hnt H
          have c : ¬ a10 (nI pl).toNatClampNeg = 0 := by
            rw [nI_clamp (by omega), (hnt pl (by omega)).1]
            exact hs
          exact pk_le 40 i (fun z => absurd z (by omega)) (fun _ => pk_le 40 dn (fun z => absurd z (by omega)) (fun _ => pk_le sz pl (fun z => absurd z (by omega)) (fun _ => br_t rfl (br_f hx1 ⟨pk_in pl 10 (by omega), br_f c (Q (nI_1 i) hcc ha (fun b hb => hR hcc hb hnt H))⟩))))
theorem mr_finish {sz : Nat} (hsz : sz ≤ 10) {a1 a2 : Nat → Int32} (hP : ∀ j, j < sz → mr_ok (a1 j) (a2 j)) (ip : Int32) {ch cw cv : Int32} (hc : ∀ j, j < sz → nI j = ch → mr_ok cw cv) (x1 : Int32) (pl dn h : Nat) (p : Nat → Int32) (T : mr_T) (hpl : pl ≤ 100) (hdn : dn ≤ 40) (hh : h ≤ 6) :
    ∃ (R : Int32) (T' : mr_T), (x1 = 0 → T' = T) ∧
      ∀ {post : Int32 → St1 → Prop} {tr rd mu tp co cn : Int32} {a3 a4 a5 a6 a7 a8 a9 a10 a11 a12 a13 : Nat → Int32}, (∀ j, j < sz → nI j = ch → co = cw ∧ cn = cv) → mr_ag h a9 p → mr_nt T a10 a11 a12 a13 →
        (∀ (pl dn ht tp : Int32) (b9 b10 b11 b12 b13 : Nat → Int32), mr_nt T' b10 b11 b12 b13 → post R (nI sz, tr, rd, mu, pl, dn, ht, ip, tp, ch, co, cn, a1, a2, a3, a4, a5, a6, a7, a8, b9, b10, b11, b12, b13)) → wpX_finish post (nI sz, tr, rd, mu, nI pl, nI dn, nI h, ip, tp, ch, co, cn, a1, a2, a3, a4, a5, a6, a7, a8, a9, a10, a11, a12, a13) x1 := by
  obtain ⟨R, T', hT, hR⟩ := mr_fin hsz hP ip hc x1 40 0 rfl pl dn h 0 p T hpl hdn hh (Or.inl rfl)
  refine ⟨R, T', hT, ?_⟩
  intro post tr rd mu tp co cn a3 a4 a5 a6 a7 a8 a9 a10 a11 a12 a13 hcc ha hnt H
  exact ⟨41, hR hcc ha hnt H⟩
end
section
theorem mr_e_put : wpX_put_2 = wpX_put := rfl
theorem mr_e_exec : wpX_execute_2 = wpX_execute := rfl
theorem mr_e_note38 {post : St1 → Prop} {sz tr rd mu pl dn ht ip tp ch co cn : Int32} : ∀ n, wX_note_2_38 post sz tr rd mu pl dn ht ip tp ch co cn n = wX_note_38 post sz tr rd mu pl dn ht ip tp ch co cn n := by
  intro n
  induction n with
  | zero => rfl
  | succ n ih =>
    unfold wX_note_2_38 wX_note_38
    rw [ih]
theorem mr_e_note : wpX_note_2 = wpX_note := by
  funext post u
  obtain ⟨sz, tr, rd, mu, pl, dn, ht, ip, tp, ch, co, cn, a1, a2, a3, a4, a5, a6, a7, a8, a9, a10, a11, a12, a13⟩ := u
  unfold wpX_note_2 wpX_note
  simp only [mr_e_note38]
theorem mr_e_60 : wX_finish_2_60 = wX_finish_60 := rfl
theorem mr_e_114 : wX_finish_2_114 = wX_finish_114 := rfl
theorem mr_e_7 {post : Int32 → St1 → Prop} {x1 : Int32} : ∀ n, wX_finish_2_7 post x1 n = wX_finish_7 post x1 n := by
  intro n
  induction n with
  | zero => rfl
  | succ n ih =>
    unfold wX_finish_2_7 wX_finish_7
    rw [ih, mr_e_60, mr_e_114, mr_e_note]
theorem mr_e_fin : wpX_finish_2 = wpX_finish := by
  funext post u x
  obtain ⟨sz, tr, rd, mu, pl, dn, ht, ip, tp, ch, co, cn, a1, a2, a3, a4, a5, a6, a7, a8, a9, a10, a11, a12, a13⟩ := u
  unfold wpX_finish_2 wpX_finish
  simp only [mr_e_7]
theorem mr_e_rw2 {post : Int32 → St1 → Prop} {x1 : Int32} {sz tr rd mu pl dn ht ip tp ch co cn : Int32} : ∀ n, wX_runWhole_2_2 post x1 sz tr rd mu pl dn ht ip tp ch co cn n = wX_runWhole_2 post x1 sz tr rd mu pl dn ht ip tp ch co cn n := by
  intro n
  induction n with
  | zero => rfl
  | succ n ih =>
    unfold wX_runWhole_2_2 wX_runWhole_2
    rw [ih, mr_e_fin]
theorem mr_e_rw : wpX_runWhole_2 = wpX_runWhole := by
  funext post u x
  obtain ⟨sz, tr, rd, mu, pl, dn, ht, ip, tp, ch, co, cn, a1, a2, a3, a4, a5, a6, a7, a8, a9, a10, a11, a12, a13⟩ := u
  unfold wpX_runWhole_2 wpX_runWhole
  simp only [mr_e_rw2]
end
section
theorem mr_m1 : ∀ j, j < 10 → ¬ nI j = -1 := by decide
/-- runWhole(x): from any state that holds this program, the answer R and the notes T -/
def mr_RW (sz : Nat) (a1 a2 : Nat → Int32) (x R : Int32) (T : mr_T) : Prop :=
  ∀ {post : Int32 → St1 → Prop} {tr rd mu pl dn ht ip tp ch co cn : Int32} {a3 a4 a5 a6 a7 a8 a9 a10 a11 a12 a13 : Nat → Int32},
    (∀ (pl dn ht tp ch co cn : Int32) (b9 b10 b11 b12 b13 : Nat → Int32), mr_nt T b10 b11 b12 b13 → post R (nI sz, tr, rd, mu, pl, dn, ht, x, tp, ch, co, cn, a1, a2, a3, a4, a5, a6, a7, a8, b9, b10, b11, b12, b13)) → wpX_runWhole post (nI sz, tr, rd, mu, pl, dn, ht, ip, tp, ch, co, cn, a1, a2, a3, a4, a5, a6, a7, a8, a9, a10, a11, a12, a13) x
theorem mr_whole {sz : Nat} (hsz : sz ≤ 10) {a1 a2 : Nat → Int32} (hP : ∀ j, j < sz → mr_ok (a1 j) (a2 j)) (x : Int32) : ∃ (R : Int32) (T : mr_T), mr_RW sz a1 a2 x R T := by
  obtain ⟨R, T, _, hR⟩ := mr_finish hsz hP x (ch := -1) (cw := 0) (cv := 0) (fun j hj e => absurd e (mr_m1 j (by omega))) 1 0 0 0 (fun _ => 0) ((fun _ => 0), (fun _ => 0), (fun _ => 0), (fun _ _ => 0)) (by omega) (by omega) (by omega)
  refine ⟨R, T, ?_⟩
  intro post tr rd mu pl dn ht ip tp ch co cn a3 a4 a5 a6 a7 a8 a9 a10 a11 a12 a13 H
  exact pk_loop (fun n i s => wX_runWhole_2 post x (nI sz) tr rd mu pl dn ht ip tp ch co cn n (nI i) a1 a2 a3 a4 a5 a6 a7 a8 a9 s a11 a12 a13) (fun i s => ∀ j, j < i → s j = 0) 10 0 a10 (by omega) (fun j hj => absurd hj (by omega))
    (fun n s hs => pk_le 10 10 (fun _ => hR (fun j hj e => absurd e (mr_m1 j (by omega))) (fun k hk => absurd hk (by omega)) (fun j hj => ⟨hs j hj, fun z => absurd rfl z⟩) (fun pl dn ht tp b9 b10 b11 b12 b13 hb => H _ _ _ _ _ _ _ _ _ _ _ _ hb)) (fun z => absurd z (by omega)))
    (fun n i s hi hs hw => pk_le 10 i (fun z => absurd z (by omega)) (fun _ => ⟨pk_in i 10 hi, nm_r (by rw [nI_clamp (by omega)]) (nm_r (nI_1 i) (hw (upd s i 0) (by
      intro j hj
      by_cases e : j = i
      · rw [e, pk_us]
      · rw [pk_un e]
        exact hs j (by omega))))⟩))
/-- runFrom(m, R) behind runWhole's notes T: the answer O -/
def mr_RF (sz : Nat) (a1 a2 a4 a5 a6 : Nat → Int32) (ip : Int32) (T : mr_T) (m : Nat) (R O : Int32) : Prop :=
  ∀ {post : Int32 → St1 → Prop} {tr rd mu pl dn ht tp ch co cn : Int32} {a3 a7 a8 a9 a10 a11 a12 a13 : Nat → Int32}, mr_nt T a10 a11 a12 a13 →
    (∀ (pl dn ht tp ch co cn : Int32) (b9 b10 b11 b12 b13 : Nat → Int32), mr_nt T b10 b11 b12 b13 → post O (nI sz, tr, rd, mu, pl, dn, ht, ip, tp, ch, co, cn, a1, a2, a3, a4, a5, a6, a7, a8, b9, b10, b11, b12, b13)) → wpX_runFrom post (nI sz, tr, rd, mu, pl, dn, ht, ip, tp, ch, co, cn, a1, a2, a3, a4, a5, a6, a7, a8, a9, a10, a11, a12, a13) (nI m) R
theorem mr_from {sz : Nat} (hsz : sz ≤ 10) {a1 a2 a4 a5 a6 : Nat → Int32} (hP : ∀ j, j < sz → mr_ok (a1 j) (a2 j)) (ip : Int32) (T : mr_T) {m : Nat} (hm : m < 30) {i : Nat} (hi : i < sz) (h4 : a4 m = nI i) (h56 : mr_ok (a5 m) (a6 m)) (R : Int32) :
    ∃ O : Int32, mr_RF sz a1 a2 a4 a5 a6 ip T m R O := by
  have cm : (nI m).toNatClampNeg = m := nI_clamp (by omega)
  have ci : (nI i).toNatClampNeg = i := nI_clamp (by omega)
  by_cases hs : T.1 i = 0
  · refine ⟨R, ?_⟩
    intro post tr rd mu pl dn ht tp ch co cn a3 a7 a8 a9 a10 a11 a12 a13 hnt H
    exact ⟨pk_in m 30 hm, nm_r (by rw [cm, h4]) ⟨pk_in i 10 (by omega), br_t (by rw [ci, (hnt i (by omega)).1]; exact hs) (H _ _ _ _ _ _ _ _ _ _ _ _ hnt)⟩⟩
  · by_cases hr : T.2.1 i ≤ 40 ∧ T.2.2.1 i ≤ 6
    · obtain ⟨O, T', hT, hR⟩ := mr_finish hsz hP ip (ch := nI i) (cw := a5 m) (cv := a6 m) (fun _ _ _ => h56) 0 i (T.2.1 i) (T.2.2.1 i) (T.2.2.2 i) T (by omega) hr.1 hr.2
      have eT := hT rfl
      subst eT
      refine ⟨O, ?_⟩
      intro post tr rd mu pl dn ht tp ch co cn a3 a7 a8 a9 a10 a11 a12 a13 hnt H
      obtain ⟨n0, n1⟩ := hnt i (by omega)
      obtain ⟨_, _, n2, n3, n4⟩ := n1 hs
      refine ⟨pk_in m 30 hm, nm_r (by rw [cm, h4]) ⟨pk_in i 10 (by omega), br_f (by rw [ci, n0]; exact hs) ⟨pk_in i 10 (by omega), nm_r (by rw [ci, n2]) ⟨pk_in i 10 (by omega), nm_r (by rw [ci, n3]) ?_⟩⟩⟩⟩
      have hg := hr.2
      exact pk_loop (fun n k s => wX_runFrom_46 post (nI m) (nI i) (nI sz) tr rd mu (nI i) (nI (T'.2.1 i)) (nI (T'.2.2.1 i)) ip tp ch co cn n (nI k) a1 a2 a3 a4 a5 a6 a7 a8 s a10 a11 a12 a13) (fun k s => mr_ag k s (T'.2.2.2 i)) (T'.2.2.1 i) 0 a9 (by omega) (fun j hj => absurd hj (by omega))
        (fun n s hs => pk_le (T'.2.2.1 i) (T'.2.2.1 i) (fun _ => ⟨pk_in m 30 hm, nm_r (by rw [cm]) ⟨pk_in m 30 hm, nm_r (by rw [cm]) (by
          rw [mr_e_fin]
          exact hR (fun _ _ _ => ⟨rfl, rfl⟩) hs hnt (fun pl dn ht tp b9 b10 b11 b12 b13 hb => H _ _ _ _ _ _ _ _ _ _ _ _ hb))⟩⟩) (fun z => absurd z (by omega)))
        (fun n k s hk hs hw => pk_le (T'.2.2.1 i) k (fun z => absurd z (by omega)) (fun _ => ⟨pk_in (i * 6 + k) 60 (by omega) (mr_ix i k), pk_in k 6 (by omega), nm_r (by rw [mr_ix, nI_clamp (by omega), nI_clamp (by omega)]) (nm_r (nI_1 k) (hw (upd s k (a13 (i * 6 + k))) (by
          intro j hj
          by_cases e : j = k
          · rw [e, pk_us]
            exact n4 k hk
          · rw [pk_un e]
            exact hs j (by omega))))⟩))
    · refine ⟨0, ?_⟩
      intro post tr rd mu pl dn ht tp ch co cn a3 a7 a8 a9 a10 a11 a12 a13 hnt H
      obtain ⟨n0, n1⟩ := hnt i (by omega)
      obtain ⟨r1, r2, _⟩ := n1 hs
      exact absurd ⟨r1, r2⟩ hr
end
section
theorem mr_ok_lt {k : Nat} (h : k < 8) (n : Int32) : mr_ok (nI k) n := ⟨k, by omega, rfl, fun e => absurd e (by omega), fun e => absurd e (by omega)⟩
theorem mr_ok8 {y : Nat} (h : y ≤ 3) {n : Int32} (e : n = nI y) : mr_ok 8 n := ⟨8, by omega, rfl, fun _ => ⟨y, h, e⟩, fun e => absurd e (by omega)⟩
theorem mr_ok9 {y : Nat} (h : y ≤ 9) {n : Int32} (e : n = nI y) : mr_ok 9 n := ⟨9, by omega, rfl, fun e => absurd e (by omega), fun _ => ⟨y, h, e⟩⟩
/-- the list of mutants is sound -/
def mr_AM (s M : Nat) (a4 a5 a6 : Nat → Int32) : Prop := ∀ m, m < M → (∃ i, i < s ∧ a4 m = nI i) ∧ mr_ok (a5 m) (a6 m)
theorem mr_add {post : St1 → Prop} {sz tr rd pl dn ht ip tp ch co cn : Int32} {a1 a2 a3 a4 a5 a6 a7 a8 a9 a10 a11 a12 a13 : Nat → Int32} {s M i : Nat} {w n : Int32} (hM : M < 30) (hA : mr_AM s M a4 a5 a6) (hi : i < s) (ho : mr_ok w n)
    (H : ∀ b4 b5 b6 : Nat → Int32, mr_AM s (M + 1) b4 b5 b6 → post (sz, tr, rd, nI (M + 1), pl, dn, ht, ip, tp, ch, co, cn, a1, a2, a3, b4, b5, b6, a7, a8, a9, a10, a11, a12, a13)) : wpX_add post (sz, tr, rd, nI M, pl, dn, ht, ip, tp, ch, co, cn, a1, a2, a3, a4, a5, a6, a7, a8, a9, a10, a11, a12, a13) (nI i) w n := by
  have c : (nI M).toNatClampNeg = M := nI_clamp (by omega)
  refine ⟨pk_in M 30 hM, nm_r (by rw [c]) ⟨pk_in M 30 hM, nm_r (by rw [c]) ⟨pk_in M 30 hM, nm_r (by rw [c]) (nm_r (nI_1 M) (H (upd a4 M (nI i)) (upd a5 M w) (upd a6 M n) ?_))⟩⟩⟩
  intro m hm
  by_cases e : m = M
  · subst e
    rw [pk_us, pk_us, pk_us]
    exact ⟨⟨i, hi, rfl⟩, ho⟩
  · rw [pk_un e, pk_un e, pk_un e]
    exact hA m (by omega)
theorem mr_33 {post : St1 → Prop} {sz tr rd pl dn ht ip tp ch co cn : Int32} {a1 a2 a3 a4 a5 a6 a7 a8 a9 a10 a11 a12 a13 : Nat → Int32} {s M i : Nat} {n : Int32} (hM : M < 30) (hA : mr_AM s M a4 a5 a6) (hi : i < s)
    (H : ∀ (M' : Nat) (b4 b5 b6 : Nat → Int32), M' ≤ M + 1 → mr_AM s M' b4 b5 b6 → post (sz, tr, rd, nI M', pl, dn, ht, ip, tp, ch, co, cn, a1, a2, a3, b4, b5, b6, a7, a8, a9, a10, a11, a12, a13)) : wX_addAt_33 post (nI i) n sz tr rd (nI M) pl dn ht ip tp ch co cn a1 a2 a3 a4 a5 a6 a7 a8 a9 a10 a11 a12 a13 :=
  br_c (fun _ => H M a4 a5 a6 (by omega) hA) (fun _ => mr_add hM hA hi (mr_ok_lt (k := 0) (by omega) _) (fun b4 b5 b6 hb => H (M + 1) b4 b5 b6 (by omega) hb))
theorem mr_157 {post : St1 → Prop} {sz tr rd pl dn ht ip tp ch co cn : Int32} {a1 a2 a3 a4 a5 a6 a7 a8 a9 a10 a11 a12 a13 : Nat → Int32} {s M i y : Nat} (hM : M < 30) (hy : y ≤ 3) (hA : mr_AM s M a4 a5 a6) (hi : i < s)
    (H : ∀ (M' : Nat) (b4 b5 b6 : Nat → Int32), M' ≤ M + 1 → mr_AM s M' b4 b5 b6 → post (sz, tr, rd, nI M', pl, dn, ht, ip, tp, ch, co, cn, a1, a2, a3, b4, b5, b6, a7, a8, a9, a10, a11, a12, a13)) : wX_addAt_157 post (nI i) (nI y) sz tr rd (nI M) pl dn ht ip tp ch co cn a1 a2 a3 a4 a5 a6 a7 a8 a9 a10 a11 a12 a13 :=
  pk_le y 0 (fun _ => H M a4 a5 a6 (by omega) hA) (fun z => mr_add hM hA hi (mr_ok8 (y := y - 1) (by omega) (mr_s1 (by omega))) (fun b4 b5 b6 hb => H (M + 1) b4 b5 b6 (by omega) hb))
theorem mr_74 {post : St1 → Prop} {sz tr rd pl dn ht ip tp ch co cn : Int32} {a1 a2 a3 a4 a5 a6 a7 a8 a9 a10 a11 a12 a13 : Nat → Int32} {s M i k : Nat} (hM : M ≤ 27) (hk : 2 ≤ k ∧ k ≤ 5) (hA : mr_AM s M a4 a5 a6) (hi : i < s)
    (H : ∀ (M' : Nat) (b4 b5 b6 : Nat → Int32), M' ≤ M + 3 → mr_AM s M' b4 b5 b6 → post (sz, tr, rd, nI M', pl, dn, ht, ip, tp, ch, co, cn, a1, a2, a3, b4, b5, b6, a7, a8, a9, a10, a11, a12, a13)) : ∃ n, wX_addAt_74 post (nI i) (nI k) n 2 sz tr rd (nI M) pl dn ht ip tp ch co cn a1 a2 a3 a4 a5 a6 a7 a8 a9 a10 a11 a12 a13 :=
  pk_loop (σ := Nat × (Nat → Int32) × (Nat → Int32) × (Nat → Int32)) (fun n x u => wX_addAt_74 post (nI i) (nI k) n (nI x) sz tr rd (nI u.1) pl dn ht ip tp ch co cn a1 a2 a3 u.2.1 u.2.2.1 u.2.2.2 a7 a8 a9 a10 a11 a12 a13) (fun x u => 2 ≤ x ∧ u.1 + 2 ≤ M + x ∧ (k < x → u.1 + 3 ≤ M + x) ∧ mr_AM s u.1 u.2.1 u.2.2.1 u.2.2.2) 6 2 (M, a4, a5, a6) (by omega) ⟨Nat.le_refl _, Nat.le_refl _, fun z => absurd z (by omega), hA⟩
    (fun n u hu => br_t (by decide) (H u.1 _ _ _ (by have := hu.2.2.1 (by omega); omega) hu.2.2.2))
    (fun n x u hx hu hw => by
      obtain ⟨u1, u2, u3, u4⟩ := hu
      refine pk_lt 5 x (fun z => absurd z (by omega)) (fun _ => pk_eq x k (fun e => nm_r (nI_1 x) (hw u ⟨by omega, by omega, fun _ => by omega, u4⟩)) (fun e => ?_))
      refine mr_add (by omega) u4 hi (mr_ok_lt (by omega) _) (fun b4 b5 b6 hb => nm_r (nI_1 x) (hw (u.1 + 1, b4, b5, b6) ⟨by omega, ?_, fun z => ?_, hb⟩))
      · show u.1 + 1 + 2 ≤ _
        omega
      · show u.1 + 1 + 3 ≤ _
        omega)
theorem mr_addAt {post : St1 → Prop} {sz tr rd pl dn ht ip tp ch co cn : Int32} {a1 a2 a3 a4 a5 a6 a7 a8 a9 a10 a11 a12 a13 : Nat → Int32} {s M i : Nat} (hs : s ≤ 10) (hM : M ≤ 27) (hA : mr_AM s M a4 a5 a6) (hi : i < s) (ho : mr_ok (a1 i) (a2 i))
    (H : ∀ (M' : Nat) (b4 b5 b6 : Nat → Int32), M' ≤ M + 3 → mr_AM s M' b4 b5 b6 → post (sz, tr, rd, nI M', pl, dn, ht, ip, tp, ch, co, cn, a1, a2, a3, b4, b5, b6, a7, a8, a9, a10, a11, a12, a13)) : wpX_addAt post (sz, tr, rd, nI M, pl, dn, ht, ip, tp, ch, co, cn, a1, a2, a3, a4, a5, a6, a7, a8, a9, a10, a11, a12, a13) (nI i) := by
  have c : (nI i).toNatClampNeg = i := nI_clamp (by omega)
  obtain ⟨k, k9, ek, h8, h9⟩ := ho
  refine ⟨pk_in i 10 (by omega), nm_r (by rw [c, ek]) ⟨pk_in i 10 (by omega), nm_r (by rw [c]) ?_⟩⟩
  refine pk_eq k 0 (fun e => ?_) (fun e0 => pk_eq k 1 (fun e => ?_) (fun e1 => pk_lt 5 k (fun z5 => pk_eq k 6 (fun e => ?_) (fun e6 => pk_eq k 7 (fun e => ?_) (fun e7 => pk_eq k 8 (fun e => ?_) (fun e8 => ?_)))) (fun z5 => ?_)))
  · exact br_c (fun _ => mr_33 (by omega) hA hi (fun M' b4 b5 b6 q hb => H M' b4 b5 b6 (by omega) hb)) (fun _ => mr_add (by omega) hA hi (mr_ok_lt (k := 0) (by omega) _) (fun b4 b5 b6 hb => mr_33 (by omega) hb hi (fun M' b4 b5 b6 q hb => H M' b4 b5 b6 (by omega) hb)))
  · exact mr_add (by omega) hA hi (mr_ok_lt (k := 0) (by omega) _) (fun b4 b5 b6 hb => H _ b4 b5 b6 (by omega) hb)
  · exact mr_add (by omega) hA hi (mr_ok_lt (k := 1) (by omega) _) (fun b4 b5 b6 hb => H _ b4 b5 b6 (by omega) hb)
  · exact mr_add (by omega) hA hi (mr_ok_lt (k := 6) (by omega) _) (fun b4 b5 b6 hb => H _ b4 b5 b6 (by omega) hb)
  · obtain ⟨y, hy, en⟩ := h8 e
    rw [en]
    exact pk_le 3 y (fun _ => mr_157 (by omega) hy hA hi (fun M' b4 b5 b6 q hb => H M' b4 b5 b6 (by omega) hb)) (fun z => mr_add (by omega) hA hi (mr_ok8 (y := y + 1) (by omega) (nI_1 y)) (fun b4 b5 b6 hb => mr_157 (by omega) hy hb hi (fun M' b4 b5 b6 q hb => H M' b4 b5 b6 (by omega) hb)))
  · obtain ⟨y, hy, en⟩ := h9 (by omega)
    rw [en]
    exact pk_le y 0 (fun _ => H M a4 a5 a6 (by omega) hA) (fun z => mr_add (by omega) hA hi (mr_ok9 (y := y - 1) (by omega) (mr_s1 (by omega))) (fun b4 b5 b6 hb => H (M + 1) b4 b5 b6 (by omega) hb))
  · exact mr_74 hM (by omega) hA hi H
end
section
/-- v has exactly the bits of D below x -/
def mr_tb (D : Nat → Bool) (x : Nat) (v : Int32) : Prop := ∃ t : Nat, t < 2 ^ x ∧ v = nI t ∧ ∀ y, y < x → t.testBit y = D y
theorem mr_or (a b : Nat) : nI a ||| nI b = nI (a ||| b) := by
  apply Int32.toBitVec_inj.mp
  rw [Int32.toBitVec_or]
  show BitVec.ofNat 32 a ||| BitVec.ofNat 32 b = BitVec.ofNat 32 (a ||| b)
  apply BitVec.eq_of_toNat_eq
  rw [BitVec.toNat_or, BitVec.toNat_ofNat, BitVec.toNat_ofNat, BitVec.toNat_ofNat, Nat.or_mod_two_pow]
theorem mr_sh1 : ∀ x, x < 16 → (1 : Int32) <<< (nI x &&& 31) = nI (2 ^ x) := by decide
theorem mr_sl : ∀ n, n < 32 → ((nI n &&& 31).toBitVec.smod 32).toNat = n := by decide
theorem mr_tb_0 (D : Nat → Bool) : mr_tb D 0 0 := ⟨0, by decide, rfl, fun y hy => absurd hy (by omega)⟩
theorem mr_tb_s1 {D : Nat → Bool} {x : Nat} {v : Int32} (hx : x < 16) (h : mr_tb D x v) (hD : D x = true) : mr_tb D (x + 1) (v ||| ((1 : Int32) <<< (nI x &&& 31))) := by
  obtain ⟨t, ht, ev, hb⟩ := h
  have p : 2 ^ x < 2 ^ (x + 1) := Nat.pow_lt_pow_right (by omega) (by omega)
  refine ⟨t ||| 2 ^ x, Nat.or_lt_two_pow (by omega) p, by rw [ev, mr_sh1 x hx, mr_or], fun y hy => ?_⟩
  rw [Nat.testBit_or, Nat.testBit_two_pow]
  by_cases e : y = x
  · subst e
    rw [hD]
    simp
  · rw [hb y (by omega), decide_eq_false (fun g => e g.symm), Bool.or_false]
theorem mr_tb_s0 {D : Nat → Bool} {x : Nat} {v : Int32} (h : mr_tb D x v) (hD : D x = false) : mr_tb D (x + 1) v := by
  obtain ⟨t, ht, ev, hb⟩ := h
  have p : 2 ^ x < 2 ^ (x + 1) := Nat.pow_lt_pow_right (by omega) (by omega)
  refine ⟨t, by omega, ev, fun y hy => ?_⟩
  by_cases e : y = x
  · subst e
    rw [hD]
    exact Nat.testBit_lt_two_pow ht
  · exact hb y (by omega)
theorem mr_rd {t x : Nat} (ht : t < 2 ^ 31) (hx : x < 32) : ((nI t >>> (nI x &&& 31)) &&& 1) = nI ((t.testBit x).toNat) := by
  have p : t / 2 ^ x ≤ t := Nat.div_le_self _ _
  rw [pk_shrN ht _ x (mr_sl x hx), pk_andN (by omega) 1 (by decide), Nat.testBit_eq_decide_div_mod_eq]
  congr 1
  have q : t / 2 ^ x % 2 ^ 1 < 2 := Nat.mod_lt _ (by decide)
  rw [show 2 ^ 1 = 2 from rfl] at *
  by_cases g : t / 2 ^ x % 2 = 1
  · rw [g]
    rfl
  · rw [decide_eq_false g]
    show _ = 0
    omega
theorem mr_rd1 {t x : Nat} (ht : t < 2 ^ 31) (hx : x < 32) : ((nI t >>> (nI x &&& 31)) &&& 1) = 1 ↔ t.testBit x = true := by
  rw [mr_rd ht hx]
  cases t.testBit x
  · decide
  · decide
theorem mr_tb_rd {D : Nat → Bool} {v : Int32} {y : Nat} (h : mr_tb D 16 v) (hy : y < 16) : ((v >>> (nI y &&& 31)) &&& 1) = 1 ↔ D y = true := by
  obtain ⟨t, ht, ev, hb⟩ := h
  rw [ev, mr_rd1 (by omega) (by omega), hb y hy]
theorem mr_tb_z {D : Nat → Bool} {v : Int32} (h : mr_tb D 16 v) : v = 0 ↔ ∀ y, y < 16 → D y = false := by
  obtain ⟨t, ht, ev, hb⟩ := h
  have e0 : v = 0 ↔ t = 0 := by
    rw [ev]
    exact nI_eq (b := 0) (by omega) (by omega)
  rw [e0]
  constructor
  · intro e y hy
    rw [← hb y hy, e, Nat.zero_testBit]
  · intro g
    apply Nat.eq_of_testBit_eq
    intro i
    rw [Nat.zero_testBit]
    by_cases hi : i < 16
    · rw [hb i hi, g i hi]
    · exact Nat.testBit_lt_two_pow (Nat.lt_of_lt_of_le ht (Nat.pow_le_pow_right (by omega) (by omega)))
end
section
/-- mutant m is told apart by input x -/
def mr_D (R : Nat → Int32) (O : Nat → Nat → Int32) (m x : Nat) : Bool := decide (¬ O m x = R x)
def mr_runs (s M : Nat) (a1 a2 a4 a5 a6 : Nat → Int32) (R : Nat → Int32) (T : Nat → mr_T) (O : Nat → Nat → Int32) : Prop :=
  (∀ x : Nat, mr_RW s a1 a2 (nI x - 8) (R x) (T x)) ∧ (∀ m x : Nat, m < M → mr_RF s a1 a2 a4 a5 a6 (nI x - 8) (T x) m (R x) (O m x))
theorem mr_runs_ex {s M : Nat} {a1 a2 a4 a5 a6 : Nat → Int32} (hs : s ≤ 10) (hM : M ≤ 30) (hP : ∀ j, j < s → mr_ok (a1 j) (a2 j)) (hA : mr_AM s M a4 a5 a6) :
    ∃ (R : Nat → Int32) (T : Nat → mr_T) (O : Nat → Nat → Int32), mr_runs s M a1 a2 a4 a5 a6 R T O := by
  have h1 : ∀ x : Nat, ∃ P : Int32 × mr_T, mr_RW s a1 a2 (nI x - 8) P.1 P.2 := fun x => by
    obtain ⟨R, T, h⟩ := mr_whole hs hP (nI x - 8)
    exact ⟨(R, T), h⟩
  obtain ⟨F, hF⟩ := Classical.skolem.mp h1
  have h2 : ∀ m : Nat, ∃ o : Nat → Int32, ∀ x : Nat, m < M → mr_RF s a1 a2 a4 a5 a6 (nI x - 8) (F x).2 m (F x).1 (o x) := by
    intro m
    by_cases hm : m < M
    · obtain ⟨⟨i, hi, e4⟩, h56⟩ := hA m hm
      have h3 : ∀ x : Nat, ∃ o : Int32, mr_RF s a1 a2 a4 a5 a6 (nI x - 8) (F x).2 m (F x).1 o := fun x => mr_from hs hP (nI x - 8) (F x).2 (by omega) hi e4 h56 (F x).1
      obtain ⟨o, ho⟩ := Classical.skolem.mp h3
      exact ⟨o, fun x _ => ho x⟩
    · exact ⟨fun _ => 0, fun x h => absurd h hm⟩
  obtain ⟨O, hO⟩ := Classical.skolem.mp h2
  exact ⟨fun x => (F x).1, fun x => (F x).2, O, hF, fun m x hm => hO m x hm⟩
/-- one input's row of mutants -/
theorem mr_81 {post : St1 → Prop} {J : Int32 → Int32 → Int32 → Int32 → Int32 → Int32 → Int32 → Int32 → Int32 → Int32 → Int32 → Int32 → Int32 → (Nat → Int32) → (Nat → Int32) → (Nat → Int32) → (Nat → Int32) → (Nat → Int32) → (Nat → Int32) → (Nat → Int32) → (Nat → Int32) → (Nat → Int32) → (Nat → Int32) → (Nat → Int32) → (Nat → Int32) → (Nat → Int32) → Prop} {tr rd : Int32} {a1 a2 a3 a4 a5 a6 : Nat → Int32} {s M x : Nat} {R : Nat → Int32} {T : Nat → mr_T} {O : Nat → Nat → Int32} (hM : M ≤ 30) (hx : x < 16) (hr : mr_runs s M a1 a2 a4 a5 a6 R T O)
    (H : ∀ (pl dn ht ip tp ch co cn : Int32) (a7 a8 a9 a10 a11 a12 a13 : Nat → Int32), (∀ j, j < M → mr_tb (mr_D R O j) (x + 1) (a7 j)) → (∀ y, y < x + 1 → a8 y = R y) → J (nI (x + 1)) (nI s) tr rd (nI M) pl dn ht ip tp ch co cn a1 a2 a3 a4 a5 a6 a7 a8 a9 a10 a11 a12 a13) :
    ∀ (k m : Nat), m + k = M → ∀ (pl dn ht tp ch co cn : Int32) (a7 a8 a9 a10 a11 a12 a13 : Nat → Int32), mr_nt (T x) a10 a11 a12 a13 → (∀ j, j < m → mr_tb (mr_D R O j) (x + 1) (a7 j)) → (∀ j, m ≤ j → j < M → mr_tb (mr_D R O j) x (a7 j)) → (∀ y, y < x + 1 → a8 y = R y) →
      wX_prepare_81 post J (nI x) (k + 1) (nI m) (nI s) tr rd (nI M) pl dn ht (nI x - 8) tp ch co cn a1 a2 a3 a4 a5 a6 a7 a8 a9 a10 a11 a12 a13 := by
  have cx : (nI x).toNatClampNeg = x := nI_clamp (by omega)
  intro k
  induction k with
  | zero =>
    intro m hm pl dn ht tp ch co cn a7 a8 a9 a10 a11 a12 a13 hnt h1 h2 h8
    exact pk_le M m (fun _ => nm_r (nI_1 x) (H _ _ _ _ _ _ _ _ _ _ _ _ _ _ _ (fun j hj => h1 j (by omega)) h8)) (fun z => absurd z (by omega))
  | succ k ih =>
    intro m hm pl dn ht tp ch co cn a7 a8 a9 a10 a11 a12 a13 hnt h1 h2 h8
    have cm : (nI m).toNatClampNeg = m := nI_clamp (by omega)
    refine pk_le M m (fun z => absurd z (by omega)) (fun _ => ⟨pk_in x 16 hx, ?_⟩)
    rw [cx, h8 x (by omega)]
    refine hr.2 m x (by omega) hnt (fun pl dn ht tp ch co cn b9 b10 b11 b12 b13 hb => ⟨pk_in x 16 hx, ?_⟩)
    rw [h8 x (by omega)]
    refine br_c (fun e => nm_r (nI_1 m) (ih (m + 1) (by omega) _ _ _ _ _ _ _ _ _ _ _ _ _ _ hb (fun j hj => ?_) (fun j hj hj' => h2 j (by omega) hj') h8)) (fun e => ⟨pk_in m 30 (by omega), pk_in m 30 (by omega), nm_r (by rw [cm]) (nm_r (nI_1 m) (ih (m + 1) (by omega) _ _ _ _ _ _ _ _ _ _ _ _ _ _ hb (fun j hj => ?_) (fun j hj hj' => ?_) h8))⟩)
    · by_cases g : j = m
      · subst g
        exact mr_tb_s0 (h2 j (by omega) (by omega)) (decide_eq_false (fun q => q e))
      · exact h1 j (by omega)
    · by_cases g : j = m
      · subst g
        rw [pk_us]
        exact mr_tb_s1 hx (h2 j (by omega) (by omega)) (decide_eq_true e)
      · rw [pk_un g]
        exact h1 j (by omega)
    · rw [pk_un (by omega)]
      exact h2 j (by omega) hj'
theorem mr_59 {post : St1 → Prop} {tr rd : Int32} {a1 a2 a3 a4 a5 a6 : Nat → Int32} {s M : Nat} {R : Nat → Int32} {T : Nat → mr_T} {O : Nat → Nat → Int32} (hM : M ≤ 30) (hr : mr_runs s M a1 a2 a4 a5 a6 R T O)
    (H : ∀ (pl dn ht ip tp ch co cn : Int32) (a7 a8 a9 a10 a11 a12 a13 : Nat → Int32), (∀ j, j < M → mr_tb (mr_D R O j) 16 (a7 j)) → (∀ y, y < 16 → a8 y = R y) → post (nI s, tr, 1, nI M, pl, dn, ht, ip, tp, ch, co, cn, a1, a2, a3, a4, a5, a6, a7, a8, a9, a10, a11, a12, a13)) :
    ∀ (k x : Nat), x + k = 16 → ∀ (pl dn ht ip tp ch co cn : Int32) (a7 a8 a9 a10 a11 a12 a13 : Nat → Int32), (∀ j, j < M → mr_tb (mr_D R O j) x (a7 j)) → (∀ y, y < x → a8 y = R y) → wX_prepare_59 post (k + 1) (nI x) (nI s) tr rd (nI M) pl dn ht ip tp ch co cn a1 a2 a3 a4 a5 a6 a7 a8 a9 a10 a11 a12 a13 := by
  intro k
  induction k with
  | zero =>
    intro x hx pl dn ht ip tp ch co cn a7 a8 a9 a10 a11 a12 a13 h7 h8
    have e : x = 16 := by omega
    subst e
    exact br_t (by decide) (H _ _ _ _ _ _ _ _ _ _ _ _ _ _ _ h7 h8)
  | succ k ih =>
    intro x hx pl dn ht ip tp ch co cn a7 a8 a9 a10 a11 a12 a13 h7 h8
    have cx : (nI x).toNatClampNeg = x := nI_clamp (by omega)
    refine pk_le 16 x (fun z => absurd z (by omega)) (fun _ => hr.1 x (fun pl dn ht tp ch co cn b9 b10 b11 b12 b13 hb => ⟨pk_in x 16 (by omega), nm_r (by rw [cx]) ⟨M + 1, ?_⟩⟩))
    refine mr_81 hM (by omega) hr (fun pl dn ht ip tp ch co cn a7 a8 a9 a10 a11 a12 a13 h7 h8 => ih (x + 1) (by omega) _ _ _ _ _ _ _ _ _ _ _ _ _ _ _ h7 h8) M 0 (by omega) _ _ _ _ _ _ _ _ _ _ _ _ _ _ hb (fun j hj => absurd hj (by omega)) (fun j _ hj => h7 j hj) (fun y hy => ?_)
    by_cases g : y = x
    · rw [g, pk_us]
    · rw [pk_un g]
      exact h8 y (by omega)
/-- what prepare leaves -/
def mr_Rd (s M : Nat) (a1 a2 a4 a5 a6 a7 a8 : Nat → Int32) (R : Nat → Int32) (T : Nat → mr_T) (O : Nat → Nat → Int32) : Prop :=
  M ≤ 30 ∧ mr_runs s M a1 a2 a4 a5 a6 R T O ∧ (∀ j, j < M → mr_tb (mr_D R O j) 16 (a7 j)) ∧ (∀ y, y < 16 → a8 y = R y)
theorem mr_36 {post : St1 → Prop} {tr rd pl dn ht ip tp ch co cn : Int32} {a1 a2 a3 a4 a5 a6 a7 a8 a9 a10 a11 a12 a13 : Nat → Int32} {s M : Nat} (hs : s ≤ 10) (hM : M ≤ 30) (hP : ∀ j, j < s → mr_ok (a1 j) (a2 j)) (hA : mr_AM s M a4 a5 a6)
    (H : ∀ (R : Nat → Int32) (T : Nat → mr_T) (O : Nat → Nat → Int32) (pl dn ht ip tp ch co cn : Int32) (a7 a8 a9 a10 a11 a12 a13 : Nat → Int32), mr_Rd s M a1 a2 a4 a5 a6 a7 a8 R T O → post (nI s, tr, 1, nI M, pl, dn, ht, ip, tp, ch, co, cn, a1, a2, a3, a4, a5, a6, a7, a8, a9, a10, a11, a12, a13)) : ∃ n, wX_prepare_36 post (nI s) tr rd (nI M) pl dn ht ip tp ch co cn n 0 a1 a2 a3 a4 a5 a6 a7 a8 a9 a10 a11 a12 a13 := by
  obtain ⟨R, T, O, hr⟩ := mr_runs_ex hs hM hP hA
  exact pk_loop (fun n i u => wX_prepare_36 post (nI s) tr rd (nI M) pl dn ht ip tp ch co cn n (nI i) a1 a2 a3 a4 a5 a6 u a8 a9 a10 a11 a12 a13) (fun i u => ∀ j, j < i → u j = 0) M 0 a7 (by omega) (fun j hj => absurd hj (by omega))
    (fun n u hu => pk_le M M (fun _ => ⟨17, mr_59 hM hr (fun pl dn ht ip tp ch co cn a7 a8 a9 a10 a11 a12 a13 h7 h8 => H R T O _ _ _ _ _ _ _ _ _ _ _ _ _ _ _ ⟨hM, hr, h7, h8⟩) 16 0 (by omega) _ _ _ _ _ _ _ _ _ _ _ _ _ _ _ (fun j hj => by rw [hu j hj]; exact mr_tb_0 _) (fun y hy => absurd hy (by omega))⟩) (fun z => absurd z (by omega)))
    (fun n i u hi hu hw => pk_le M i (fun z => absurd z (by omega)) (fun _ => ⟨pk_in i 30 (by omega), nm_r (by rw [nI_clamp (by omega)]) (nm_r (nI_1 i) (hw (upd u i 0) (by
      intro j hj
      by_cases e : j = i
      · rw [e, pk_us]
      · rw [pk_un e]
        exact hu j (by omega))))⟩))
theorem mr_prepare {post : St1 → Prop} {tr mu pl dn ht ip tp ch co cn : Int32} {a1 a2 a3 a4 a5 a6 a7 a8 a9 a10 a11 a12 a13 : Nat → Int32} {s : Nat} (hs : s ≤ 10) (hP : ∀ j, j < s → mr_ok (a1 j) (a2 j))
    (H : ∀ (M : Nat) (R : Nat → Int32) (T : Nat → mr_T) (O : Nat → Nat → Int32) (pl dn ht ip tp ch co cn : Int32) (a4 a5 a6 a7 a8 a9 a10 a11 a12 a13 : Nat → Int32), mr_Rd s M a1 a2 a4 a5 a6 a7 a8 R T O → post (nI s, tr, 1, nI M, pl, dn, ht, ip, tp, ch, co, cn, a1, a2, a3, a4, a5, a6, a7, a8, a9, a10, a11, a12, a13)) : wpX_prepare post (nI s, tr, 0, mu, pl, dn, ht, ip, tp, ch, co, cn, a1, a2, a3, a4, a5, a6, a7, a8, a9, a10, a11, a12, a13) :=
  br_t rfl (pk_loop (σ := Nat × (Nat → Int32) × (Nat → Int32) × (Nat → Int32)) (fun n i u => wX_prepare_15 post n (nI i) (nI s) tr 0 (nI u.1) pl dn ht ip tp ch co cn a1 a2 a3 u.2.1 u.2.2.1 u.2.2.2 a7 a8 a9 a10 a11 a12 a13) (fun i u => u.1 ≤ 3 * i ∧ mr_AM s u.1 u.2.1 u.2.2.1 u.2.2.2) s 0 (0, a4, a5, a6) (by omega) ⟨Nat.le_refl _, fun j hj => absurd hj (Nat.not_lt_zero j)⟩
    (fun n u hu => pk_le s s (fun _ => mr_36 hs (by have := hu.1; omega) hP hu.2 (fun R T O pl dn ht ip tp ch co cn a7 a8 a9 a10 a11 a12 a13 hR => H u.1 R T O _ _ _ _ _ _ _ _ _ _ _ _ _ _ _ _ _ _ hR)) (fun z => absurd z (by omega)))
    (fun n i u hi hu hw => pk_le s i (fun z => absurd z (by omega)) (fun _ => mr_addAt hs (by have := hu.1; omega) hu.2 hi (hP i hi) (fun M' b4 b5 b6 q hb => nm_r (nI_1 i) (hw (M', b4, b5, b6) ⟨by have := hu.1; show M' ≤ _; omega, hb⟩)))))
end
section
/-- the set of trials that kill, out of the told bits v -/
def mr_kb (a3 : Nat → Int32) (v : Int32) : Nat → Nat
  | 0 => 0
  | i + 1 => if ((v >>> ((a3 i + 8) &&& 31)) &&& 1) = 1 then mr_kb a3 v i ||| 2 ^ i else mr_kb a3 v i
theorem mr_kb_lt (a3 : Nat → Int32) (v : Int32) : ∀ i, mr_kb a3 v i < 2 ^ i := by
  intro i
  induction i with
  | zero => exact Nat.zero_lt_one
  | succ i ih =>
    have p : 2 ^ i < 2 ^ (i + 1) := Nat.pow_lt_pow_right (by omega) (by omega)
    unfold mr_kb
    split
    · exact Nat.or_lt_two_pow (by omega) p
    · omega
theorem mr_kb_ex (a3 : Nat → Int32) (v : Int32) : ∀ i, mr_kb a3 v i ≠ 0 → ∃ j, j < i ∧ ((v >>> ((a3 j + 8) &&& 31)) &&& 1) = 1 := by
  intro i
  induction i with
  | zero => intro h; exact absurd rfl h
  | succ i ih =>
    intro h
    unfold mr_kb at h
    split at h
    · rename_i g
      exact ⟨i, by omega, g⟩
    · obtain ⟨j, hj, g⟩ := ih h
      exact ⟨j, by omega, g⟩
theorem mr_killersOf {post : Int32 → Prop} {sz rd mu pl dn ht ip tp ch co cn : Int32} {a1 a2 a3 a4 a5 a6 a7 a8 a9 a10 a11 a12 a13 : Nat → Int32} {t m : Nat} (ht6 : t ≤ 6) (hm : m < 30) (H : post (nI (mr_kb a3 (a7 m) t))) : wpX_killersOf post (sz, nI t, rd, mu, pl, dn, ht, ip, tp, ch, co, cn, a1, a2, a3, a4, a5, a6, a7, a8, a9, a10, a11, a12, a13) (nI m) := by
  have cm : (nI m).toNatClampNeg = m := nI_clamp (by omega)
  exact pk_loop (fun n i u => wX_killersOf_4 post (nI m) sz (nI t) rd mu pl dn ht ip tp ch co cn a1 a2 a3 a4 a5 a6 a7 a8 a9 a10 a11 a12 a13 n u (nI i)) (fun i u => u = nI (mr_kb a3 (a7 m) i)) t 0 0 (by omega) rfl
    (fun n u hu => pk_le t t (fun _ => by rw [hu]; exact H) (fun z => absurd z (by omega)))
    (fun n i u hi hu hw => pk_le t i (fun z => absurd z (by omega)) (fun _ => ⟨pk_in m 30 hm, pk_in i 6 (by omega), by
      rw [cm, nI_clamp (show i < 2 ^ 31 by omega)]
      refine br_c (fun g => nm_e (nm_r (nI_1 i) (hw _ ?_))) (fun g => nm_r (nI_1 i) (hw _ ?_))
      · show _ = nI (if _ then _ else _)
        rw [if_pos g, hu, mr_sh1 i (by omega), mr_or]
      · show _ = nI (if _ then _ else _)
        rw [if_neg g]
        exact hu⟩))
def mr_pc (c : Nat) : Nat → Nat
  | 0 => 0
  | i + 1 => mr_pc c i + (c.testBit i).toNat
theorem mr_pc0 : ∀ c, c < 64 → mr_pc c 6 = 0 → c = 0 := by decide
theorem mr_pcle : ∀ c, c < 64 → mr_pc c 6 ≤ 6 := by decide
theorem mr_sizeOf {post : Int32 → Prop} {sz tr rd mu pl dn ht ip tp ch co cn : Int32} {a1 a2 a3 a4 a5 a6 a7 a8 a9 a10 a11 a12 a13 : Nat → Int32} {c : Nat} (hc : c < 64) (H : post (nI (mr_pc c 6))) : wpX_sizeOf post (sz, tr, rd, mu, pl, dn, ht, ip, tp, ch, co, cn, a1, a2, a3, a4, a5, a6, a7, a8, a9, a10, a11, a12, a13) (nI c) :=
  pk_loop (fun n i u => wX_sizeOf_4 post (nI c) sz tr rd mu pl dn ht ip tp ch co cn a1 a2 a3 a4 a5 a6 a7 a8 a9 a10 a11 a12 a13 n u (nI i)) (fun i u => u = nI (mr_pc c i)) 6 0 0 (by omega) rfl
    (fun n u hu => br_t (by decide) (by rw [hu]; exact H))
    (fun n i u hi hu hw => pk_le 6 i (fun z => absurd z (by omega)) (fun _ => nm_e (nm_r (nI_1 i) (hw _ (by rw [hu, mr_rd (by omega) (by omega), nI_add]; rfl)))))
theorem mr_enough {post : Int32 → Prop} {sz rd pl dn ht ip tp ch co cn : Int32} {a1 a2 a3 a4 a5 a6 a7 a8 a9 a10 a11 a12 a13 : Nat → Int32} {t M c : Nat} (ht6 : t ≤ 6) (hM : M ≤ 30)
    (H1 : (∀ m, m < M → mr_kb a3 (a7 m) t = 0 ∨ ¬ (nI (mr_kb a3 (a7 m) t) &&& nI c) = 0) → post 1) (H0 : (∃ m, m < M ∧ mr_kb a3 (a7 m) t ≠ 0) → post 0) : wpX_enough post (sz, nI t, rd, nI M, pl, dn, ht, ip, tp, ch, co, cn, a1, a2, a3, a4, a5, a6, a7, a8, a9, a10, a11, a12, a13) (nI c) :=
  pk_loop (σ := Unit) (fun n i _ => wX_enough_2 post (nI c) sz (nI t) rd (nI M) pl dn ht ip tp ch co cn a1 a2 a3 a4 a5 a6 a7 a8 a9 a10 a11 a12 a13 n (nI i)) (fun i _ => ∀ m, m < i → mr_kb a3 (a7 m) t = 0 ∨ ¬ (nI (mr_kb a3 (a7 m) t) &&& nI c) = 0) M 0 () (by omega) (fun j hj => absurd hj (by omega))
    (fun n u hu => pk_le M M (fun _ => H1 hu) (fun z => absurd z (by omega)))
    (fun n i u hi hu hw => pk_le M i (fun z => absurd z (by omega)) (fun _ => mr_killersOf ht6 (by omega) (by
      have hk : mr_kb a3 (a7 i) t < 2 ^ t := mr_kb_lt _ _ _
      have hk2 : 2 ^ t ≤ 2 ^ 6 := Nat.pow_le_pow_right (by omega) ht6
      refine pk_eq (mr_kb a3 (a7 i) t) 0 (fun e => nm_r (nI_1 i) (hw () (lt_s hu (Or.inl e)))) (fun e => br_c (fun _ => H0 ⟨i, hi, e⟩) (fun g => nm_r (nI_1 i) (hw () (lt_s hu (Or.inr g)))))))) 
theorem mr_prep1 {post : St1 → Prop} {sz tr mu pl dn ht ip tp ch co cn : Int32} {a1 a2 a3 a4 a5 a6 a7 a8 a9 a10 a11 a12 a13 : Nat → Int32} (H : post (sz, tr, 1, mu, pl, dn, ht, ip, tp, ch, co, cn, a1, a2, a3, a4, a5, a6, a7, a8, a9, a10, a11, a12, a13)) : wpX_prepare post (sz, tr, 1, mu, pl, dn, ht, ip, tp, ch, co, cn, a1, a2, a3, a4, a5, a6, a7, a8, a9, a10, a11, a12, a13) := br_f (by decide) H
theorem mr_and0 (x : Int32) : x &&& nI 0 = 0 := by
  apply Int32.toBitVec_inj.mp
  rw [Int32.toBitVec_and]
  exact BitVec.and_zero
theorem mr_needed {post : Int32 → St1 → Prop} {sz pl dn ht ip tp ch co cn : Int32} {a1 a2 a3 a4 a5 a6 a7 a8 a9 a10 a11 a12 a13 : Nat → Int32} {t M : Nat} (ht6 : t ≤ 6) (hM : M ≤ 30)
    (H : ∀ b : Nat, b ≤ t → (b = 0 ↔ ∀ m, m < M → mr_kb a3 (a7 m) t = 0) → post (nI b) (sz, nI t, 1, nI M, pl, dn, ht, ip, tp, ch, co, cn, a1, a2, a3, a4, a5, a6, a7, a8, a9, a10, a11, a12, a13)) : wpX_needed post (sz, nI t, 1, nI M, pl, dn, ht, ip, tp, ch, co, cn, a1, a2, a3, a4, a5, a6, a7, a8, a9, a10, a11, a12, a13) := by
  unfold wpX_needed
  refine mr_prep1 ?_
  have h64 : 2 ^ t ≤ 2 ^ 6 := Nat.pow_le_pow_right (by omega) ht6
  have h1 : 1 ≤ 2 ^ t := Nat.one_le_two_pow
  refine pk_loop (fun n c u => wX_needed_11 post sz (nI t) 1 (nI M) pl dn ht ip tp ch co cn a1 a2 a3 a4 a5 a6 a7 a8 a9 a10 a11 a12 a13 n u (nI c)) (fun c u => ∃ b : Nat, u = nI b ∧ b ≤ t ∧ ((∃ m, m < M ∧ mr_kb a3 (a7 m) t ≠ 0) → 0 < b) ∧ (1 ≤ c → (∀ m, m < M → mr_kb a3 (a7 m) t = 0) → b = 0)) (2 ^ t) 0 (nI t) (by omega) ⟨t, rfl, Nat.le_refl _, ?_, fun z => absurd z (by omega)⟩ ?_ ?_
  · rintro ⟨m, hm, hk⟩
    have := mr_kb_lt a3 (a7 m) t
    rcases Nat.eq_zero_or_pos t with e | e
    · subst e
      omega
    · exact e
  · rintro n u ⟨b, eu, hb, q1, q2⟩
    refine pk_le (2 ^ t) (2 ^ t) (fun _ => ?_) (fun z => absurd z (by omega)) (mr_sh1 t (by omega))
    rw [eu]
    refine H b hb ⟨fun e m hm => ?_, q2 h1⟩
    by_cases g : mr_kb a3 (a7 m) t = 0
    · exact g
    · have := q1 ⟨m, hm, g⟩
      omega
  · rintro n c u hc ⟨b, eu, hb, q1, q2⟩ hw
    have hp := mr_pcle c (by omega)
    refine pk_le (2 ^ t) c (fun z => absurd z (by omega)) (fun _ => mr_sizeOf (by omega) ?_) (mr_sh1 t (by omega))
    refine pk_le b (mr_pc c 6) (fun z => nm_r (nI_1 c) (hw _ ⟨b, eu, hb, q1, fun _ g => ?_⟩)) (fun z => mr_enough ht6 hM (fun g => ?_) (fun g => ?_)) eu
    · rcases Nat.eq_zero_or_pos c with e | e
      · subst e
        have : mr_pc 0 6 = 0 := by decide
        omega
      · exact q2 e g
    · refine br_f (by decide) (nm_r (nI_1 c) (hw _ ⟨mr_pc c 6, rfl, by omega, ?_, fun _ g' => ?_⟩))
      · rintro ⟨m, hm, hk⟩
        rcases Nat.eq_zero_or_pos (mr_pc c 6) with e | e
        · have e0 := mr_pc0 c (by omega) e
          subst e0
          rcases g m hm with g1 | g1
          · exact absurd g1 hk
          · exact absurd (mr_and0 _) g1
        · exact e
      · rcases Nat.eq_zero_or_pos c with e | e
        · subst e
          decide
        · have := q2 e g'
          omega
    · refine br_t rfl (nm_r (nI_1 c) (hw _ ⟨b, eu, hb, q1, fun _ g' => ?_⟩))
      obtain ⟨m, hm, hk⟩ := g
      exact absurd (g' m hm) hk
def mr_cnt (P : Nat → Bool) : Nat → Nat
  | 0 => 0
  | n + 1 => if P n = true then mr_cnt P n + 1 else mr_cnt P n
theorem mr_cnt_le (P : Nat → Bool) : ∀ n, mr_cnt P n ≤ n := by
  intro n
  induction n with
  | zero => exact Nat.le_refl _
  | succ n ih =>
    unfold mr_cnt
    split <;> omega
theorem mr_cnt_t {P : Nat → Bool} {n : Nat} (h : P n = true) : mr_cnt P (n + 1) = mr_cnt P n + 1 := if_pos h
theorem mr_cnt_f {P : Nat → Bool} {n : Nat} (h : ¬ P n = true) : mr_cnt P (n + 1) = mr_cnt P n := if_neg h
theorem mr_cnt_2 {P Q : Nat → Bool} : ∀ n, (∀ j, j < n → P j = true → ¬ Q j = true) → mr_cnt P n + mr_cnt Q n ≤ n := by
  intro n
  induction n with
  | zero => intro _; exact Nat.le_refl _
  | succ n ih =>
    intro h
    have := ih (fun j hj => h j (by omega))
    by_cases p : P n = true
    · rw [mr_cnt_t p, mr_cnt_f (h n (by omega) p)]
      omega
    · rw [mr_cnt_f p]
      by_cases q : Q n = true
      · rw [mr_cnt_t q]
        omega
      · rw [mr_cnt_f q]
        omega
theorem mr_cnt_0 {P : Nat → Bool} : ∀ n, mr_cnt P n = 0 ↔ ∀ j, j < n → ¬ P j = true := by
  intro n
  induction n with
  | zero => exact ⟨fun _ j hj => absurd hj (by omega), fun _ => rfl⟩
  | succ n ih =>
    by_cases p : P n = true
    · rw [mr_cnt_t p]
      exact ⟨fun e => absurd e (by omega), fun h => absurd p (h n (by omega))⟩
    · rw [mr_cnt_f p, ih]
      exact ⟨fun h => lt_s h p, fun h j hj => h j (by omega)⟩
theorem mr_killed {post : Int32 → St1 → Prop} {sz pl dn ht ip tp ch co cn : Int32} {a1 a2 a3 a4 a5 a6 a7 a8 a9 a10 a11 a12 a13 : Nat → Int32} {t M : Nat} (ht6 : t ≤ 6) (hM : M ≤ 30)
    (H : post (nI (mr_cnt (fun j => decide (¬ mr_kb a3 (a7 j) t = 0)) M)) (sz, nI t, 1, nI M, pl, dn, ht, ip, tp, ch, co, cn, a1, a2, a3, a4, a5, a6, a7, a8, a9, a10, a11, a12, a13)) : wpX_killed post (sz, nI t, 1, nI M, pl, dn, ht, ip, tp, ch, co, cn, a1, a2, a3, a4, a5, a6, a7, a8, a9, a10, a11, a12, a13) := by
  unfold wpX_killed
  refine mr_prep1 (pk_loop (fun n i u => wX_killed_8 post sz (nI t) 1 (nI M) pl dn ht ip tp ch co cn a1 a2 a3 a4 a5 a6 a7 a8 a9 a10 a11 a12 a13 n u (nI i)) (fun i u => u = nI (mr_cnt (fun j => decide (¬ mr_kb a3 (a7 j) t = 0)) i)) M 0 0 (by omega) rfl
    (fun n u hu => pk_le M M (fun _ => by rw [hu]; exact H) (fun z => absurd z (by omega))) (fun n i u hi hu hw => ?_))
  refine pk_le M i (fun z => absurd z (by omega)) (fun _ => mr_killersOf ht6 (by omega) ?_)
  have hk : mr_kb a3 (a7 i) t < 2 ^ t := mr_kb_lt _ _ _
  have hk2 : 2 ^ t ≤ 2 ^ 6 := Nat.pow_le_pow_right (by omega) ht6
  refine pk_eq (mr_kb a3 (a7 i) t) 0 (fun e => nm_r (nI_1 i) (hw _ ?_)) (fun e => nm_e (nm_r (nI_1 i) (hw _ ?_)))
  · rw [mr_cnt_f (by simp [e])]
    exact hu
  · rw [mr_cnt_t (by simp [e]), hu, nI_1]
theorem mr_equalOnes {post : Int32 → St1 → Prop} {sz tr pl dn ht ip tp ch co cn : Int32} {a1 a2 a3 a4 a5 a6 a7 a8 a9 a10 a11 a12 a13 : Nat → Int32} {M : Nat} (hM : M ≤ 30)
    (H : post (nI (mr_cnt (fun j => decide (a7 j = 0)) M)) (sz, tr, 1, nI M, pl, dn, ht, ip, tp, ch, co, cn, a1, a2, a3, a4, a5, a6, a7, a8, a9, a10, a11, a12, a13)) : wpX_equalOnes post (sz, tr, 1, nI M, pl, dn, ht, ip, tp, ch, co, cn, a1, a2, a3, a4, a5, a6, a7, a8, a9, a10, a11, a12, a13) := by
  unfold wpX_equalOnes
  refine mr_prep1 (pk_loop (fun n i u => wX_equalOnes_8 post sz tr 1 (nI M) pl dn ht ip tp ch co cn a1 a2 a3 a4 a5 a6 a7 a8 a9 a10 a11 a12 a13 n u (nI i)) (fun i u => u = nI (mr_cnt (fun j => decide (a7 j = 0)) i)) M 0 0 (by omega) rfl
    (fun n u hu => pk_le M M (fun _ => by rw [hu]; exact H) (fun z => absurd z (by omega))) (fun n i u hi hu hw => ?_))
  refine pk_le M i (fun z => absurd z (by omega)) (fun _ => ⟨pk_in i 30 (by omega), ?_⟩)
  rw [nI_clamp (show i < 2 ^ 31 by omega)]
  refine br_c (fun e => nm_e (nm_r (nI_1 i) (hw _ ?_))) (fun e => nm_r (nI_1 i) (hw _ ?_))
  · rw [mr_cnt_t (by simp [e]), hu, nI_1]
  · rw [mr_cnt_f (by simp [e])]
    exact hu
end
section
/-- the first input, at or behind 16 - k, that tells apart -/
def mr_fs (D : Nat → Bool) : Nat → Int32
  | 0 => -10004
  | k + 1 => if D (15 - k) = true then nI (15 - k) - 8 else mr_fs D k
theorem mr_in_ne : ∀ y, y < 16 → ¬ nI y - 8 = -10004 := by decide
theorem mr_fs_some {D : Nat → Bool} {y : Nat} (hy : y < 16) (h : D y = true) : ∀ k, k ≤ 16 → 16 - k ≤ y → ¬ mr_fs D k = -10004 := by
  intro k
  induction k with
  | zero => intro _ h2; omega
  | succ k ih =>
    intro h1 h2
    unfold mr_fs
    by_cases g : D (15 - k) = true
    · rw [if_pos g]
      exact mr_in_ne _ (by omega)
    · rw [if_neg g]
      refine ih (by omega) ?_
      by_cases e : y = 15 - k
      · subst e
        exact absurd h g
      · omega
theorem mr_fs_none {D : Nat → Bool} : ∀ k, (∀ y, y < 16 → D y = false) → k ≤ 16 → mr_fs D k = -10004 := by
  intro k h
  induction k with
  | zero => intro _; rfl
  | succ k ih =>
    intro hk
    unfold mr_fs
    rw [if_neg (by rw [h (15 - k) (by omega)]; decide)]
    exact ih (by omega)
theorem mr_noMut {post : Int32 → St1 → Prop} {sz tr pl dn ht ip tp ch co cn : Int32} {a1 a2 a3 a4 a5 a6 a7 a8 a9 a10 a11 a12 a13 : Nat → Int32} {M m : Nat} (hM : M ≤ 30) (hm : m < M) (H : post 0 (sz, tr, 1, nI M, pl, dn, ht, ip, tp, ch, co, cn, a1, a2, a3, a4, a5, a6, a7, a8, a9, a10, a11, a12, a13)) : wpX_noMutant post (sz, tr, 1, nI M, pl, dn, ht, ip, tp, ch, co, cn, a1, a2, a3, a4, a5, a6, a7, a8, a9, a10, a11, a12, a13) (nI m) := by
  unfold wpX_noMutant
  exact mr_prep1 (br_f (nI_pos (by omega)) (pk_lt m M (fun _ => H) (fun z => absurd z (by omega))))
theorem mr_noMut1 {post : Int32 → St1 → Prop} {sz tr pl dn ht ip tp ch co cn : Int32} {a1 a2 a3 a4 a5 a6 a7 a8 a9 a10 a11 a12 a13 : Nat → Int32} {M : Nat} (hM : M ≤ 30) (H : post 1 (sz, tr, 1, nI M, pl, dn, ht, ip, tp, ch, co, cn, a1, a2, a3, a4, a5, a6, a7, a8, a9, a10, a11, a12, a13)) : wpX_noMutant post (sz, tr, 1, nI M, pl, dn, ht, ip, tp, ch, co, cn, a1, a2, a3, a4, a5, a6, a7, a8, a9, a10, a11, a12, a13) (nI M) := by
  unfold wpX_noMutant
  exact mr_prep1 (br_f (nI_pos (by omega)) (pk_lt M M (fun z => absurd z (by omega)) (fun _ => H)))
theorem mr_killerL {post : Int32 → St1 → Prop} {sz tr rd mu pl dn ht ip tp ch co cn : Int32} {a1 a2 a3 a4 a5 a6 a7 a8 a9 a10 a11 a12 a13 : Nat → Int32} {m : Nat} {D : Nat → Bool} (hm : m < 30) (hD : mr_tb D 16 (a7 m)) :
    ∀ k x : Nat, x + k = 16 → post (mr_fs D k) (sz, tr, rd, mu, pl, dn, ht, ip, tp, ch, co, cn, a1, a2, a3, a4, a5, a6, a7, a8, a9, a10, a11, a12, a13) → wX_killer_14 post (nI m) sz tr rd mu pl dn ht ip tp ch co cn a1 a2 a3 a4 a5 a6 a7 a8 a9 a10 a11 a12 a13 (k + 1) (nI x) := by
  have cm : (nI m).toNatClampNeg = m := nI_clamp (by omega)
  intro k
  induction k with
  | zero =>
    intro x hx H
    exact pk_le 16 x (fun _ => H) (fun z => absurd z (by omega))
  | succ k ih =>
    intro x hx H
    refine pk_le 16 x (fun z => absurd z (by omega)) (fun _ => ⟨pk_in m 30 hm, ?_⟩)
    rw [cm]
    have ex : 15 - k = x := by omega
    unfold mr_fs at H
    rw [ex] at H
    refine ek_if (mr_tb_rd hD (by omega)) (fun g => ?_) (fun g => nm_r (nI_1 x) (ih (x + 1) (by omega) ?_))
    · rw [if_pos g] at H
      exact H
    · rw [if_neg g] at H
      exact H
theorem mr_killer {post : Int32 → St1 → Prop} {sz tr pl dn ht ip tp ch co cn : Int32} {a1 a2 a3 a4 a5 a6 a7 a8 a9 a10 a11 a12 a13 : Nat → Int32} {M m : Nat} {D : Nat → Bool} (hM : M ≤ 30) (hm : m < M) (hD : mr_tb D 16 (a7 m)) (H : post (mr_fs D 16) (sz, tr, 1, nI M, pl, dn, ht, ip, tp, ch, co, cn, a1, a2, a3, a4, a5, a6, a7, a8, a9, a10, a11, a12, a13)) : wpX_killer post (sz, tr, 1, nI M, pl, dn, ht, ip, tp, ch, co, cn, a1, a2, a3, a4, a5, a6, a7, a8, a9, a10, a11, a12, a13) (nI m) := by
  unfold wpX_killer
  exact mr_noMut hM hm (br_t rfl ⟨17, mr_killerL (by omega) hD 16 0 rfl H⟩)
theorem mr_killer1 {post : Int32 → St1 → Prop} {sz tr pl dn ht ip tp ch co cn : Int32} {a1 a2 a3 a4 a5 a6 a7 a8 a9 a10 a11 a12 a13 : Nat → Int32} {M : Nat} (hM : M ≤ 30) (H : post (-10004) (sz, tr, 1, nI M, pl, dn, ht, ip, tp, ch, co, cn, a1, a2, a3, a4, a5, a6, a7, a8, a9, a10, a11, a12, a13)) : wpX_killer post (sz, tr, 1, nI M, pl, dn, ht, ip, tp, ch, co, cn, a1, a2, a3, a4, a5, a6, a7, a8, a9, a10, a11, a12, a13) (nI M) := by
  unfold wpX_killer
  exact mr_noMut1 hM (br_f (by decide) H)
theorem mr_killers {post : Int32 → St1 → Prop} {sz pl dn ht ip tp ch co cn : Int32} {a1 a2 a3 a4 a5 a6 a7 a8 a9 a10 a11 a12 a13 : Nat → Int32} {M m t : Nat} (ht6 : t ≤ 6) (hM : M ≤ 30) (hm : m < M) (H : post (nI (mr_kb a3 (a7 m) t)) (sz, nI t, 1, nI M, pl, dn, ht, ip, tp, ch, co, cn, a1, a2, a3, a4, a5, a6, a7, a8, a9, a10, a11, a12, a13)) : wpX_killers post (sz, nI t, 1, nI M, pl, dn, ht, ip, tp, ch, co, cn, a1, a2, a3, a4, a5, a6, a7, a8, a9, a10, a11, a12, a13) (nI m) := by
  unfold wpX_killers
  exact mr_noMut hM hm (br_t rfl (mr_killersOf ht6 (by omega) H))
theorem mr_i1 : ∀ y, y < 16 → ¬ nI y - 8 < -8 := by decide
theorem mr_i2 : ∀ y, y < 16 → nI y - 8 ≤ 7 := by decide
theorem mr_i3 : ∀ y, y < 16 → nI y - 8 + 8 = nI y := by decide
theorem mr_i4 : ∀ y, y < 16 → nI (y + 1) - 9 = nI y - 8 := by decide
theorem mr_i5 : ∀ y, y < 16 → nI y - 8 + (-1) = nI y - 9 := by decide
theorem mr_badIn {post : Int32 → Prop} {sz tr rd mu pl dn ht ip tp ch co cn : Int32} {a1 a2 a3 a4 a5 a6 a7 a8 a9 a10 a11 a12 a13 : Nat → Int32} {y : Nat} (hy : y < 16) (H : post 0) : wpX_badInput post (sz, tr, rd, mu, pl, dn, ht, ip, tp, ch, co, cn, a1, a2, a3, a4, a5, a6, a7, a8, a9, a10, a11, a12, a13) (nI y - 8) := br_f (mr_i1 y hy) (br_t (mr_i2 y hy) H)
theorem mr_outcome {post : Int32 → St1 → Prop} {sz tr mu pl dn ht ip tp ch co cn : Int32} {a1 a2 a3 a4 a5 a6 a7 a8 a9 a10 a11 a12 a13 : Nat → Int32} {y : Nat} (hy : y < 16) (H : post (a8 y) (sz, tr, 1, mu, pl, dn, ht, ip, tp, ch, co, cn, a1, a2, a3, a4, a5, a6, a7, a8, a9, a10, a11, a12, a13)) : wpX_outcome post (sz, tr, 1, mu, pl, dn, ht, ip, tp, ch, co, cn, a1, a2, a3, a4, a5, a6, a7, a8, a9, a10, a11, a12, a13) (nI y - 8) := by
  unfold wpX_outcome
  refine mr_badIn hy (br_t rfl (mr_prep1 ⟨pk_in y 16 hy (mr_i3 y hy), ?_⟩))
  rw [mr_i3 y hy, nI_clamp (by omega)]
  exact H
theorem mr_outcomeOf {post : Int32 → St1 → Prop} {tr pl dn ht ip tp ch co cn : Int32} {a1 a2 a3 a4 a5 a6 a7 a8 a9 a10 a11 a12 a13 : Nat → Int32} {s M m y : Nat} {R : Nat → Int32} {T : Nat → mr_T} {O : Nat → Nat → Int32} (hy : y < 16) (hm : m < M) (hr : mr_Rd s M a1 a2 a4 a5 a6 a7 a8 R T O)
    (H : ∀ (pl dn ht ip tp ch co cn : Int32) (b9 b10 b11 b12 b13 : Nat → Int32), post (O m y) (nI s, tr, 1, nI M, pl, dn, ht, ip, tp, ch, co, cn, a1, a2, a3, a4, a5, a6, a7, a8, b9, b10, b11, b12, b13)) : wpX_outcomeOf post (nI s, tr, 1, nI M, pl, dn, ht, ip, tp, ch, co, cn, a1, a2, a3, a4, a5, a6, a7, a8, a9, a10, a11, a12, a13) (nI m) (nI y - 8) := by
  unfold wpX_outcomeOf
  refine mr_badIn hy (br_t rfl (mr_noMut hr.1 hm (br_t rfl ?_)))
  rw [mr_e_rw]
  exact hr.2.1.1 y (fun pl dn ht tp ch co cn b9 b10 b11 b12 b13 hb => hr.2.1.2 m y hm hb (fun pl dn ht tp ch co cn b9 b10 b11 b12 b13 hb => H _ _ _ _ _ _ _ _ _ _ _ _ _))
/-- the law's inner loop over the inputs -/
theorem mr_kindL {post : Int32 → St1 → Prop} {tr : Int32} {a1 a2 a3 a4 a5 a6 a7 a8 : Nat → Int32} {s M m : Nat} {R : Nat → Int32} {T : Nat → mr_T} {O : Nat → Nat → Int32} {K : Nat} (hm : m < M) (hr : mr_Rd s M a1 a2 a4 a5 a6 a7 a8 R T O) (hK : K < 64) (hKD : K ≠ 0 → ∃ y, y < 16 ∧ mr_D R O m y = true)
    (H1 : K ≠ 0 → ∀ (pl dn ht ip tp ch co cn : Int32) (a9 a10 a11 a12 a13 : Nat → Int32), post 1 (nI s, tr, 1, nI M, pl, dn, ht, ip, tp, ch, co, cn, a1, a2, a3, a4, a5, a6, a7, a8, a9, a10, a11, a12, a13)) (H2 : K = 0 → mr_fs (mr_D R O m) 16 = -10004 → ∀ (pl dn ht ip tp ch co cn : Int32) (a9 a10 a11 a12 a13 : Nat → Int32), post 2 (nI s, tr, 1, nI M, pl, dn, ht, ip, tp, ch, co, cn, a1, a2, a3, a4, a5, a6, a7, a8, a9, a10, a11, a12, a13))
    (H0 : K = 0 → ¬ mr_fs (mr_D R O m) 16 = -10004 → ∀ (pl dn ht ip tp ch co cn : Int32) (a9 a10 a11 a12 a13 : Nat → Int32), post 0 (nI s, tr, 1, nI M, pl, dn, ht, ip, tp, ch, co, cn, a1, a2, a3, a4, a5, a6, a7, a8, a9, a10, a11, a12, a13)) :
    ∀ (y : Nat), y ≤ 16 → ∀ (pl dn ht ip tp ch co cn : Int32) (a9 a10 a11 a12 a13 : Nat → Int32), wL_kind_21 post (nI m) (mr_fs (mr_D R O m) 16) (nI K) (y + 1) (mr_fs (mr_D R O m) (16 - y)) (nI y - 9) (nI s) tr 1 (nI M) pl dn ht ip tp ch co cn a1 a2 a3 a4 a5 a6 a7 a8 a9 a10 a11 a12 a13 := by
  intro y
  induction y with
  | zero =>
    intro _ pl dn ht ip tp ch co cn a9 a10 a11 a12 a13
    refine br_t (by decide) (br_t rfl (br_f (nI_pos (by omega)) (pk_le K 0 (fun z => ?_) (fun z => ?_))))
    · exact pk_le K 0 (fun _ => br_c (fun e => H2 (by omega) e _ _ _ _ _ _ _ _ _ _ _ _ _) (fun e => H0 (by omega) e _ _ _ _ _ _ _ _ _ _ _ _ _)) (fun g => absurd g (by omega))
    · obtain ⟨y, hy, hD⟩ := hKD (by omega)
      exact br_f (mr_fs_some hy hD 16 (by omega) (by omega)) (pk_le K 0 (fun g => absurd g (by omega)) (fun _ => H1 (by omega) _ _ _ _ _ _ _ _ _ _ _ _ _))
  | succ y ih =>
    intro hy pl dn ht ip tp ch co cn a9 a10 a11 a12 a13
    have ih' := ih (by omega)
    have e16 : 16 - y = (16 - (y + 1)) + 1 := by omega
    have e15 : 15 - (16 - (y + 1)) = y := by omega
    rw [mr_i4 y (by omega)]
    refine br_f (mr_i1 y (by omega)) (mr_outcomeOf (by omega) hm hr (fun pl dn ht ip tp ch co cn a9 a10 a11 a12 a13 => mr_outcome (by omega) ?_))
    rw [hr.2.2.2 y (by omega)]
    rw [e16] at ih'
    unfold mr_fs at ih'
    rw [e15] at ih'
    refine br_c (fun e => nm_r (mr_i5 y (by omega)) ?_) (fun e => nm_r (mr_i5 y (by omega)) ?_)
    · have hD : ¬ mr_D R O m y = true := by
        unfold mr_D
        simp [e]
      rw [if_neg hD] at ih'
      exact ih' _ _ _ _ _ _ _ _ _ _ _ _ _
    · have hD : mr_D R O m y = true := decide_eq_true e
      rw [if_pos hD] at ih'
      exact ih' _ _ _ _ _ _ _ _ _ _ _ _ _
theorem mr_kind {post : Int32 → St1 → Prop} {pl dn ht ip tp ch co cn : Int32} {a1 a2 a3 a4 a5 a6 a7 a8 a9 a10 a11 a12 a13 : Nat → Int32} {s M m t : Nat} {R : Nat → Int32} {T : Nat → mr_T} {O : Nat → Nat → Int32} (ht6 : t ≤ 6) (hm : m < M) (hr : mr_Rd s M a1 a2 a4 a5 a6 a7 a8 R T O)
    (hKD : mr_kb a3 (a7 m) t ≠ 0 → ∃ y, y < 16 ∧ mr_D R O m y = true)
    (H1 : mr_kb a3 (a7 m) t ≠ 0 → ∀ (pl dn ht ip tp ch co cn : Int32) (a9 a10 a11 a12 a13 : Nat → Int32), post 1 (nI s, nI t, 1, nI M, pl, dn, ht, ip, tp, ch, co, cn, a1, a2, a3, a4, a5, a6, a7, a8, a9, a10, a11, a12, a13)) (H2 : mr_kb a3 (a7 m) t = 0 → mr_fs (mr_D R O m) 16 = -10004 → ∀ (pl dn ht ip tp ch co cn : Int32) (a9 a10 a11 a12 a13 : Nat → Int32), post 2 (nI s, nI t, 1, nI M, pl, dn, ht, ip, tp, ch, co, cn, a1, a2, a3, a4, a5, a6, a7, a8, a9, a10, a11, a12, a13))
    (H0 : mr_kb a3 (a7 m) t = 0 → ¬ mr_fs (mr_D R O m) 16 = -10004 → ∀ (pl dn ht ip tp ch co cn : Int32) (a9 a10 a11 a12 a13 : Nat → Int32), post 0 (nI s, nI t, 1, nI M, pl, dn, ht, ip, tp, ch, co, cn, a1, a2, a3, a4, a5, a6, a7, a8, a9, a10, a11, a12, a13)) :
    wpL_kind post (nI s, nI t, 1, nI M, pl, dn, ht, ip, tp, ch, co, cn, a1, a2, a3, a4, a5, a6, a7, a8, a9, a10, a11, a12, a13) (nI m) := by
  have hk : mr_kb a3 (a7 m) t < 2 ^ t := mr_kb_lt _ _ _
  have hk2 : 2 ^ t ≤ 2 ^ 6 := Nat.pow_le_pow_right (by omega) ht6
  unfold wpL_kind
  exact mr_killer hr.1 hm (hr.2.2.1 m hm) (mr_killers ht6 hr.1 hm ⟨17, mr_kindL hm hr (by omega) hKD H1 H2 H0 16 (by omega) _ _ _ _ _ _ _ _ _ _ _ _ _⟩)
end
section
/-- the trials are inputs -/
def mr_tr (a3 : Nat → Int32) (t : Nat) : Prop := ∀ i, i < t → ∃ y : Nat, y < 16 ∧ a3 i + 8 = nI y
theorem mr_KD {a3 : Nat → Int32} {t : Nat} {D : Nat → Bool} {v : Int32} (ht : mr_tr a3 t) (hD : mr_tb D 16 v) (h : mr_kb a3 v t ≠ 0) : ∃ y, y < 16 ∧ D y = true := by
  obtain ⟨j, hj, g⟩ := mr_kb_ex a3 v t h
  obtain ⟨y, hy, e⟩ := ht j hj
  rw [e] at g
  exact ⟨y, hy, (mr_tb_rd hD hy).mp g⟩
theorem mr_z_fs {D : Nat → Bool} {v : Int32} (hD : mr_tb D 16 v) : v = 0 ↔ mr_fs D 16 = -10004 := by
  rw [mr_tb_z hD]
  constructor
  · intro h
    exact mr_fs_none 16 h (by omega)
  · intro h y hy
    cases g : D y with
    | false => rfl
    | true => exact absurd h (mr_fs_some hy g 16 (by omega) (by omega))
def mr_cK (a3 a7 : Nat → Int32) (t : Nat) : Nat → Nat := mr_cnt (fun j => decide (¬ mr_kb a3 (a7 j) t = 0))
def mr_cE (a7 : Nat → Int32) : Nat → Nat := mr_cnt (fun j => decide (a7 j = 0))
theorem mr_177 {post : Int32 → Prop} {L : Nat} {xs : Nat → Int32} {kc ks : Nat} {sz pl dn ht ip tp ch co cn : Int32} {a1 a2 a3 a4 a5 a6 a7 a8 a9 a10 a11 a12 a13 : Nat → Int32} {t M : Nat} (ht6 : t ≤ 6) (hM : M ≤ 30) (hS : mr_cK a3 a7 t M + mr_cE a7 M ≤ M) (H : post 1) :
    wL_law_177 post L xs (nI t) (nI M) (nI (mr_cK a3 a7 t M)) (nI (mr_cE a7 M)) kc ks sz (nI t) 1 (nI M) pl dn ht ip tp ch co cn a1 a2 a3 a4 a5 a6 a7 a8 a9 a10 a11 a12 a13 := by
  unfold wL_law_177
  refine mr_needed ht6 hM (fun b hb hb0 => mr_killed ht6 hM (br_t rfl (mr_equalOnes hM (br_t rfl ?_))))
  refine pk_lt M (mr_cK a3 a7 t M + mr_cE a7 M) (fun z => absurd z (by omega)) (fun _ => mr_killer1 hM (br_t rfl (br_f (nI_pos (by omega)) (pk_lt t b (fun z => absurd z (by omega)) (fun _ => ?_))))) rfl (nI_add _ _)
  have hK0 : mr_cK a3 a7 t M = 0 ↔ ∀ m, m < M → mr_kb a3 (a7 m) t = 0 := by
    unfold mr_cK
    rw [mr_cnt_0]
    constructor
    · intro h m hm
      have := h m hm
      simpa using this
    · intro h m hm
      have := h m hm
      simpa using this
  refine pk_eq b 0 (fun e => pk_eq (mr_cK a3 a7 t M) 0 (fun _ => br_t rfl H) (fun g => absurd (hK0.mpr (hb0.mp e)) g)) (fun e => pk_eq (mr_cK a3 a7 t M) 0 (fun g => absurd (hb0.mpr (hK0.mp g)) e) (fun _ => br_t rfl H))
theorem mr_109 {post : Int32 → Prop} {L : Nat} {xs : Nat → Int32} {kc ks : Nat} {a1 a2 a3 a4 a5 a6 a7 a8 : Nat → Int32} {s t M : Nat} {R : Nat → Int32} {T : Nat → mr_T} {O : Nat → Nat → Int32} (ht6 : t ≤ 6) (htr : mr_tr a3 t) (hr : mr_Rd s M a1 a2 a4 a5 a6 a7 a8 R T O) (H : post 1) :
    ∀ k m : Nat, m + k = M → ∀ (pl dn ht ip tp ch co cn : Int32) (a9 a10 a11 a12 a13 : Nat → Int32), wL_law_109 post L xs (nI t) (nI M) kc ks (k + 1) (nI (mr_cK a3 a7 t m)) (nI (mr_cE a7 m)) (nI m) (nI s) (nI t) 1 (nI M) pl dn ht ip tp ch co cn a1 a2 a3 a4 a5 a6 a7 a8 a9 a10 a11 a12 a13 := by
  have hM := hr.1
  have hKD : ∀ m, m < M → mr_kb a3 (a7 m) t ≠ 0 → ∃ y, y < 16 ∧ mr_D R O m y = true := fun m hm h => mr_KD htr (hr.2.2.1 m hm) h
  have hne : ∀ m, m < M → mr_kb a3 (a7 m) t ≠ 0 → ¬ a7 m = 0 := by
    intro m hm h e
    obtain ⟨y, hy, g⟩ := hKD m hm h
    rw [(mr_tb_z (hr.2.2.1 m hm)).mp e y hy] at g
    exact absurd g (by decide)
  have hS : mr_cK a3 a7 t M + mr_cE a7 M ≤ M := by
    refine mr_cnt_2 M (fun j hj h g => ?_)
    exact hne j hj (of_decide_eq_true h) (of_decide_eq_true g)
  intro k
  induction k with
  | zero =>
    intro m hm pl dn ht ip tp ch co cn a9 a10 a11 a12 a13
    have e : m = M := by omega
    subst e
    have X : wL_law_177 post L xs (nI t) (nI m) (nI (mr_cK a3 a7 t m)) (nI (mr_cE a7 m)) kc ks (nI s) (nI t) 1 (nI m) pl dn ht ip tp ch co cn a1 a2 a3 a4 a5 a6 a7 a8 a9 a10 a11 a12 a13 := mr_177 ht6 hM hS H
    exact pk_le 30 m (fun _ => X) (fun _ => pk_le m m (fun _ => X) (fun z => absurd z (by omega)))
  | succ k ih =>
    intro m hm pl dn ht ip tp ch co cn a9 a10 a11 a12 a13
    have ih' := ih (m + 1) (by omega)
    refine pk_le 30 m (fun z => absurd z (by omega)) (fun _ => pk_le M m (fun z => absurd z (by omega)) (fun _ => mr_kind ht6 (by omega) hr (hKD m (by omega)) (fun h => ?_) (fun h g => ?_) (fun h g => ?_)))
    · have e1 : mr_cK a3 a7 t (m + 1) = mr_cK a3 a7 t m + 1 := mr_cnt_t (decide_eq_true h)
      have e2 : mr_cE a7 (m + 1) = mr_cE a7 m := mr_cnt_f (fun g => hne m (by omega) h (of_decide_eq_true g))
      rw [e1, e2] at ih'
      intro pl dn ht ip tp ch co cn a9 a10 a11 a12 a13
      refine br_t (by decide) (br_t rfl (br_f (by decide) (nm_r (nI_1 m) ?_)))
      rw [nI_1]
      exact ih' _ _ _ _ _ _ _ _ _ _ _ _ _
    · have e1 : mr_cK a3 a7 t (m + 1) = mr_cK a3 a7 t m := mr_cnt_f (fun q => of_decide_eq_true q h)
      have e2 : mr_cE a7 (m + 1) = mr_cE a7 m + 1 := mr_cnt_t (decide_eq_true ((mr_z_fs (hr.2.2.1 m (by omega))).mpr g))
      rw [e1, e2] at ih'
      intro pl dn ht ip tp ch co cn a9 a10 a11 a12 a13
      exact br_t (by decide) (br_f (by decide) (br_t rfl (nm_r (nI_1 _) (nm_r (nI_1 m) (ih' _ _ _ _ _ _ _ _ _ _ _ _ _)))))
    · have e1 : mr_cK a3 a7 t (m + 1) = mr_cK a3 a7 t m := mr_cnt_f (fun q => of_decide_eq_true q h)
      have e2 : mr_cE a7 (m + 1) = mr_cE a7 m := mr_cnt_f (fun q => g ((mr_z_fs (hr.2.2.1 m (by omega))).mp (of_decide_eq_true q)))
      rw [e1, e2] at ih'
      intro pl dn ht ip tp ch co cn a9 a10 a11 a12 a13
      exact br_t (by decide) (br_f (by decide) (br_f (by decide) (nm_r (nI_1 m) (ih' _ _ _ _ _ _ _ _ _ _ _ _ _))))
theorem mr_mutants {post : Int32 → St1 → Prop} {tr mu pl dn ht ip tp ch co cn : Int32} {a1 a2 a3 a4 a5 a6 a7 a8 a9 a10 a11 a12 a13 : Nat → Int32} {s : Nat} (hs : s ≤ 10) (hP : ∀ j, j < s → mr_ok (a1 j) (a2 j))
    (H : ∀ (M : Nat) (R : Nat → Int32) (T : Nat → mr_T) (O : Nat → Nat → Int32) (pl dn ht ip tp ch co cn : Int32) (a4 a5 a6 a7 a8 a9 a10 a11 a12 a13 : Nat → Int32), mr_Rd s M a1 a2 a4 a5 a6 a7 a8 R T O → post (nI M) (nI s, tr, 1, nI M, pl, dn, ht, ip, tp, ch, co, cn, a1, a2, a3, a4, a5, a6, a7, a8, a9, a10, a11, a12, a13)) : wpX_mutants post (nI s, tr, 0, mu, pl, dn, ht, ip, tp, ch, co, cn, a1, a2, a3, a4, a5, a6, a7, a8, a9, a10, a11, a12, a13) := by
  unfold wpX_mutants
  exact mr_prepare hs hP H
end
section
/-- the state of the law's first loop: a sound program of s instructions, t trials -/
def mr_I1 (s t : Nat) (a1 a2 a3 : Nat → Int32) : Prop := s ≤ 10 ∧ t ≤ 6 ∧ (∀ j, j < s → mr_ok (a1 j) (a2 j)) ∧ mr_tr a3 t
theorem mr_rng {x : Int32} (h1 : ¬ x < (-8)) (h2 : x ≤ 7) : ∃ y : Nat, y < 16 ∧ x = nI y - 8 := by
  have h1' : (-8 : Int) ≤ x.toInt := by
    have := Int32.le_iff_toInt_le.mp (Int32.not_lt.mp h1)
    exact this
  have h2' : x.toInt ≤ (7 : Int) := by
    have := Int32.le_iff_toInt_le.mp h2
    exact this
  refine ⟨(x.toInt + 8).toNat, by omega, Int32.toInt_inj.mp ?_⟩
  have := pk_sub_toInt (a := (x.toInt + 8).toNat) (b := 8) (by omega) (by omega)
  exact (this.trans (by omega)).symm
theorem mr_badNum {post : Int32 → Prop} {sz tr rd mu pl dn ht ip tp ch co cn : Int32} {a1 a2 a3 a4 a5 a6 a7 a8 a9 a10 a11 a12 a13 : Nat → Int32} {w : Nat} {n : Int32} (hw : w ≤ 9) (H1 : post 1) (H0 : mr_ok (nI w) n → post 0) : wpX_badNumber post (sz, tr, rd, mu, pl, dn, ht, ip, tp, ch, co, cn, a1, a2, a3, a4, a5, a6, a7, a8, a9, a10, a11, a12, a13) (nI w) n := by
  refine pk_eq w 0 (fun e => ?_) (fun e0 => pk_eq w 8 (fun e => ?_) (fun e8 => pk_eq w 9 (fun e => ?_) (fun e9 => ?_)))
  · exact br_c (fun _ => H1) (fun _ => br_c (fun _ => H0 (mr_ok_lt (by omega) _)) (fun _ => H1))
  · refine br_c (fun _ => H1) (fun g => br_c (fun g3 => ?_) (fun _ => H1))
    obtain ⟨y, hy, en⟩ := nI_of2 (n := 3) (by decide) g g3
    subst e
    exact H0 (mr_ok8 hy en)
  · refine br_c (fun _ => H1) (fun g => br_c (fun g3 => ?_) (fun _ => H1))
    obtain ⟨y, hy, en⟩ := nI_of2 (n := 9) (by decide) g g3
    subst e
    exact H0 (mr_ok9 hy en)
  · exact H0 (mr_ok_lt (by omega) _)
theorem mr_69 {post : Int32 → St1 → Prop} {rd mu pl dn ht ip tp ch co cn : Int32} {a1 a2 a3 a4 a5 a6 a7 a8 a9 a10 a11 a12 a13 : Nat → Int32} {s t : Nat} {w n : Int32} (hs : s < 10) (h : mr_I1 s t a1 a2 a3) (ho : mr_ok w n)
    (H : ∀ (r : Int32) (s' : Nat) (b1 b2 : Nat → Int32), mr_I1 s' t b1 b2 a3 → post r (nI s', nI t, 0, mu, pl, dn, ht, ip, tp, ch, co, cn, b1, b2, a3, a4, a5, a6, a7, a8, a9, a10, a11, a12, a13)) : wX_append_69 post n (nI s) (nI s) (nI t) rd mu pl dn ht ip tp ch co cn (upd a1 s w) a2 a3 a4 a5 a6 a7 a8 a9 a10 a11 a12 a13 := by
  obtain ⟨h1, h2, h3, h4⟩ := h
  refine ⟨pk_in s 10 hs, nm_r (by rw [nI_clamp (by omega)]) (nm_r (nI_1 s) (H _ (s + 1) (upd a1 s w) (upd a2 s n) ⟨by omega, h2, fun j hj => ?_, h4⟩))⟩
  by_cases e : j = s
  · subst e
    rw [pk_us, pk_us]
    exact ho
  · rw [pk_un e, pk_un e]
    exact h3 j (by omega)
theorem mr_append {post : Int32 → St1 → Prop} {mu pl dn ht ip tp ch co cn : Int32} {a1 a2 a3 a4 a5 a6 a7 a8 a9 a10 a11 a12 a13 : Nat → Int32} {s t : Nat} {p0 p1 : Int32} (h : mr_I1 s t a1 a2 a3)
    (H : ∀ (r : Int32) (s' : Nat) (b1 b2 : Nat → Int32), mr_I1 s' t b1 b2 a3 → post r (nI s', nI t, 0, mu, pl, dn, ht, ip, tp, ch, co, cn, b1, b2, a3, a4, a5, a6, a7, a8, a9, a10, a11, a12, a13)) : wpX_append post (nI s, nI t, 0, mu, pl, dn, ht, ip, tp, ch, co, cn, a1, a2, a3, a4, a5, a6, a7, a8, a9, a10, a11, a12, a13) p0 p1 := by
  have hs := h.1
  have N : ∀ r, post r (nI s, nI t, 0, mu, pl, dn, ht, ip, tp, ch, co, cn, a1, a2, a3, a4, a5, a6, a7, a8, a9, a10, a11, a12, a13) := fun r => H r s a1 a2 h
  refine br_c (fun _ => N _) (fun g0 => br_c (fun _ => N _) (fun g9 => ?_))
  obtain ⟨w, hw, ew⟩ := nI_of2 (M := 9) (n := 9) (by decide) g0 (Int32.not_lt.mp g9)
  subst ew
  refine mr_badNum hw (br_f (by decide) (N _)) (fun ho => br_t rfl (pk_eq s 10 (fun _ => N _) (fun e => ⟨pk_in s 10 (by omega), nm_r (by rw [nI_clamp (by omega)]) ?_⟩)))
  refine pk_eq w 0 (fun _ => ?_) (fun _ => pk_lt w 8 (fun z => mr_69 (by omega) h (mr_ok_lt z _) H) (fun _ => ?_))
  · unfold wX_append_64
    exact mr_69 (by omega) h ho H
  · unfold wX_append_64
    exact mr_69 (by omega) h ho H
theorem mr_trial {post : Int32 → St1 → Prop} {mu pl dn ht ip tp ch co cn : Int32} {a1 a2 a3 a4 a5 a6 a7 a8 a9 a10 a11 a12 a13 : Nat → Int32} {s t : Nat} {p0 : Int32} (h : mr_I1 s t a1 a2 a3)
    (HN : ∀ r : Int32, r ≤ 0 → post r (nI s, nI t, 0, mu, pl, dn, ht, ip, tp, ch, co, cn, a1, a2, a3, a4, a5, a6, a7, a8, a9, a10, a11, a12, a13)) (HY : ∀ b3 : Nat → Int32, mr_I1 s (t + 1) a1 a2 b3 → post (nI (t + 1)) (nI s, nI (t + 1), 0, mu, pl, dn, ht, ip, tp, ch, co, cn, a1, a2, b3, a4, a5, a6, a7, a8, a9, a10, a11, a12, a13)) : wpX_trial post (nI s, nI t, 0, mu, pl, dn, ht, ip, tp, ch, co, cn, a1, a2, a3, a4, a5, a6, a7, a8, a9, a10, a11, a12, a13) p0 := by
  obtain ⟨h1, h2, h3, h4⟩ := h
  have X : ∀ y : Nat, y < 16 → p0 = nI y - 8 → ∃ n, wX_trial_14 post p0 (nI s) (nI t) 0 mu pl dn ht ip tp ch co cn a1 a2 a3 a4 a5 a6 a7 a8 a9 a10 a11 a12 a13 n 0 := by
    intro y hy ey
    refine pk_loop (σ := Unit) (fun n i _ => wX_trial_14 post p0 (nI s) (nI t) 0 mu pl dn ht ip tp ch co cn a1 a2 a3 a4 a5 a6 a7 a8 a9 a10 a11 a12 a13 n (nI i)) (fun _ _ => True) t 0 () (by omega) trivial (fun n _ _ => pk_le t t (fun _ => pk_eq t 6 (fun _ => HN _ (by decide)) (fun e => ⟨pk_in t 6 (by omega), nm_r (by rw [nI_clamp (by omega)]) (nm_r (nI_1 t) (HY _ ⟨h1, by omega, h3, fun j hj => ?_⟩))⟩)) (fun z => absurd z (by omega)))
      (fun n i _ hi _ hw => pk_le t i (fun z => absurd z (by omega)) (fun _ => ⟨pk_in i 6 (by omega), br_c (fun _ => HN _ (by decide)) (fun _ => nm_r (nI_1 i) (hw () trivial))⟩))
    by_cases g : j = t
    · subst g
      rw [pk_us, ey]
      exact ⟨y, hy, mr_i3 y hy⟩
    · rw [pk_un g]
      exact h4 j (by omega)
  unfold wpX_trial
  refine br_c (fun _ => br_f (by decide) (HN _ (by decide))) (fun g1 => br_c (fun g2 => br_t rfl ?_) (fun _ => br_f (by decide) (HN _ (by decide))))
  obtain ⟨y, hy, ey⟩ := mr_rng g1 g2
  exact X y hy ey
theorem mr_turn {post : Int32 → St1 → Prop} {mu pl dn ht ip tp ch co cn : Int32} {a1 a2 a3 a4 a5 a6 a7 a8 a9 a10 a11 a12 a13 : Nat → Int32} {s t o : Nat} {p1 p2 : Int32} (h : mr_I1 s t a1 a2 a3) (ho : p1 &&& 31 = nI o) (h32 : o < 32)
    (H : ∀ (r : Int32) (s' t' : Nat) (b1 b2 b3 : Nat → Int32), mr_I1 s' t' b1 b2 b3 → (o ≤ 23 → t' = t) → (24 ≤ o → o ≤ 30 → (r = nI t' ∧ 0 < t') ∨ (r ≤ 0 ∧ t' = t)) → (o = 31 → p2 &&& 3 = 0 → t' = 0) → (o = 31 → ¬ p2 &&& 3 = 0 → t' = t) → post r (nI s', nI t', 0, mu, pl, dn, ht, ip, tp, ch, co, cn, b1, b2, b3, a4, a5, a6, a7, a8, a9, a10, a11, a12, a13)) :
    wpL_turn post (nI s, nI t, 0, mu, pl, dn, ht, ip, tp, ch, co, cn, a1, a2, a3, a4, a5, a6, a7, a8, a9, a10, a11, a12, a13) p1 p2 := by
  obtain ⟨h1, h2, h3, h4⟩ := h
  have h : mr_I1 s t a1 a2 a3 := ⟨h1, h2, h3, h4⟩
  have A : o ≤ 23 → ∀ (r : Int32) (s' : Nat) (b1 b2 : Nat → Int32), mr_I1 s' t b1 b2 a3 → post r (nI s', nI t, 0, mu, pl, dn, ht, ip, tp, ch, co, cn, b1, b2, a3, a4, a5, a6, a7, a8, a9, a10, a11, a12, a13) := fun z r s' b1 b2 hb => H r s' t b1 b2 a3 hb (fun _ => rfl) (fun g => absurd g (by omega)) (fun g => absurd g (by omega)) (fun g => absurd g (by omega))
  refine nm_r ho (pk_eq o 0 (fun e => ?_) (fun e0 => pk_le 7 o (fun z7 => pk_le 10 o (fun z10 => pk_le 18 o (fun z18 => pk_le 22 o (fun z22 => pk_eq o 22 (fun e => ?_) (fun e22 => pk_eq o 23 (fun e => ⟨by decide, ?_⟩) (fun e23 => pk_le 31 o (fun z31 => ?_) (fun z31 => ?_)))) (fun z22 => ?_)) (fun z18 => ?_)) (fun z10 => ?_)) (fun z7 => ?_)))
  · exact A (by omega) 0 0 a1 a2 ⟨by omega, h2, fun j hj => absurd hj (by omega), h4⟩
  · exact mr_append h (A (by omega))
  · exact mr_append h (A (by omega))
  · refine br_c (fun g => ?_) (fun g => ?_)
    · exact H 0 s 0 a1 a2 a3 ⟨h1, by omega, h3, fun j hj => absurd hj (by omega)⟩ (fun q => absurd q (by omega)) (fun _ q => absurd q (by omega)) (fun _ _ => rfl) (fun _ q => absurd g q)
    · exact H 0 s t a1 a2 a3 h (fun _ => rfl) (fun _ q => absurd q (by omega)) (fun _ q => absurd q g) (fun _ _ => rfl)
  · exact mr_trial h (fun r hr => H r s t a1 a2 a3 h (fun _ => rfl) (fun _ _ => Or.inr ⟨hr, rfl⟩) (fun q => absurd q (by omega)) (fun q => absurd q (by omega))) (fun b3 hb => H _ s (t + 1) a1 a2 b3 hb (fun q => absurd q (by omega)) (fun _ _ => Or.inl ⟨rfl, by omega⟩) (fun q => absurd q (by omega)) (fun q => absurd q (by omega)))
  · exact mr_append h (A (by omega))
  · exact mr_append h (A (by omega))
  · exact mr_append h (A (by omega))
  · exact mr_append h (A (by omega))
end
section
theorem mr_66 {post : Int32 → Prop} {L : Nat} {xs : Nat → Int32} {J : Int32 → Int32 → Int32 → Int32 → Int32 → Int32 → Int32 → Int32 → Int32 → Int32 → Int32 → Int32 → Int32 → Int32 → (Nat → Int32) → (Nat → Int32) → (Nat → Int32) → (Nat → Int32) → (Nat → Int32) → (Nat → Int32) → (Nat → Int32) → (Nat → Int32) → (Nat → Int32) → (Nat → Int32) → (Nat → Int32) → (Nat → Int32) → (Nat → Int32) → Prop} {kc ks : Nat} {sz tr rd mu pl dn ht ip tp ch co cn : Int32} {a1 a2 a3 a4 a5 a6 a7 a8 a9 a10 a11 a12 a13 : Nat → Int32} {k o : Nat} {x2 : Int32} (h32 : o < 32) (hk : k + 1 < L) (hL : L ≤ 260)
    (Ha : o = 31 → xs (nI k + 1).toNatClampNeg &&& 3 = 0 → J 0 (nI (k + 2)) sz tr rd mu pl dn ht ip tp ch co cn a1 a2 a3 a4 a5 a6 a7 a8 a9 a10 a11 a12 a13) (Hb : (o = 31 → ¬ xs (nI k + 1).toNatClampNeg &&& 3 = 0) → J x2 (nI (k + 2)) sz tr rd mu pl dn ht ip tp ch co cn a1 a2 a3 a4 a5 a6 a7 a8 a9 a10 a11 a12 a13) : wL_law_66 post L xs J x2 (nI k) (nI o) kc ks sz tr rd mu pl dn ht ip tp ch co cn a1 a2 a3 a4 a5 a6 a7 a8 a9 a10 a11 a12 a13 :=
  pk_eq o 31 (fun e => ⟨pk_in (k + 1) L hk (nI_1 k), br_c (fun g => nm_r (nI_add k 2) (Ha e g)) (fun g => nm_r (nI_add k 2) (Hb (fun _ => g)))⟩) (fun e => nm_r (nI_add k 2) (Hb (fun q => absurd q e)))
theorem mr_12 {post : Int32 → Prop} {L : Nat} {xs : Nat → Int32} {kc ks : Nat} (hL : L ≤ 260) (H : post 1) :
    ∀ (n k s t : Nat) (mu pl dn ht ip tp ch co cn : Int32) (a1 a2 a3 a4 a5 a6 a7 a8 a9 a10 a11 a12 a13 : Nat → Int32), L < n + k → k ≤ L → mr_I1 s t a1 a2 a3 → wL_law_12 post L xs kc ks n (nI t) (nI k) (nI s) (nI t) 0 mu pl dn ht ip tp ch co cn a1 a2 a3 a4 a5 a6 a7 a8 a9 a10 a11 a12 a13 := by
  intro n
  induction n with
  | zero =>
    intro k s t mu pl dn ht ip tp ch co cn a1 a2 a3 a4 a5 a6 a7 a8 a9 a10 a11 a12 a13 hn hk
    omega
  | succ n ih =>
    intro k s t mu pl dn ht ip tp ch co cn a1 a2 a3 a4 a5 a6 a7 a8 a9 a10 a11 a12 a13 hn hk h
    refine pk_le L (k + 1) (fun z => ?_) (fun z => ?_) rfl (nI_1 k)
    · exact mr_mutants h.1 h.2.2.1 (fun M R T O pl dn ht ip tp ch co cn a4 a5 a6 a7 a8 a9 a10 a11 a12 a13 hr => ⟨M + 1, mr_109 h.2.1 h.2.2.2 hr H M 0 (by omega) _ _ _ _ _ _ _ _ _ _ _ _ _⟩)
    · obtain ⟨o, h32, ho⟩ := pk_andE (xs (nI k).toNatClampNeg) (m := 31) 5 (by decide)
      refine ⟨pk_in k L (by omega), nm_r ho ⟨pk_in k L (by omega), pk_in (k + 1) L (by omega) (nI_1 k), mr_turn h ho h32 (fun r s' t' b1 b2 b3 h' q1 q2 q3 q4 => ?_)⟩⟩
      have X : ∀ x : Int32, (x = nI t') → wL_law_12 post L xs kc ks n x (nI (k + 2)) (nI s') (nI t') 0 mu pl dn ht ip tp ch co cn b1 b2 b3 a4 a5 a6 a7 a8 a9 a10 a11 a12 a13 := by
        intro x ex
        rw [ex]
        exact ih (k + 2) s' t' _ _ _ _ _ _ _ _ _ _ _ _ _ _ _ _ _ _ _ _ _ _ (by omega) (by omega) h'
      refine pk_le o 23 (fun z23 => ?_) (fun z23 => pk_le 31 o (fun z31 => ?_) (fun z31 => ?_))
      · exact mr_66 h32 z hL (fun e => absurd e (by omega)) (fun _ => X _ (by rw [q1 z23]))
      · exact mr_66 h32 z hL (fun e g => X _ (by rw [q3 e g]; rfl)) (fun g => X _ (by rw [q4 (by omega) (g (by omega))]))
      · rcases q2 (by omega) (by omega) with ⟨er, hp⟩ | ⟨er, et⟩
        · have ht' := h'.2.1
          refine br_f (by rw [er]; exact nI_nle hp (by omega)) (nm_r (nI_add k 2) (X _ er))
        · exact br_t er (mr_66 h32 z hL (fun e => absurd e (by omega)) (fun _ => X _ (by rw [et])))
theorem i_vc (xs : Nat → Int32) (L : Nat) (hL : L ≤ 260) : wpL_law (fun r => r = 1) L xs := by
  have h0 : mr_I1 1 0 (upd (fun _ => 0) 0 1) (fun _ => 0) (fun _ => 0) := ⟨by omega, by omega, fun j hj => by
    have e : j = 0 := by omega
    subst e
    rw [pk_us]
    exact mr_ok_lt (k := 1) (by omega) _, fun j hj => absurd hj (by omega)⟩
  refine ⟨13, 258, by omega, by omega, ?_⟩
  refine ⟨by omega, by omega, by omega, by omega, by omega, by omega, by omega, by omega, by omega, by omega, by omega, by omega, by omega, by omega, by omega, by omega, by omega, by omega, by omega, by omega, by omega, by omega, by omega, by omega, by omega, by omega, nm_e ⟨L + 1, ?_⟩⟩
  exact mr_12 (post := fun r => r = 1) hL rfl (L + 1) 0 1 0 _ _ _ _ _ _ _ _ _ _ _ _ _ _ _ _ _ _ _ _ _ _ (by omega) (by omega) h0
end
