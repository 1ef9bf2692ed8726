section
section
variable {mk pf pl ac cc al st dp : Int32} {a1 a2 a3 a4 a5 a6 a7 a8 a9 a10 a11 a12 a13 : Nat → Int32}
/-- the store of contents: m are made; nothing is 0; the table holds contents -/
def qs_ok (m : Nat) (a1 a3 a4 : Nat → Int32) : Prop :=
  1 ≤ m ∧ a1 0 = 0 ∧ (∀ n, n < 4 → a3 n = 0) ∧ (∀ i, i < 2048 → a4 i = -1 ∨ ∃ j, 1 ≤ j ∧ j < m ∧ a4 i = nI j)
/-- what stood below m stands -/
def qs_ext (m : Nat) (a1 a2 a3 b1 b2 b3 : Nat → Int32) : Prop :=
  (∀ j, j < m → b1 j = a1 j ∧ b2 j = a2 j) ∧ ∀ j, j < 4 * m → b3 j = a3 j
/-- the fields of a content -/
def qs_is (a1 a2 a3 : Nat → Int32) (k : Nat) (kd x p q r s : Int32) : Prop :=
  a1 k = kd ∧ a2 k = x ∧ a3 (4 * k) = p ∧ a3 (4 * k + 1) = q ∧ a3 (4 * k + 2) = r ∧ a3 (4 * k + 3) = s
theorem qs_ext_r {m : Nat} : qs_ext m a1 a2 a3 a1 a2 a3 := ⟨fun _ _ => ⟨rfl, rfl⟩, fun _ _ => rfl⟩
theorem qs_ext_t {m m' : Nat} {b1 b2 b3 c1 c2 c3 : Nat → Int32} (h : qs_ext m a1 a2 a3 b1 b2 b3) (h' : qs_ext m' b1 b2 b3 c1 c2 c3) (hm : m ≤ m') : qs_ext m a1 a2 a3 c1 c2 c3 :=
  ⟨fun j hj => ⟨(h'.1 j (by omega)).1.trans (h.1 j hj).1, (h'.1 j (by omega)).2.trans (h.1 j hj).2⟩, fun j hj => (h'.2 j (by omega)).trans (h.2 j hj)⟩
theorem qs_nm1 {j : Nat} (h : j < 2 ^ 31) : ¬ nI j = -1 := by
  intro e
  have z := nI_pos h
  rw [e] at z
  exact z (by decide)
theorem qs_4 (m n : Nat) : (4 : Int32) * nI m + nI n = nI (4 * m + n) := by
  rw [show (4 : Int32) * nI m = nI (4 * m) from pk_mul 4 m, nI_add]
theorem qs_40 (m : Nat) : (4 : Int32) * nI m = nI (4 * m) := pk_mul 4 m
theorem qs_u4 {m j : Nat} {p q r s : Int32} (hj : j < 4 * m) : upd (upd (upd (upd a3 (4 * m) p) (4 * m + 1) q) (4 * m + 2) r) (4 * m + 3) s j = a3 j := by
  rw [pk_un (by omega), pk_un (by omega), pk_un (by omega), pk_un (by omega)]
theorem qs_new {m h : Nat} {kd x p q r s : Int32} (hok : qs_ok m a1 a3 a4) :
    qs_ok (m + 1) (upd a1 m kd) (upd (upd (upd (upd a3 (4 * m) p) (4 * m + 1) q) (4 * m + 2) r) (4 * m + 3) s) (upd a4 h (nI m))
    ∧ qs_ext m a1 a2 a3 (upd a1 m kd) (upd a2 m x) (upd (upd (upd (upd a3 (4 * m) p) (4 * m + 1) q) (4 * m + 2) r) (4 * m + 3) s)
    ∧ qs_is (upd a1 m kd) (upd a2 m x) (upd (upd (upd (upd a3 (4 * m) p) (4 * m + 1) q) (4 * m + 2) r) (4 * m + 3) s) m kd x p q r s := by
  obtain ⟨h1, h2, h3, h4⟩ := hok
  refine ⟨⟨by omega, ?_, ?_, ?_⟩, ⟨?_, ?_⟩, ?_, ?_, ?_, ?_, ?_, ?_⟩
  · rw [pk_un (by omega)]
    exact h2
  · intro n hn
    rw [qs_u4 (by omega)]
    exact h3 n hn
  · intro i hi
    by_cases e : i = h
    · rw [e, pk_us]
      exact Or.inr ⟨m, h1, by omega, rfl⟩
    · rw [pk_un e]
      rcases h4 i hi with z | ⟨j, j1, j2, z⟩
      · exact Or.inl z
      · exact Or.inr ⟨j, j1, by omega, z⟩
  · intro j hj
    rw [pk_un (by omega), pk_un (by omega)]
    exact ⟨rfl, rfl⟩
  · intro j hj
    exact qs_u4 hj
  · exact pk_us
  · exact pk_us
  · rw [pk_un (by omega), pk_un (by omega), pk_un (by omega), pk_us]
  · rw [pk_un (by omega), pk_un (by omega), pk_us]
  · rw [pk_un (by omega), pk_us]
  · exact pk_us
theorem qs_make {post : Int32 → St2 → Prop} {m h : Nat} {kd x p q r s : Int32} (hok : qs_ok m a1 a3 a4) (hm : m < 1024) (hh : h < 2048)
    (H : ∀ (k m' : Nat) (b1 b2 b3 b4 : Nat → Int32), m ≤ m' → m' ≤ m + 1 → 1 ≤ k → k < m' → qs_ok m' b1 b3 b4 → qs_ext m a1 a2 a3 b1 b2 b3 → qs_is b1 b2 b3 k kd x p q r s → post (nI k) (nI m', pf, pl, ac, cc, al, st, dp, b1, b2, b3, b4, a5, a6, a7, a8, a9, a10, a11, a12, a13)) :
    wX_content_125 post kd x p q r s (nI h) (nI m) pf pl ac cc al st dp a1 a2 a3 a4 a5 a6 a7 a8 a9 a10 a11 a12 a13 := by
  have hn := qs_new (a1 := a1) (a2 := a2) (a3 := a3) (a4 := a4) (h := h) (kd := kd) (x := x) (p := p) (q := q) (r := r) (s := s) hok
  have e1 : nI (4 * m) + 1 = nI (4 * m + 1) := nI_add (4 * m) 1
  have e2 : nI (4 * m) + 2 = nI (4 * m + 2) := nI_add (4 * m) 2
  have e3 : nI (4 * m) + 3 = nI (4 * m + 3) := nI_add (4 * m) 3
  unfold wX_content_125
  rw [qs_40, e1, e2, e3, nI_1 m, nI_clamp (show m < 2 ^ 31 by omega), nI_clamp (show 4 * m < 2 ^ 31 by omega), nI_clamp (show 4 * m + 1 < 2 ^ 31 by omega), nI_clamp (show 4 * m + 2 < 2 ^ 31 by omega), nI_clamp (show 4 * m + 3 < 2 ^ 31 by omega), nI_clamp (show h < 2 ^ 31 by omega)]
  exact ⟨pk_in m 1024 hm, nm_e ⟨pk_in m 1024 hm, nm_e ⟨pk_in (4 * m) 4096 (by omega), nm_e ⟨pk_in (4 * m + 1) 4096 (by omega), nm_e ⟨pk_in (4 * m + 2) 4096 (by omega), nm_e ⟨pk_in (4 * m + 3) 4096 (by omega), nm_e ⟨pk_in h 2048 hh, nm_e (nm_e (H m (m + 1) _ _ _ _ (by omega) (by omega) hok.1 (by omega) hn.1 hn.2.1 hn.2.2))⟩⟩⟩⟩⟩⟩⟩
theorem qs_hash {post : Int32 → Prop} {p0 p1 p2 p3 p4 p5 : Int32} (H : ∀ h : Nat, h < 2048 → post (nI h)) : wpX_hash post (mk, pf, pl, ac, cc, al, st, dp, a1, a2, a3, a4, a5, a6, a7, a8, a9, a10, a11, a12, a13) p0 p1 p2 p3 p4 p5 := by
  have key : ∀ y : Int32, post (y &&& 2047) := fun y => by
    obtain ⟨h, hh, eh⟩ := pk_andE y (m := 2047) 11 (by decide)
    rw [eh]
    exact H h (by omega)
  unfold wpX_hash
  dsimp only
  intro _ _ _ _ _ _ _ _ _ _
  exact key _
theorem qs_content {post : Int32 → St2 → Prop} {m : Nat} {kd x p q r s : Int32} (hok : qs_ok m a1 a3 a4) (hm : m < 1024)
    (H : ∀ (k m' : Nat) (b1 b2 b3 b4 : Nat → Int32), m ≤ m' → m' ≤ m + 1 → 1 ≤ k → k < m' → qs_ok m' b1 b3 b4 → qs_ext m a1 a2 a3 b1 b2 b3 → qs_is b1 b2 b3 k kd x p q r s → post (nI k) (nI m', pf, pl, ac, cc, al, st, dp, b1, b2, b3, b4, a5, a6, a7, a8, a9, a10, a11, a12, a13)) :
    wpX_content post (nI m, pf, pl, ac, cc, al, st, dp, a1, a2, a3, a4, a5, a6, a7, a8, a9, a10, a11, a12, a13) kd x p q r s := by
  unfold wpX_content
  dsimp only
  refine qs_hash (fun h hh => ?_)
  refine pk_loop (fun n i h => wX_content_18 post kd x p q r s (nI m) pf pl ac cc al st dp a1 a2 a3 a4 a5 a6 a7 a8 a9 a10 a11 a12 a13 n (nI h) (nI i)) (fun _ h => h < 2048) 2048 0 h (by omega) hh (fun n h hh => ?_) (fun n i h hi hh hw => ?_)
  · exact pk_le 2048 2048 (fun _ => qs_make hok hm hh H) (fun z => absurd z (by omega))
  · have back : wX_content_109 post (wX_content_18 post kd x p q r s (nI m) pf pl ac cc al st dp a1 a2 a3 a4 a5 a6 a7 a8 a9 a10 a11 a12 a13 n) kd x p q r s (nI h) (nI i) (nI m) pf pl ac cc al st dp a1 a2 a3 a4 a5 a6 a7 a8 a9 a10 a11 a12 a13 := by
      obtain ⟨h', hh', eh'⟩ := pk_andE (nI h + 1) (m := 2047) 11 (by decide)
      exact nm_r eh' (nm_r (nI_1 i) (hw h' (by omega)))
    have ch : (nI h).toNatClampNeg = h := nI_clamp (by omega)
    refine pk_le 2048 i (fun z => absurd z (by omega)) (fun _ => ⟨pk_in h 2048 hh, ?_⟩)
    rcases hok.2.2.2 h hh with e | ⟨j, j1, j2, e⟩
    · exact br_t (by rw [ch]; exact e) (qs_make hok hm hh H)
    · have cj : (nI j).toNatClampNeg = j := nI_clamp (by omega)
      have c0 : ((4 : Int32) * nI j).toNatClampNeg = 4 * j := pk_cl (4 * j) (qs_40 j)
      have c1 : ((4 : Int32) * nI j + 1).toNatClampNeg = 4 * j + 1 := pk_cl (4 * j + 1) (qs_4 j 1)
      have c2 : ((4 : Int32) * nI j + 2).toNatClampNeg = 4 * j + 2 := pk_cl (4 * j + 2) (qs_4 j 2)
      have c3 : ((4 : Int32) * nI j + 3).toNatClampNeg = 4 * j + 3 := pk_cl (4 * j + 3) (qs_4 j 3)
      refine br_f (by rw [ch, e]; exact qs_nm1 (by omega)) ⟨pk_in h 2048 hh, nm_r (e' := nI j) (by rw [ch]; exact e) ?_⟩
      unfold wpX_isThat
      dsimp only
      rw [cj, c0]
      refine ⟨pk_in j 1024 (by omega), br_c (fun k1 => ⟨pk_in j 1024 (by omega), br_c (fun k2 => ⟨pk_in (4 * j) 4096 (by omega) (qs_40 j), br_c (fun k3 => br_f (by decide) ?_) (fun _ => br_t rfl back)⟩) (fun _ => br_t rfl back)⟩) (fun _ => br_t rfl back)⟩
      rw [c1, c2, c3]
      exact ⟨pk_in (4 * j + 1) 4096 (by omega) (qs_4 j 1), br_c (fun k4 => ⟨pk_in (4 * j + 2) 4096 (by omega) (qs_4 j 2), br_c (fun k5 => ⟨pk_in (4 * j + 3) 4096 (by omega) (qs_4 j 3), br_c (fun k6 => H j m a1 a2 a3 a4 (by omega) (by omega) j1 j2 hok qs_ext_r ⟨k1, k2, k3, k4, k5, k6⟩) (fun _ => back)⟩) (fun _ => back)⟩) (fun _ => back)⟩
end
end
section
section
variable {mk pf pl ac cc al st dp : Int32} {a1 a2 a3 a4 a5 a6 a7 a8 a9 a10 a11 a12 a13 : Nat → Int32}
/-- a root R whose four contents v 0 .. v 3 hold nothing -/
def qs_flat (m : Nat) (a3 : Nat → Int32) (R : Nat) (v : Nat → Nat) : Prop :=
  R < m ∧ ∀ n, n < 4 → v n < m ∧ a3 (4 * R + n) = nI (v n) ∧ ∀ i, i < 4 → a3 (4 * v n + i) = 0
/-- the trees 0, 1, 2 are flat and hold V -/
def qs_T (m : Nat) (a3 a6 : Nat → Int32) (V : Nat → Nat → Nat) : Prop := ∀ t, t < 3 → ∃ R, a6 t = nI R ∧ qs_flat m a3 R (V t)
def qs_at (v : Nat → Nat) (p : Nat) : Nat := if p < 4 then v p else 0
def qs_par (p : Nat) : Nat := if p < 20 then (p - 4) / 4 else 4 + (p - 20) / 4
theorem qs_flat_e {m m' R : Nat} {v : Nat → Nat} {b1 b2 b3 : Nat → Int32} (h : qs_flat m a3 R v) (e : qs_ext m a1 a2 a3 b1 b2 b3) (hm : m ≤ m') : qs_flat m' b3 R v := by
  obtain ⟨h1, h2⟩ := h
  refine ⟨by omega, fun n hn => ?_⟩
  obtain ⟨k1, k2, k3⟩ := h2 n hn
  refine ⟨by omega, ?_, fun i hi => ?_⟩
  · rw [e.2 _ (by omega)]
    exact k2
  · rw [e.2 _ (by omega)]
    exact k3 i hi
theorem qs_T_e {m m' : Nat} {V : Nat → Nat → Nat} {b1 b2 b3 : Nat → Int32} (h : qs_T m a3 a6 V) (e : qs_ext m a1 a2 a3 b1 b2 b3) (hm : m ≤ m') : qs_T m' b3 a6 V := by
  intro t ht
  obtain ⟨R, h1, h2⟩ := h t ht
  exact ⟨R, h1, qs_flat_e h2 e hm⟩
theorem qs_T_c {m : Nat} {V V' : Nat → Nat → Nat} (h : qs_T m a3 a6 V) (e : ∀ t n, t < 3 → n < 4 → V' t n = V t n) : qs_T m a3 a6 V' := by
  intro t ht
  obtain ⟨R, h1, h2, h3⟩ := h t ht
  refine ⟨R, h1, h2, fun n hn => ?_⟩
  rw [e t n ht hn]
  exact h3 n hn
theorem qs_at_lt {m R p : Nat} {v : Nat → Nat} (h : qs_flat m a3 R v) : qs_at v p < m := by
  unfold qs_at
  split
  · rename_i z
    exact (h.2 p z).1
  · have := h.1
    omega
theorem qs_parentOf {post : Int32 → Prop} {p : Nat} (hp : p < 84) (H0 : p < 4 → post (-1)) (H1 : 4 ≤ p → post (nI (qs_par p))) : wpX_parentOf post (mk, pf, pl, ac, cc, al, st, dp, a1, a2, a3, a4, a5, a6, a7, a8, a9, a10, a11, a12, a13) (nI p) := by
  unfold wpX_parentOf
  dsimp only
  refine pk_le 4 p (fun h4 => pk_le 20 p (fun h20 => ⟨by decide, ?_⟩) (fun h20 => ⟨by decide, ?_⟩)) (fun h => H0 h)
  · have e1 : nI p - 20 = nI (p - 20) := pk_sub (b := 20) h20
    have e2 : nI (p - 20) / 4 = nI ((p - 20) / 4) := pk_div (d := 4) (by omega) (by omega) (by omega)
    have e3 : (4 : Int32) + nI ((p - 20) / 4) = nI (4 + (p - 20) / 4) := nI_add 4 _
    have e : qs_par p = 4 + (p - 20) / 4 := if_neg (by omega)
    have z := H1 h4
    rw [e] at z
    rw [e1, e2, e3]
    exact z
  · have e1 : nI p - 4 = nI (p - 4) := pk_sub (b := 4) h4
    have e2 : nI (p - 4) / 4 = nI ((p - 4) / 4) := pk_div (d := 4) (by omega) (by omega) (by omega)
    have e : qs_par p = (p - 4) / 4 := if_pos (by omega)
    have z := H1 h4
    rw [e] at z
    rw [e1, e2]
    exact z
theorem qs_name {p : Nat} (hp : p < 84) : nI p &&& 3 = nI (p % 4) := pk_andN (m := 3) (by omega) 2 (by decide)
theorem qs_63s {post : St2 → Prop} {d k c n fu : Nat} {z : Int32} (hk : k < d) (hd : d ≤ 3) (hc : c < 1024) (hn : n < 4) (e12 : a12 k = nI c) (e13 : a13 k = nI n) (ez : a3 (4 * c + n) = z)
    (H : wX_findWay_63 post mk pf pl ac cc al st (nI d) fu (nI (k + 1)) a1 a2 a3 a4 a5 a6 a7 a8 a9 a10 a11 (upd a12 (k + 1) z) a13) : wX_findWay_63 post mk pf pl ac cc al st (nI d) (fu + 1) (nI k) a1 a2 a3 a4 a5 a6 a7 a8 a9 a10 a11 a12 a13 := by
  have ck : (nI k).toNatClampNeg = k := nI_clamp (by omega)
  have ck1 : (nI k + 1).toNatClampNeg = k + 1 := pk_cl (k + 1) (nI_1 k)
  have c4 : (nI (4 * c + n)).toNatClampNeg = 4 * c + n := nI_clamp (by omega)
  refine pk_le d k (fun z => absurd z (by omega)) (fun _ => ⟨pk_in k 4 (by omega), pk_in k 3 (by omega), ?_, pk_in (k + 1) 4 (by omega) (nI_1 k), nm_r ?_ (nm_r (nI_1 k) H)⟩)
  · rw [ck, e12, e13, qs_4]
    exact pk_in (4 * c + n) 4096 (by omega)
  · rw [ck, ck1, e12, e13, qs_4, c4, ez]
theorem qs_63e {post : St2 → Prop} {d fu : Nat} (hd : d ≤ 3) (H : post (mk, pf, pl, ac, cc, al, st, nI d, a1, a2, a3, a4, a5, a6, a7, a8, a9, a10, a11, a12, a13)) : wX_findWay_63 post mk pf pl ac cc al st (nI d) (fu + 1) (nI d) a1 a2 a3 a4 a5 a6 a7 a8 a9 a10 a11 a12 a13 :=
  pk_le d d (fun _ => H) (fun z => absurd z (by omega))
theorem qs_19s {post : St2 → Prop} {t : Int32} {p k fu : Nat} (hp : p < 84) (h4 : 4 ≤ p) (hk : k < 2)
    (H : wX_findWay_19 post t mk pf pl ac cc al st dp fu (nI (qs_par p)) (nI k) a1 a2 a3 a4 a5 a6 a7 a8 a9 a10 a11 a12 (upd a13 (k + 1) (nI (p % 4)))) : wX_findWay_19 post t mk pf pl ac cc al st dp (fu + 1) (nI p) (nI (k + 1)) a1 a2 a3 a4 a5 a6 a7 a8 a9 a10 a11 a12 a13 := by
  refine pk_lt (k + 1) 0 (fun z => absurd z (by omega)) (fun _ => ?_)
  unfold wpX_nameOf
  dsimp only
  refine ⟨pk_in (k + 1) 3 (by omega), nm_r (e' := upd a13 (k + 1) (nI (p % 4))) (by rw [nI_clamp (by omega), qs_name hp]) ?_⟩
  exact qs_parentOf hp (fun z => absurd z (by omega)) (fun _ => nm_r (pk_m1 k) H)
theorem qs_19l {post : St2 → Prop} {t : Int32} {p fu : Nat} (hp : p < 84)
    (H : ∀ r : Int32, wX_findWay_19 post t mk pf pl ac cc al st dp fu r (-1) a1 a2 a3 a4 a5 a6 a7 a8 a9 a10 a11 a12 (upd a13 0 (nI (p % 4)))) : wX_findWay_19 post t mk pf pl ac cc al st dp (fu + 1) (nI p) (nI 0) a1 a2 a3 a4 a5 a6 a7 a8 a9 a10 a11 a12 a13 := by
  refine pk_lt 0 0 (fun z => absurd z (by omega)) (fun _ => ?_)
  unfold wpX_nameOf
  dsimp only
  refine ⟨pk_in 0 3 (by omega), nm_r (e' := upd a13 0 (nI (p % 4))) (by rw [nI_clamp (by omega), qs_name hp]) ?_⟩
  exact qs_parentOf hp (fun z => nm_r (e' := -1) (by decide) (H _)) (fun _ => nm_r (e' := -1) (by decide) (H _))
theorem qs_19e {post : St2 → Prop} {t R fu : Nat} {r : Int32} (ht : t < 9) (h6 : a6 t = nI R)
    (H : ∃ n, wX_findWay_63 post mk pf pl ac cc al st dp n (nI 0) a1 a2 a3 a4 a5 a6 a7 a8 a9 a10 a11 (upd a12 0 (nI R)) a13) : wX_findWay_19 post (nI t) mk pf pl ac cc al st dp (fu + 1) r (-1) a1 a2 a3 a4 a5 a6 a7 a8 a9 a10 a11 a12 a13 :=
  br_t (by decide) ⟨pk_in t 9 ht, nm_r (e' := upd a12 0 (nI R)) (by rw [nI_clamp (by omega), h6]) H⟩
theorem qs_findWay {post : St2 → Prop} {m t p R : Nat} {v : Nat → Nat} (ht : t < 9) (hp : p < 84) (hm : m ≤ 1024) (z4 : ∀ n, n < 4 → a3 n = 0) (h6 : a6 t = nI R) (hf : qs_flat m a3 R v)
    (H : ∀ (d : Nat) (b12 b13 : Nat → Int32), 1 ≤ d → d ≤ 3 → b12 d = nI (qs_at v p) → (p < 4 → d = 1 ∧ b12 0 = nI R ∧ b13 0 = nI p) → post (mk, pf, pl, ac, cc, al, st, nI d, a1, a2, a3, a4, a5, a6, a7, a8, a9, a10, a11, b12, b13)) : wpX_findWay post (mk, pf, pl, ac, cc, al, st, dp, a1, a2, a3, a4, a5, a6, a7, a8, a9, a10, a11, a12, a13) (nI t) (nI p) := by
  obtain ⟨hR, hv⟩ := hf
  unfold wpX_findWay
  dsimp only
  unfold wpX_levelOf
  dsimp only
  refine pk_le 4 p (fun h4 => pk_le 20 p (fun h20 => ?_) (fun h20 => ?_)) (fun h4 => ?_)
  · have q1 : qs_par p = 4 + (p - 20) / 4 := if_neg (by omega)
    have q2 : qs_par (qs_par p) = ((p - 20) / 4) / 4 := by
      rw [q1]
      unfold qs_par
      rw [if_pos (by omega)]
      omega
    have qa : qs_at v p = 0 := if_neg (by omega)
    have k4 : qs_par (qs_par p) < 4 := by omega
    obtain ⟨v1, v2, v3⟩ := hv (qs_par (qs_par p)) k4
    refine nm_r (e' := nI 2) (by decide) ⟨4, qs_19s hp (by omega) (by omega) (qs_19s (k := 0) (by omega) (by omega) (by omega) (qs_19l (by omega) (fun r => qs_19e ht h6 ⟨4, ?_⟩)))⟩
    refine qs_63s (d := 3) (c := R) (n := qs_par (qs_par p)) (by omega) (by omega) (by omega) k4 pk_us (by rw [pk_us, Nat.mod_eq_of_lt k4]) v2 ?_
    refine qs_63s (d := 3) (c := v (qs_par (qs_par p))) (n := qs_par p % 4) (by omega) (by omega) (by omega) (by omega) pk_us (by rw [pk_un (by omega), pk_us]) (v3 _ (by omega)) ?_
    refine qs_63s (d := 3) (c := 0) (n := p % 4) (by omega) (by omega) (by omega) (by omega) pk_us (by rw [pk_un (by omega), pk_un (by omega), pk_us]) (z4 _ (by omega)) ?_
    refine qs_63e (d := 3) (by omega) (H 3 _ _ (by omega) (by omega) ?_ (fun z => absurd z (by omega)))
    rw [pk_us, qa]
    rfl
  · have q1 : qs_par p = (p - 4) / 4 := if_pos (by omega)
    have qa : qs_at v p = 0 := if_neg (by omega)
    have k4 : qs_par p < 4 := by omega
    obtain ⟨v1, v2, v3⟩ := hv (qs_par p) k4
    refine nm_r (e' := nI 1) (by decide) ⟨3, qs_19s (k := 0) hp (by omega) (by omega) (qs_19l (by omega) (fun r => qs_19e ht h6 ⟨3, ?_⟩))⟩
    refine qs_63s (d := 2) (c := R) (n := qs_par p) (by omega) (by omega) (by omega) k4 pk_us (by rw [pk_us, Nat.mod_eq_of_lt k4]) v2 ?_
    refine qs_63s (d := 2) (c := v (qs_par p)) (n := p % 4) (by omega) (by omega) (by omega) (by omega) pk_us (by rw [pk_un (by omega), pk_us]) (v3 _ (by omega)) ?_
    refine qs_63e (d := 2) (by omega) (H 2 _ _ (by omega) (by omega) ?_ (fun z => absurd z (by omega)))
    rw [pk_us, qa]
    rfl
  · have qa : qs_at v p = v p := if_pos h4
    obtain ⟨v1, v2, v3⟩ := hv p h4
    refine nm_r (e' := nI 0) (by decide) ⟨2, qs_19l hp (fun r => qs_19e ht h6 ⟨2, ?_⟩)⟩
    refine qs_63s (d := 1) (c := R) (n := p) (by omega) (by omega) (by omega) h4 pk_us (by rw [pk_us, Nat.mod_eq_of_lt h4]) v2 ?_
    refine qs_63e (d := 1) (by omega) (H 1 _ _ (by omega) (by omega) ?_ (fun _ => ⟨rfl, ?_, ?_⟩))
    · rw [pk_us, qa]
    · rw [pk_un (by omega), pk_us]
    · rw [pk_us, Nat.mod_eq_of_lt h4]
theorem qs_contentAt {post : Int32 → St2 → Prop} {m t p : Nat} {V : Nat → Nat → Nat} (ht : t < 3) (hp : p < 84) (hm : m ≤ 1024) (hok : qs_ok m a1 a3 a4) (hT : qs_T m a3 a6 V)
    (H : ∀ (d : Int32) (b12 b13 : Nat → Int32), post (nI (qs_at (V t) p)) (mk, pf, pl, ac, cc, al, st, d, a1, a2, a3, a4, a5, a6, a7, a8, a9, a10, a11, b12, b13)) : wpX_contentAt post (mk, pf, pl, ac, cc, al, st, dp, a1, a2, a3, a4, a5, a6, a7, a8, a9, a10, a11, a12, a13) (nI t) (nI p) := by
  obtain ⟨R, h6, hf⟩ := hT t ht
  unfold wpX_contentAt
  dsimp only
  refine qs_findWay (by omega) hp hm hok.2.2.1 h6 hf (fun d b12 b13 d1 d3 e _ => ?_)
  refine ⟨pk_in d 4 (by omega), ?_⟩
  have z := H (nI d) b12 b13
  rw [← e] at z
  rw [nI_clamp (show d < 2 ^ 31 by omega)]
  exact z
theorem qs_63s_2 {post : St2 → Prop} {d k c n fu : Nat} {z : Int32} (hk : k < d) (hd : d ≤ 3) (hc : c < 1024) (hn : n < 4) (e12 : a12 k = nI c) (e13 : a13 k = nI n) (ez : a3 (4 * c + n) = z)
    (H : wX_findWay_2_63 post mk pf pl ac cc al st (nI d) fu (nI (k + 1)) a1 a2 a3 a4 a5 a6 a7 a8 a9 a10 a11 (upd a12 (k + 1) z) a13) : wX_findWay_2_63 post mk pf pl ac cc al st (nI d) (fu + 1) (nI k) a1 a2 a3 a4 a5 a6 a7 a8 a9 a10 a11 a12 a13 := by
  have ck : (nI k).toNatClampNeg = k := nI_clamp (by omega)
  have ck1 : (nI k + 1).toNatClampNeg = k + 1 := pk_cl (k + 1) (nI_1 k)
  have c4 : (nI (4 * c + n)).toNatClampNeg = 4 * c + n := nI_clamp (by omega)
  refine pk_le d k (fun z => absurd z (by omega)) (fun _ => ⟨pk_in k 4 (by omega), pk_in k 3 (by omega), ?_, pk_in (k + 1) 4 (by omega) (nI_1 k), nm_r ?_ (nm_r (nI_1 k) H)⟩)
  · rw [ck, e12, e13, qs_4]
    exact pk_in (4 * c + n) 4096 (by omega)
  · rw [ck, ck1, e12, e13, qs_4, c4, ez]
theorem qs_63e_2 {post : St2 → Prop} {d fu : Nat} (hd : d ≤ 3) (H : post (mk, pf, pl, ac, cc, al, st, nI d, a1, a2, a3, a4, a5, a6, a7, a8, a9, a10, a11, a12, a13)) : wX_findWay_2_63 post mk pf pl ac cc al st (nI d) (fu + 1) (nI d) a1 a2 a3 a4 a5 a6 a7 a8 a9 a10 a11 a12 a13 :=
  pk_le d d (fun _ => H) (fun z => absurd z (by omega))
theorem qs_19s_2 {post : St2 → Prop} {t : Int32} {p k fu : Nat} (hp : p < 84) (h4 : 4 ≤ p) (hk : k < 2)
    (H : wX_findWay_2_19 post t mk pf pl ac cc al st dp fu (nI (qs_par p)) (nI k) a1 a2 a3 a4 a5 a6 a7 a8 a9 a10 a11 a12 (upd a13 (k + 1) (nI (p % 4)))) : wX_findWay_2_19 post t mk pf pl ac cc al st dp (fu + 1) (nI p) (nI (k + 1)) a1 a2 a3 a4 a5 a6 a7 a8 a9 a10 a11 a12 a13 := by
  refine pk_lt (k + 1) 0 (fun z => absurd z (by omega)) (fun _ => ?_)
  unfold wpX_nameOf
  dsimp only
  refine ⟨pk_in (k + 1) 3 (by omega), nm_r (e' := upd a13 (k + 1) (nI (p % 4))) (by rw [nI_clamp (by omega), qs_name hp]) ?_⟩
  exact qs_parentOf hp (fun z => absurd z (by omega)) (fun _ => nm_r (pk_m1 k) H)
theorem qs_19l_2 {post : St2 → Prop} {t : Int32} {p fu : Nat} (hp : p < 84)
    (H : ∀ r : Int32, wX_findWay_2_19 post t mk pf pl ac cc al st dp fu r (-1) a1 a2 a3 a4 a5 a6 a7 a8 a9 a10 a11 a12 (upd a13 0 (nI (p % 4)))) : wX_findWay_2_19 post t mk pf pl ac cc al st dp (fu + 1) (nI p) (nI 0) a1 a2 a3 a4 a5 a6 a7 a8 a9 a10 a11 a12 a13 := by
  refine pk_lt 0 0 (fun z => absurd z (by omega)) (fun _ => ?_)
  unfold wpX_nameOf
  dsimp only
  refine ⟨pk_in 0 3 (by omega), nm_r (e' := upd a13 0 (nI (p % 4))) (by rw [nI_clamp (by omega), qs_name hp]) ?_⟩
  exact qs_parentOf hp (fun z => nm_r (e' := -1) (by decide) (H _)) (fun _ => nm_r (e' := -1) (by decide) (H _))
theorem qs_19e_2 {post : St2 → Prop} {t R fu : Nat} {r : Int32} (ht : t < 9) (h6 : a6 t = nI R)
    (H : ∃ n, wX_findWay_2_63 post mk pf pl ac cc al st dp n (nI 0) a1 a2 a3 a4 a5 a6 a7 a8 a9 a10 a11 (upd a12 0 (nI R)) a13) : wX_findWay_2_19 post (nI t) mk pf pl ac cc al st dp (fu + 1) r (-1) a1 a2 a3 a4 a5 a6 a7 a8 a9 a10 a11 a12 a13 :=
  br_t (by decide) ⟨pk_in t 9 ht, nm_r (e' := upd a12 0 (nI R)) (by rw [nI_clamp (by omega), h6]) H⟩
theorem qs_findWay_2 {post : St2 → Prop} {m t p R : Nat} {v : Nat → Nat} (ht : t < 9) (hp : p < 84) (hm : m ≤ 1024) (z4 : ∀ n, n < 4 → a3 n = 0) (h6 : a6 t = nI R) (hf : qs_flat m a3 R v)
    (H : ∀ (d : Nat) (b12 b13 : Nat → Int32), 1 ≤ d → d ≤ 3 → b12 d = nI (qs_at v p) → (p < 4 → d = 1 ∧ b12 0 = nI R ∧ b13 0 = nI p) → post (mk, pf, pl, ac, cc, al, st, nI d, a1, a2, a3, a4, a5, a6, a7, a8, a9, a10, a11, b12, b13)) : wpX_findWay_2 post (mk, pf, pl, ac, cc, al, st, dp, a1, a2, a3, a4, a5, a6, a7, a8, a9, a10, a11, a12, a13) (nI t) (nI p) := by
  obtain ⟨hR, hv⟩ := hf
  unfold wpX_findWay_2
  dsimp only
  unfold wpX_levelOf
  dsimp only
  refine pk_le 4 p (fun h4 => pk_le 20 p (fun h20 => ?_) (fun h20 => ?_)) (fun h4 => ?_)
  · have q1 : qs_par p = 4 + (p - 20) / 4 := if_neg (by omega)
    have q2 : qs_par (qs_par p) = ((p - 20) / 4) / 4 := by
      rw [q1]
      unfold qs_par
      rw [if_pos (by omega)]
      omega
    have qa : qs_at v p = 0 := if_neg (by omega)
    have k4 : qs_par (qs_par p) < 4 := by omega
    obtain ⟨v1, v2, v3⟩ := hv (qs_par (qs_par p)) k4
    refine nm_r (e' := nI 2) (by decide) ⟨4, qs_19s_2 hp (by omega) (by omega) (qs_19s_2 (k := 0) (by omega) (by omega) (by omega) (qs_19l_2 (by omega) (fun r => qs_19e_2 ht h6 ⟨4, ?_⟩)))⟩
    refine qs_63s_2 (d := 3) (c := R) (n := qs_par (qs_par p)) (by omega) (by omega) (by omega) k4 pk_us (by rw [pk_us, Nat.mod_eq_of_lt k4]) v2 ?_
    refine qs_63s_2 (d := 3) (c := v (qs_par (qs_par p))) (n := qs_par p % 4) (by omega) (by omega) (by omega) (by omega) pk_us (by rw [pk_un (by omega), pk_us]) (v3 _ (by omega)) ?_
    refine qs_63s_2 (d := 3) (c := 0) (n := p % 4) (by omega) (by omega) (by omega) (by omega) pk_us (by rw [pk_un (by omega), pk_un (by omega), pk_us]) (z4 _ (by omega)) ?_
    refine qs_63e_2 (d := 3) (by omega) (H 3 _ _ (by omega) (by omega) ?_ (fun z => absurd z (by omega)))
    rw [pk_us, qa]
    rfl
  · have q1 : qs_par p = (p - 4) / 4 := if_pos (by omega)
    have qa : qs_at v p = 0 := if_neg (by omega)
    have k4 : qs_par p < 4 := by omega
    obtain ⟨v1, v2, v3⟩ := hv (qs_par p) k4
    refine nm_r (e' := nI 1) (by decide) ⟨3, qs_19s_2 (k := 0) hp (by omega) (by omega) (qs_19l_2 (by omega) (fun r => qs_19e_2 ht h6 ⟨3, ?_⟩))⟩
    refine qs_63s_2 (d := 2) (c := R) (n := qs_par p) (by omega) (by omega) (by omega) k4 pk_us (by rw [pk_us, Nat.mod_eq_of_lt k4]) v2 ?_
    refine qs_63s_2 (d := 2) (c := v (qs_par p)) (n := p % 4) (by omega) (by omega) (by omega) (by omega) pk_us (by rw [pk_un (by omega), pk_us]) (v3 _ (by omega)) ?_
    refine qs_63e_2 (d := 2) (by omega) (H 2 _ _ (by omega) (by omega) ?_ (fun z => absurd z (by omega)))
    rw [pk_us, qa]
    rfl
  · have qa : qs_at v p = v p := if_pos h4
    obtain ⟨v1, v2, v3⟩ := hv p h4
    refine nm_r (e' := nI 0) (by decide) ⟨2, qs_19l_2 hp (fun r => qs_19e_2 ht h6 ⟨2, ?_⟩)⟩
    refine qs_63s_2 (d := 1) (c := R) (n := p) (by omega) (by omega) (by omega) h4 pk_us (by rw [pk_us, Nat.mod_eq_of_lt h4]) v2 ?_
    refine qs_63e_2 (d := 1) (by omega) (H 1 _ _ (by omega) (by omega) ?_ (fun _ => ⟨rfl, ?_, ?_⟩))
    · rw [pk_us, qa]
    · rw [pk_un (by omega), pk_us]
    · rw [pk_us, Nat.mod_eq_of_lt h4]
theorem qs_contentAt_2 {post : Int32 → St2 → Prop} {m t p : Nat} {V : Nat → Nat → Nat} (ht : t < 3) (hp : p < 84) (hm : m ≤ 1024) (hok : qs_ok m a1 a3 a4) (hT : qs_T m a3 a6 V)
    (H : ∀ (d : Int32) (b12 b13 : Nat → Int32), post (nI (qs_at (V t) p)) (mk, pf, pl, ac, cc, al, st, d, a1, a2, a3, a4, a5, a6, a7, a8, a9, a10, a11, b12, b13)) : wpX_contentAt_2 post (mk, pf, pl, ac, cc, al, st, dp, a1, a2, a3, a4, a5, a6, a7, a8, a9, a10, a11, a12, a13) (nI t) (nI p) := by
  obtain ⟨R, h6, hf⟩ := hT t ht
  unfold wpX_contentAt_2
  dsimp only
  refine qs_findWay_2 (by omega) hp hm hok.2.2.1 h6 hf (fun d b12 b13 d1 d3 e _ => ?_)
  refine ⟨pk_in d 4 (by omega), ?_⟩
  have z := H (nI d) b12 b13
  rw [← e] at z
  rw [nI_clamp (show d < 2 ^ 31 by omega)]
  exact z
end
end
section
section
variable {mk pf pl ac cc al st dp : Int32} {a1 a2 a3 a4 a5 a6 a7 a8 a9 a10 a11 a12 a13 : Nat → Int32}
/-- V with k at (t, p) -/
def qs_set2 (V : Nat → Nat → Nat) (t p k : Nat) : Nat → Nat → Nat := fun i n => if i = t then (if n = p then k else V i n) else V i n
theorem qs_89 {post : Int32 → St2 → Prop} {m : Nat} {p q r s : Int32} (hok : qs_ok m a1 a3 a4) (hm : m < 1024)
    (H : ∀ (k m' : Nat) (b1 b2 b3 b4 : Nat → Int32), m ≤ m' → m' ≤ m + 1 → 1 ≤ k → k < m' → qs_ok m' b1 b3 b4 → qs_ext m a1 a2 a3 b1 b2 b3 → qs_is b1 b2 b3 k 2 0 p q r s → post (nI k) (nI m', pf, pl, ac, cc, al, st, dp, b1, b2, b3, b4, a5, a6, a7, a8, a9, a10, a11, a12, a13)) :
    wX_with_89 post s r q p 0 2 (nI m) pf pl ac cc al st dp a1 a2 a3 a4 a5 a6 a7 a8 a9 a10 a11 a12 a13 := by
  unfold wX_with_89
  exact qs_content hok hm H
theorem qs_with {post : Int32 → St2 → Prop} {m R p : Nat} {c : Int32} (hok : qs_ok m a1 a3 a4) (hm : m < 1024) (hR : R < m) (hp : p < 4)
    (H : ∀ (k m' : Nat) (b1 b2 b3 b4 : Nat → Int32), m ≤ m' → m' ≤ m + 1 → 1 ≤ k → k < m' → qs_ok m' b1 b3 b4 → qs_ext m a1 a2 a3 b1 b2 b3 → (∀ n, n < 4 → b3 (4 * k + n) = if n = p then c else a3 (4 * R + n)) → post (nI k) (nI m', pf, pl, ac, cc, al, st, dp, b1, b2, b3, b4, a5, a6, a7, a8, a9, a10, a11, a12, a13)) :
    wpX_with post (nI m, pf, pl, ac, cc, al, st, dp, a1, a2, a3, a4, a5, a6, a7, a8, a9, a10, a11, a12, a13) (nI R) (nI p) c := by
  have c0 : (nI (4 * R)).toNatClampNeg = 4 * R := nI_clamp (by omega)
  have c1 : (nI (4 * R) + 1).toNatClampNeg = 4 * R + 1 := pk_cl (4 * R + 1) (nI_add _ 1)
  have c2 : (nI (4 * R) + 2).toNatClampNeg = 4 * R + 2 := pk_cl (4 * R + 2) (nI_add _ 2)
  have c3 : (nI (4 * R) + 3).toNatClampNeg = 4 * R + 3 := pk_cl (4 * R + 3) (nI_add _ 3)
  have N4 : ∀ y0 y1 y2 y3 : Int32, y0 = (if 0 = p then c else a3 (4 * R + 0)) → y1 = (if 1 = p then c else a3 (4 * R + 1)) → y2 = (if 2 = p then c else a3 (4 * R + 2)) → y3 = (if 3 = p then c else a3 (4 * R + 3)) → wX_with_89 post y3 y2 y1 y0 0 2 (nI m) pf pl ac cc al st dp a1 a2 a3 a4 a5 a6 a7 a8 a9 a10 a11 a12 a13 := by
    intro y0 y1 y2 y3 h0 h1 h2 h3
    refine qs_89 hok hm (fun k m' b1 b2 b3 b4 k1 k2 k3 k4 k5 k6 k7 => H k m' b1 b2 b3 b4 k1 k2 k3 k4 k5 k6 (fun n hn => ?_))
    obtain ⟨_, _, j0, j1, j2, j3⟩ := k7
    have hh : n = 0 ∨ n = 1 ∨ n = 2 ∨ n = 3 := by omega
    rcases hh with rfl | rfl | rfl | rfl
    · exact j0.trans h0
    · exact j1.trans h1
    · exact j2.trans h2
    · exact j3.trans h3
  have N3 : ∀ y0 y1 y2 : Int32, y0 = (if 0 = p then c else a3 (4 * R + 0)) → y1 = (if 1 = p then c else a3 (4 * R + 1)) → y2 = (if 2 = p then c else a3 (4 * R + 2)) → wX_with_60 post (nI p) c (nI (4 * R)) y0 y1 y2 (nI m) pf pl ac cc al st dp a1 a2 a3 a4 a5 a6 a7 a8 a9 a10 a11 a12 a13 := by
    intro y0 y1 y2 h0 h1 h2
    exact pk_eq p 3 (fun e => N4 _ _ _ _ h0 h1 h2 (by rw [if_pos e.symm])) (fun e => ⟨pk_in (4 * R + 3) 4096 (by omega) (nI_add _ 3), N4 _ _ _ _ h0 h1 h2 (by rw [if_neg (fun z => e z.symm), c3])⟩)
  have N2 : ∀ y0 y1 : Int32, y0 = (if 0 = p then c else a3 (4 * R + 0)) → y1 = (if 1 = p then c else a3 (4 * R + 1)) → wX_with_40 post (nI p) c (nI (4 * R)) y0 y1 (nI m) pf pl ac cc al st dp a1 a2 a3 a4 a5 a6 a7 a8 a9 a10 a11 a12 a13 := by
    intro y0 y1 h0 h1
    exact pk_eq p 2 (fun e => N3 _ _ _ h0 h1 (by rw [if_pos e.symm])) (fun e => ⟨pk_in (4 * R + 2) 4096 (by omega) (nI_add _ 2), N3 _ _ _ h0 h1 (by rw [if_neg (fun z => e z.symm), c2])⟩)
  have N1 : ∀ y0 : Int32, y0 = (if 0 = p then c else a3 (4 * R + 0)) → wX_with_20 post (nI p) c (nI (4 * R)) y0 (nI m) pf pl ac cc al st dp a1 a2 a3 a4 a5 a6 a7 a8 a9 a10 a11 a12 a13 := by
    intro y0 h0
    exact pk_eq p 1 (fun e => N2 _ _ h0 (by rw [if_pos e.symm])) (fun e => ⟨pk_in (4 * R + 1) 4096 (by omega) (nI_add _ 1), N2 _ _ h0 (by rw [if_neg (fun z => e z.symm), c1])⟩)
  unfold wpX_with
  dsimp only
  exact nm_r (qs_40 R) (pk_eq p 0 (fun e => N1 _ (by rw [if_pos e.symm])) (fun e => ⟨pk_in (4 * R) 4096 (by omega), N1 _ (by rw [if_neg (fun z => e z.symm), c0]; rfl)⟩))
theorem qs_setT {post : St2 → Prop} {m t p c : Nat} {V : Nat → Nat → Nat} (hok : qs_ok m a1 a3 a4) (hm : m < 1024) (hT : qs_T m a3 a6 V) (ht : t < 3) (hp : p < 4) (hc : c < m) (lc : ∀ i, i < 4 → a3 (4 * c + i) = 0)
    (H : ∀ (m' : Nat) (d : Int32) (b1 b2 b3 b4 b6 b12 b13 : Nat → Int32), m ≤ m' → m' ≤ m + 1 → qs_ok m' b1 b3 b4 → qs_ext m a1 a2 a3 b1 b2 b3 → qs_T m' b3 b6 (qs_set2 V t p c) → (∀ j, 3 ≤ j → b6 j = a6 j) → post (nI m', pf, pl, ac, cc, al, st, d, b1, b2, b3, b4, a5, b6, a7, a8, a9, a10, a11, b12, b13)) :
    wpX_setContent post (nI m, pf, pl, ac, cc, al, st, dp, a1, a2, a3, a4, a5, a6, a7, a8, a9, a10, a11, a12, a13) (nI t) (nI p) (nI c) := by
  obtain ⟨R, h6, hf⟩ := hT t ht
  unfold wpX_setContent
  dsimp only
  refine qs_findWay_2 (by omega) (by omega) (show m ≤ 1024 by omega) hok.2.2.1 h6 hf (fun d b12 b13 d1 d3 _ hlt => ?_)
  obtain ⟨ed, e12, e13⟩ := hlt hp
  subst ed
  dsimp only
  refine nm_r (e' := nI 0) (by decide) ⟨2, pk_lt 0 0 (fun z => absurd z (by omega)) (fun _ => ⟨pk_in 0 4 (by omega), pk_in 0 3 (by omega), ?_⟩)⟩
  rw [nI_clamp (show 0 < 2 ^ 31 by omega), e12, e13]
  refine qs_with hok hm hf.1 hp (fun k m' b1 b2 b3 b4 k1 k2 k3 k4 k5 k6 k7 => ?_)
  refine nm_r (e' := -1) (by decide) (br_t (by decide) ⟨pk_in t 9 (by omega), nm_r (e' := upd a6 t (nI k)) (by rw [nI_clamp (by omega)]) (H m' (nI 1) b1 b2 b3 b4 _ b12 b13 k1 k2 k5 k6 (fun i hi => ?_) (fun j hj => pk_un (by omega)))⟩)
  by_cases e : i = t
  · subst e
    refine ⟨k, pk_us, k4, fun n hn => ?_⟩
    have w := k7 n hn
    have es : qs_set2 V i p c i n = if n = p then c else V i n := if_pos rfl
    rw [es]
    by_cases en : n = p
    · rw [if_pos en] at w ⊢
      refine ⟨by omega, w, fun j hj => ?_⟩
      rw [k6.2 _ (by omega)]
      exact lc j hj
    · rw [if_neg en] at w ⊢
      obtain ⟨v1, v2, v3⟩ := hf.2 n hn
      refine ⟨by omega, w.trans v2, fun j hj => ?_⟩
      rw [k6.2 _ (by omega)]
      exact v3 j hj
  · obtain ⟨R', g1, g2⟩ := hT i hi
    have es : qs_set2 V t p c i = V i := by
      funext n
      exact if_neg e
    rw [es, pk_un e]
    exact ⟨R', g1, qs_flat_e g2 k6 k1⟩
theorem qs_room {post : St2 → Prop} {m n : Nat} (h : m + n ≤ 1024) (H : post (nI m, pf, pl, ac, cc, al, st, dp, a1, a2, a3, a4, a5, a6, a7, a8, a9, a10, a11, a12, a13)) : wpX_makeRoom post (nI m, pf, pl, ac, cc, al, st, dp, a1, a2, a3, a4, a5, a6, a7, a8, a9, a10, a11, a12, a13) (nI n) := by
  unfold wpX_makeRoom
  dsimp only
  exact br_t (by rw [nI_add]; exact nI_le (b := 1024) h (by decide)) H
theorem qs_hasParent {post : Int32 → St2 → Prop} {m t p : Nat} {V : Nat → Nat → Nat} (ht : t < 3) (hp : p < 84) (hm : m ≤ 1024) (hok : qs_ok m a1 a3 a4) (hT : qs_T m a3 a6 V) (nf : ∀ n, n < 4 → ¬ a1 (V t n) = 2)
    (H0 : p < 4 → post 1 (mk, pf, pl, ac, cc, al, st, dp, a1, a2, a3, a4, a5, a6, a7, a8, a9, a10, a11, a12, a13)) (H1 : 4 ≤ p → ∀ (d : Int32) (b12 b13 : Nat → Int32), post 0 (mk, pf, pl, ac, cc, al, st, d, a1, a2, a3, a4, a5, a6, a7, a8, a9, a10, a11, b12, b13)) : wpX_hasParent post (mk, pf, pl, ac, cc, al, st, dp, a1, a2, a3, a4, a5, a6, a7, a8, a9, a10, a11, a12, a13) (nI t) (nI p) := by
  unfold wpX_hasParent
  dsimp only
  refine qs_parentOf hp (fun h => br_t rfl (H0 h)) (fun h => ?_)
  have hq : qs_par p < 84 := by
    unfold qs_par
    split <;> omega
  refine br_f (qs_nm1 (by omega)) (qs_contentAt ht hq hm hok hT (fun d b12 b13 => ?_))
  obtain ⟨R, h6, hf⟩ := hT t ht
  have hl := qs_at_lt (p := qs_par p) hf
  dsimp only
  refine ⟨pk_in _ 1024 (show qs_at (V t) (qs_par p) < 1024 by omega), br_f ?_ (H1 h d b12 b13)⟩
  rw [nI_clamp (by omega)]
  unfold qs_at
  split
  · rename_i z
    exact nf _ z
  · rw [hok.2.1]
    decide
/-- good and bad arguments -/
def qs_bS (s : Int32) : Prop := s < 0 ∨ ¬ s ≤ 1
def qs_bP (p : Int32) : Prop := p < 0 ∨ ¬ p < 84
theorem qs_gS {s : Int32} (h : ¬ qs_bS s) : ∃ S : Nat, S < 2 ∧ s = nI S := by
  unfold qs_bS at h
  obtain ⟨j, h1, h2⟩ := nI_of2 (x := s) (M := 1) (n := 1) (by decide) (fun z => h (Or.inl z)) (Classical.not_not.mp (fun z => h (Or.inr z)))
  exact ⟨j, by omega, h2⟩
theorem qs_gP {p : Int32} (h : ¬ qs_bP p) : ∃ P : Nat, P < 84 ∧ p = nI P := by
  unfold qs_bP at h
  obtain ⟨j, h1, h2⟩ := nI_of (x := p) (fun z => h (Or.inl z))
  have h3 : p < 84 := Classical.not_not.mp (fun z => h (Or.inr z))
  rw [h2] at h3
  exact ⟨j, (nI_ltI (b := 84) h1 (by decide)).mp h3, h2⟩
theorem qs_sideG {post : Int32 → Prop} {S : Nat} (h : S < 2) (H : post 0) : wpX_badSide post (mk, pf, pl, ac, cc, al, st, dp, a1, a2, a3, a4, a5, a6, a7, a8, a9, a10, a11, a12, a13) (nI S) := by
  unfold wpX_badSide
  dsimp only
  exact pk_lt S 0 (fun z => absurd z (by omega)) (fun _ => pk_le S 1 (fun _ => H) (fun z => absurd z (by omega)))
theorem qs_sideB {post : Int32 → Prop} {s : Int32} (h : qs_bS s) (H : post 1) : wpX_badSide post (mk, pf, pl, ac, cc, al, st, dp, a1, a2, a3, a4, a5, a6, a7, a8, a9, a10, a11, a12, a13) s := by
  unfold wpX_badSide
  dsimp only
  exact br_c (fun _ => H) (fun z => br_f (h.resolve_left z) H)
theorem qs_pathG {post : Int32 → Prop} {P : Nat} (h : P < 84) (H : post 0) : wpX_badPath post (mk, pf, pl, ac, cc, al, st, dp, a1, a2, a3, a4, a5, a6, a7, a8, a9, a10, a11, a12, a13) (nI P) := by
  unfold wpX_badPath
  dsimp only
  exact pk_lt P 0 (fun z => absurd z (by omega)) (fun _ => pk_lt P 84 (fun _ => H) (fun z => absurd z (by omega)))
theorem qs_pathB {post : Int32 → Prop} {p : Int32} (h : qs_bP p) (H : post 1) : wpX_badPath post (mk, pf, pl, ac, cc, al, st, dp, a1, a2, a3, a4, a5, a6, a7, a8, a9, a10, a11, a12, a13) p := by
  unfold wpX_badPath
  dsimp only
  exact br_c (fun _ => H) (fun z => br_f (h.resolve_left z) H)
end
end
section
section
variable {mk pf pl ac cc al st dp : Int32} {a1 a2 a3 a4 a5 a6 a7 a8 a9 a10 a11 a12 a13 : Nat → Int32}
theorem qs_writeB {post : Int32 → St2 → Prop} {s p x : Int32} (h : qs_bS s ∨ qs_bP p) (H : post (-1000000001) (mk, pf, pl, ac, cc, al, st, dp, a1, a2, a3, a4, a5, a6, a7, a8, a9, a10, a11, a12, a13)) : wpX_write post (mk, pf, pl, ac, cc, al, st, dp, a1, a2, a3, a4, a5, a6, a7, a8, a9, a10, a11, a12, a13) s p x := by
  unfold wpX_write
  dsimp only
  by_cases hs : qs_bS s
  · exact qs_sideB hs (br_f (by decide) H)
  · obtain ⟨S, h1, rfl⟩ := qs_gS hs
    exact qs_sideG h1 (br_t rfl (qs_pathB (h.resolve_left hs) (br_f (by decide) H)))
theorem qs_numberB {post : Int32 → St2 → Prop} {s p : Int32} (h : qs_bS s ∨ qs_bP p) (H : post (-1000000001) (mk, pf, pl, ac, cc, al, st, dp, a1, a2, a3, a4, a5, a6, a7, a8, a9, a10, a11, a12, a13)) : wpX_number post (mk, pf, pl, ac, cc, al, st, dp, a1, a2, a3, a4, a5, a6, a7, a8, a9, a10, a11, a12, a13) s p := by
  unfold wpX_number
  dsimp only
  by_cases hs : qs_bS s
  · exact qs_sideB hs (br_f (by decide) H)
  · obtain ⟨S, h1, rfl⟩ := qs_gS hs
    exact qs_sideG h1 (br_t rfl (qs_pathB (h.resolve_left hs) (br_f (by decide) H)))
theorem qs_folderB {post : Int32 → St2 → Prop} {s p : Int32} (h : qs_bS s ∨ qs_bP p) (H : post (-1000000001) (mk, pf, pl, ac, cc, al, st, dp, a1, a2, a3, a4, a5, a6, a7, a8, a9, a10, a11, a12, a13)) : wpX_folder post (mk, pf, pl, ac, cc, al, st, dp, a1, a2, a3, a4, a5, a6, a7, a8, a9, a10, a11, a12, a13) s p := by
  unfold wpX_folder
  dsimp only
  by_cases hs : qs_bS s
  · exact qs_sideB hs (br_f (by decide) H)
  · obtain ⟨S, h1, rfl⟩ := qs_gS hs
    exact qs_sideG h1 (br_t rfl (qs_pathB (h.resolve_left hs) (br_f (by decide) H)))
theorem qs_removeB {post : Int32 → St2 → Prop} {s p : Int32} (h : qs_bS s ∨ qs_bP p) (H : post (-1000000001) (mk, pf, pl, ac, cc, al, st, dp, a1, a2, a3, a4, a5, a6, a7, a8, a9, a10, a11, a12, a13)) : wpX_remove post (mk, pf, pl, ac, cc, al, st, dp, a1, a2, a3, a4, a5, a6, a7, a8, a9, a10, a11, a12, a13) s p := by
  unfold wpX_remove
  dsimp only
  by_cases hs : qs_bS s
  · exact qs_sideB hs (br_f (by decide) H)
  · obtain ⟨S, h1, rfl⟩ := qs_gS hs
    exact qs_sideG h1 (br_t rfl (qs_pathB (h.resolve_left hs) (br_f (by decide) H)))
theorem qs_leaf {b1 b2 b3 : Nat → Int32} {k : Nat} {kd x : Int32} (h : qs_is b1 b2 b3 k kd x 0 0 0 0) : ∀ i, i < 4 → b3 (4 * k + i) = 0 := by
  obtain ⟨_, _, j0, j1, j2, j3⟩ := h
  intro n hn
  have hh : n = 0 ∨ n = 1 ∨ n = 2 ∨ n = 3 := by omega
  rcases hh with rfl | rfl | rfl | rfl
  · exact j0
  · exact j1
  · exact j2
  · exact j3
theorem qs_write {post : Int32 → St2 → Prop} {m S P : Nat} {x : Int32} {V : Nat → Nat → Nat} (hS : S < 2) (hP : P < 84) (hm : m + 8 ≤ 1024) (hok : qs_ok m a1 a3 a4) (hT : qs_T m a3 a6 V) (nf : ∀ n, n < 4 → ¬ a1 (V S n) = 2)
    (Hn : 4 ≤ P → ∀ (d : Int32) (b12 b13 : Nat → Int32), post (-1000000002) (nI m, pf, pl, ac, cc, al, st, d, a1, a2, a3, a4, a5, a6, a7, a8, a9, a10, a11, b12, b13))
    (Hy : P < 4 → ∀ (k m' : Nat) (d : Int32) (b1 b2 b3 b4 b6 b12 b13 : Nat → Int32), m ≤ m' → m' ≤ m + 2 → 1 ≤ k → k < m' → qs_ok m' b1 b3 b4 → qs_T m' b3 b6 (qs_set2 V S P k) → b1 k = 1 → b2 k = x → post (a1 (V S P)) (nI m', pf, pl, ac, cc, al, st, d, b1, b2, b3, b4, a5, b6, a7, a8, a9, a10, a11, b12, b13)) :
    wpX_write post (nI m, pf, pl, ac, cc, al, st, dp, a1, a2, a3, a4, a5, a6, a7, a8, a9, a10, a11, a12, a13) (nI S) (nI P) x := by
  unfold wpX_write
  dsimp only
  refine qs_sideG hS (br_t rfl (qs_pathG hP (br_t rfl (qs_hasParent (by omega) hP (show m ≤ 1024 by omega) hok hT nf (fun h => br_f (by decide) ?_) (fun h d b12 b13 => br_t rfl (Hn h d b12 b13))))))
  refine qs_contentAt (by omega) hP (show m ≤ 1024 by omega) hok hT (fun d b12 b13 => ?_)
  obtain ⟨R, h6, hf⟩ := hT S (by omega)
  have ha : qs_at (V S) P = V S P := if_pos h
  have hl := (hf.2 P h).1
  dsimp only
  rw [ha]
  refine ⟨pk_in _ 1024 (show V S P < 1024 by omega), nm_r (e' := a1 (V S P)) (by rw [nI_clamp (by omega)]) (br_f (nf P h) ?_)⟩
  refine qs_room (n := 8) hm ?_
  refine qs_content hok (by omega) (fun k m1 c1 c2 c3 c4 k1 k2 k3 k4 k5 k6 k7 => ?_)
  refine qs_setT k5 (by omega) (qs_T_e hT k6 k1) (by omega) h k4 (qs_leaf k7) (fun m2 d' b1 b2 b3 b4 b6 b12 b13 g1 g2 g3 g4 g5 g6 => ?_)
  exact Hy h k m2 d' b1 b2 b3 b4 b6 b12 b13 (by omega) (by omega) k3 (by omega) g3 g5 ((g4.1 k k4).1.trans k7.1) ((g4.1 k k4).2.trans k7.2.1)
theorem qs_number {post : Int32 → St2 → Prop} {m S P : Nat} {V : Nat → Nat → Nat} (hS : S < 2) (hP : P < 84) (hm : m ≤ 1024) (hok : qs_ok m a1 a3 a4) (hT : qs_T m a3 a6 V)
    (H1 : a1 (qs_at (V S) P) = 1 → ∀ (d : Int32) (b12 b13 : Nat → Int32), post (a2 (qs_at (V S) P)) (mk, pf, pl, ac, cc, al, st, d, a1, a2, a3, a4, a5, a6, a7, a8, a9, a10, a11, b12, b13))
    (H0 : ¬ a1 (qs_at (V S) P) = 1 → ∀ (d : Int32) (b12 b13 : Nat → Int32), post (-1000000004) (mk, pf, pl, ac, cc, al, st, d, a1, a2, a3, a4, a5, a6, a7, a8, a9, a10, a11, b12, b13)) :
    wpX_number post (mk, pf, pl, ac, cc, al, st, dp, a1, a2, a3, a4, a5, a6, a7, a8, a9, a10, a11, a12, a13) (nI S) (nI P) := by
  unfold wpX_number
  dsimp only
  refine qs_sideG hS (br_t rfl (qs_pathG hP (br_t rfl (qs_contentAt_2 (by omega) hP hm hok hT (fun d b12 b13 => ?_)))))
  obtain ⟨R, h6, hf⟩ := hT S (by omega)
  have hl := qs_at_lt (p := P) hf
  have c : (nI (qs_at (V S) P)).toNatClampNeg = qs_at (V S) P := nI_clamp (by omega)
  dsimp only
  rw [c]
  exact ⟨pk_in _ 1024 (show qs_at (V S) P < 1024 by omega), br_c (fun e => ⟨pk_in _ 1024 (show qs_at (V S) P < 1024 by omega), H1 e d b12 b13⟩) (fun e => H0 e d b12 b13)⟩
theorem qs_folder {post : Int32 → St2 → Prop} {m S P : Nat} {V : Nat → Nat → Nat} (hS : S < 2) (hP : P < 84) (hm : m + 8 ≤ 1024) (hok : qs_ok m a1 a3 a4) (hT : qs_T m a3 a6 V) (nf : ∀ n, n < 4 → ¬ a1 (V S n) = 2)
    (Hn : 4 ≤ P → ∀ (d : Int32) (b12 b13 : Nat → Int32), post (-1000000002) (nI m, pf, pl, ac, cc, al, st, d, a1, a2, a3, a4, a5, a6, a7, a8, a9, a10, a11, b12, b13))
    (He : P < 4 → V S P ≠ 0 → ∀ (d : Int32) (b12 b13 : Nat → Int32), post (-1000000003) (nI m, pf, pl, ac, cc, al, st, d, a1, a2, a3, a4, a5, a6, a7, a8, a9, a10, a11, b12, b13))
    (Hy : P < 4 → V S P = 0 → ∀ (k m' : Nat) (d : Int32) (b1 b2 b3 b4 b6 b12 b13 : Nat → Int32), m ≤ m' → m' ≤ m + 2 → 1 ≤ k → k < m' → qs_ok m' b1 b3 b4 → qs_ext m a1 a2 a3 b1 b2 b3 → qs_T m' b3 b6 (qs_set2 V S P k) → b1 k = 2 → post 0 (nI m', pf, pl, ac, cc, al, st, d, b1, b2, b3, b4, a5, b6, a7, a8, a9, a10, a11, b12, b13)) :
    wpX_folder post (nI m, pf, pl, ac, cc, al, st, dp, a1, a2, a3, a4, a5, a6, a7, a8, a9, a10, a11, a12, a13) (nI S) (nI P) := by
  unfold wpX_folder
  dsimp only
  refine qs_sideG hS (br_t rfl (qs_pathG hP (br_t rfl (qs_hasParent (by omega) hP (show m ≤ 1024 by omega) hok hT nf (fun h => br_f (by decide) ?_) (fun h d b12 b13 => br_t rfl (Hn h d b12 b13))))))
  refine qs_contentAt_2 (by omega) hP (show m ≤ 1024 by omega) hok hT (fun d b12 b13 => ?_)
  obtain ⟨R, h6, hf⟩ := hT S (by omega)
  have ha : qs_at (V S) P = V S P := if_pos h
  have hl := (hf.2 P h).1
  dsimp only
  rw [ha]
  refine pk_eq (V S P) 0 (fun e => ?_) (fun e => He h e d b12 b13)
  refine qs_room (n := 8) hm ?_
  refine qs_content hok (by omega) (fun k m1 c1 c2 c3 c4 k1 k2 k3 k4 k5 k6 k7 => ?_)
  refine qs_setT k5 (by omega) (qs_T_e hT k6 k1) (by omega) h k4 (qs_leaf k7) (fun m2 d' b1 b2 b3 b4 b6 b12 b13 g1 g2 g3 g4 g5 g6 => ?_)
  exact Hy h e k m2 d' b1 b2 b3 b4 b6 b12 b13 (by omega) (by omega) k3 (by omega) g3 (qs_ext_t k6 g4 k1) g5 ((g4.1 k k4).1.trans k7.1)
theorem qs_weight {post : Int32 → Prop} {c : Nat} (hc : c < 1024) (c0 : c ≠ 0) (z4 : ∀ n, n < 4 → a3 n = 0) (lc : ∀ i, i < 4 → a3 (4 * c + i) = 0) (H : post 1) : wpX_weight post (mk, pf, pl, ac, cc, al, st, dp, a1, a2, a3, a4, a5, a6, a7, a8, a9, a10, a11, a12, a13) (nI c) := by
  unfold wpX_weight
  dsimp only
  refine br_f (nI_ne0 (by omega) (by omega)) ?_
  refine pk_loop (σ := Unit) (fun n i _ => wX_weight_12 post (nI c) mk pf pl ac cc al st dp a1 a2 a3 a4 a5 a6 a7 a8 a9 a10 a11 a12 a13 n 1 (nI i)) (fun _ _ => True) 16 0 () (by omega) trivial (fun n _ _ => ?_) (fun n i _ hi _ hw => ?_)
  · exact pk_le 16 16 (fun _ => H) (fun z => absurd z (by omega))
  · have ed : nI i / 4 = nI (i / 4) := pk_div (d := 4) (by omega) (by omega) (by omega)
    have er : nI i - nI i / 4 * 4 = nI (i % 4) := pk_rem (d := 4) (by omega) (by omega) (by omega)
    have e1 : (4 : Int32) * nI c + nI i / 4 = nI (4 * c + i / 4) := by rw [ed, qs_4]
    have e2 : (4 : Int32) * nI 0 + (nI i - nI i / 4 * 4) = nI (i % 4) := by rw [er, qs_4, Nat.mul_zero, Nat.zero_add]
    have f1 : (0 : Int32) = a3 ((4 : Int32) * nI c + nI i / 4).toNatClampNeg := by rw [e1, nI_clamp (by omega), lc _ (by omega)]
    have f2 : a3 ((4 : Int32) * nI 0 + (nI i - nI i / 4 * 4)).toNatClampNeg = nI 0 := by rw [e2, nI_clamp (by omega), z4 _ (by omega)]; rfl
    have J : wX_weight_68 post (wX_weight_12 post (nI c) mk pf pl ac cc al st dp a1 a2 a3 a4 a5 a6 a7 a8 a9 a10 a11 a12 a13 n) (nI c) 1 (nI i) (nI 0) mk pf pl ac cc al st dp a1 a2 a3 a4 a5 a6 a7 a8 a9 a10 a11 a12 a13 := br_t rfl (nm_r (nI_1 i) (hw () trivial))
    refine pk_le 16 i (fun z => absurd z (by omega)) (fun _ => br_f (nI_ne0 (by omega) (by omega)) ⟨by decide, pk_in (4 * c + i / 4) 4096 (by omega) e1, nm_r (e' := nI 0) f1.symm ⟨by decide, pk_in (i % 4) 4096 (by omega) e2, nm_r f2 ⟨by decide, br_c (fun _ => br_t rfl J) (fun _ => J)⟩⟩⟩)
theorem qs_remove {post : Int32 → St2 → Prop} {m S P : Nat} {V : Nat → Nat → Nat} (hS : S < 2) (hP : P < 84) (hm : m + 8 ≤ 1024) (hok : qs_ok m a1 a3 a4) (hT : qs_T m a3 a6 V)
    (H0 : qs_at (V S) P = 0 → ∀ (d : Int32) (b12 b13 : Nat → Int32), post (-1000000004) (nI m, pf, pl, ac, cc, al, st, d, a1, a2, a3, a4, a5, a6, a7, a8, a9, a10, a11, b12, b13))
    (H1 : ¬ qs_at (V S) P = 0 → ∀ (m' : Nat) (d : Int32) (b1 b2 b3 b4 b6 b12 b13 : Nat → Int32), post 1 (nI m', pf, pl, ac, cc, al, st, d, b1, b2, b3, b4, a5, b6, a7, a8, a9, a10, a11, b12, b13)) :
    wpX_remove post (nI m, pf, pl, ac, cc, al, st, dp, a1, a2, a3, a4, a5, a6, a7, a8, a9, a10, a11, a12, a13) (nI S) (nI P) := by
  unfold wpX_remove
  dsimp only
  refine qs_sideG hS (br_t rfl (qs_pathG hP (br_t rfl (qs_contentAt_2 (by omega) hP (show m ≤ 1024 by omega) hok hT (fun d b12 b13 => ?_)))))
  obtain ⟨R, h6, hf⟩ := hT S (by omega)
  have hl := qs_at_lt (p := P) hf
  refine pk_eq (qs_at (V S) P) 0 (fun e => H0 e d b12 b13) (fun e => ?_)
  have h4 : P < 4 := by
    rcases Nat.lt_or_ge P 4 with z | z
    · exact z
    · exact absurd (if_neg (by omega)) e
  have ha : qs_at (V S) P = V S P := if_pos h4
  have lc := (hf.2 P h4).2.2
  rw [← ha] at lc
  refine qs_weight (by omega) e hok.2.2.1 lc ?_
  refine qs_room (n := 8) hm ?_
  refine qs_setT (c := 0) hok (by omega) hT (by omega) h4 hok.1 (fun i hi => by rw [Nat.mul_zero, Nat.zero_add]; exact hok.2.2.1 i hi) (fun m2 d' b1 b2 b3 b4 b6 b12 b13 g1 g2 g3 g4 g5 g6 => ?_)
  exact H1 e m2 d' b1 b2 b3 b4 b6 b12 b13
theorem qs_prefer {post : Int32 → St2 → Prop} {x : Int32} (H : ∀ f : Int32, post (if x = -1 then 0 else if x < 0 then -1000000001 else if x ≤ 1 then 0 else -1000000001) (mk, f, pl, ac, cc, al, st, dp, a1, a2, a3, a4, a5, a6, a7, a8, a9, a10, a11, a12, a13)) : wpX_prefer post (mk, pf, pl, ac, cc, al, st, dp, a1, a2, a3, a4, a5, a6, a7, a8, a9, a10, a11, a12, a13) x := by
  unfold wpX_prefer
  dsimp only
  refine br_c (fun e => ?_) (fun e => ?_)
  · have z := H x
    rw [if_pos e] at z
    exact z
  · rw [if_neg e] at H
    unfold wpX_badSide
    dsimp only
    refine br_c (fun e1 => br_f (by decide) ?_) (fun e1 => br_c (fun e2 => br_t rfl ?_) (fun e2 => br_f (by decide) ?_))
    · rw [if_pos e1] at H
      exact H pf
    · rw [if_neg e1, if_pos e2] at H
      exact H x
    · rw [if_neg e1, if_neg e2] at H
      exact H pf
end
end
section
section
variable {mk pf pl ac cc al st dp : Int32} {a1 a2 a3 a4 a5 a6 a7 a8 a9 a10 a11 a12 a13 : Nat → Int32}
def qs_d (V : Nat → Nat → Nat) (n : Nat) : Nat := if V 0 n = 0 then (if V 1 n = 0 then 0 else 1) else (if V 1 n = 0 then 1 else 0)
def qs_cnt (V : Nat → Nat → Nat) : Nat → Nat
  | 0 => 0
  | i + 1 => qs_cnt V i + qs_d V i
theorem qs_d_le (V : Nat → Nat → Nat) (n : Nat) : qs_d V n ≤ 1 := by
  unfold qs_d
  split <;> split <;> omega
theorem qs_cnt_le (V : Nat → Nat → Nat) (i : Nat) : qs_cnt V i ≤ i := by
  induction i with
  | zero => exact Nat.le_refl 0
  | succ i ih =>
    have h : qs_cnt V (i + 1) = qs_cnt V i + qs_d V i := rfl
    have h' := qs_d_le V i
    omega
theorem qs_act {post : St2 → Prop} {m n t k c : Nat} {V : Nat → Nat → Nat} (hok : qs_ok m a1 a3 a4) (hm : m + 2 ≤ 1024) (hT : qs_T m a3 a6 V) (ht : t < 2) (hn : n < 4) (hk : k < m) (lk : ∀ i, i < 4 → a3 (4 * k + i) = 0) (hc : c < 84)
    (H : ∀ (m' : Nat) (d : Int32) (b1 b2 b3 b4 b6 b9 b10 b12 b13 : Nat → Int32), m ≤ m' → m' ≤ m + 2 → qs_ok m' b1 b3 b4 → qs_ext m a1 a2 a3 b1 b2 b3 → qs_T m' b3 b6 (qs_set2 (qs_set2 V t n k) 2 n k) → (∀ j, 3 ≤ j → b6 j = a6 j) → post (nI m', pf, pl, nI (c + 1), cc, 84, st, d, b1, b2, b3, b4, a5, b6, a7, a8, b9, b10, a11, b12, b13)) :
    wpX_act post (nI m, pf, pl, nI c, cc, 84, st, dp, a1, a2, a3, a4, a5, a6, a7, a8, a9, a10, a11, a12, a13) (nI n) (nI t) (nI k) := by
  unfold wpX_act
  dsimp only
  refine pk_eq c 84 (fun e => absurd e (by omega)) (fun _ => ⟨pk_in c 84 hc, nm_e ⟨pk_in c 84 hc, nm_e (nm_r (nI_1 c) ?_)⟩⟩)
  refine qs_setT hok (by omega) hT (by omega) hn hk lk (fun m1 d1 c1 c2 c3 c4 c6 c12 c13 g1 g2 g3 g4 g5 g6 => ?_)
  dsimp only
  refine qs_setT (t := 2) g3 (by omega) g5 (by omega) hn (show k < m1 by omega) (fun i hi => by rw [g4.2 _ (by omega)]; exact lk i hi) (fun m2 d2 b1 b2 b3 b4 b6 b12 b13 k1 k2 k3 k4 k5 k6 => ?_)
  exact H m2 d2 b1 b2 b3 b4 b6 _ _ b12 b13 (by omega) (by omega) k3 (qs_ext_t g4 k4 g1) k5 (fun j hj => (k6 j hj).trans (g6 j hj))
theorem qs_stepPath {post : St2 → Prop} {m n c c' : Nat} {V : Nat → Nat → Nat} (hn : n < 4) (hok : qs_ok m a1 a3 a4) (hm : m + 2 ≤ 1024) (hT : qs_T m a3 a6 V) (h2 : V 2 n = 0)
    (hc : V 0 n ≠ 0 → V 1 n ≠ 0 → V 0 n ≠ V 1 n ∧ ¬ (a1 (V 0 n) = 2 ∧ a1 (V 1 n) = 2)) (hac : c < 84) (hcc : c' < 84)
    (H : ∀ (m' c2 : Nat) (d : Int32) (b1 b2 b3 b4 b6 b9 b10 b11 b12 b13 : Nat → Int32) (V' : Nat → Nat → Nat), m ≤ m' → m' ≤ m + 2 → qs_ok m' b1 b3 b4 → qs_ext m a1 a2 a3 b1 b2 b3 → qs_T m' b3 b6 V' → (∀ t i, i ≠ n → V' t i = V t i) → (∀ j, 3 ≤ j → b6 j = a6 j) → c2 ≤ c' + 1 → post (nI m', -1, pl, nI (c + qs_d V n), nI c2, 84, st, d, b1, b2, b3, b4, a5, b6, a7, a8, b9, b10, b11, b12, b13)) :
    wpX_stepPath post (nI m, -1, pl, nI c, nI c', 84, st, dp, a1, a2, a3, a4, a5, a6, a7, a8, a9, a10, a11, a12, a13) (nI n) := by
  have at0 : qs_at (V 0) n = V 0 n := if_pos hn
  have at1 : qs_at (V 1) n = V 1 n := if_pos hn
  have at2 : qs_at (V 2) n = 0 := (if_pos hn).trans h2
  obtain ⟨R0, r0, f0⟩ := hT 0 (by omega)
  obtain ⟨R1, r1, f1⟩ := hT 1 (by omega)
  obtain ⟨l0, _, q0⟩ := f0.2 n hn
  obtain ⟨l1, _, q1⟩ := f1.2 n hn
  have cl0 : (nI (V 0 n)).toNatClampNeg = V 0 n := nI_clamp (by omega)
  have cl1 : (nI (V 1 n)).toNatClampNeg = V 1 n := nI_clamp (by omega)
  have z1 : a1 (nI 0).toNatClampNeg = 0 := hok.2.1
  have n2 : ¬ (0 : Int32) = 2 := by decide
  have far : ∀ (V : Nat → Nat → Nat) (t k : Nat), ∀ u i, i ≠ n → qs_set2 (qs_set2 V t n k) 2 n k u i = V u i := by
    intro V t k u i hi
    unfold qs_set2
    rw [if_neg hi, if_neg hi]
    split <;> split <;> rfl
  unfold wpX_stepPath
  dsimp only
  refine qs_contentAt_2 (t := 0) (by omega) (show n < 84 by omega) (show m ≤ 1024 by omega) hok hT (fun d1 x12 x13 => ?_)
  refine qs_contentAt_2 (t := 1) (by omega) (show n < 84 by omega) (show m ≤ 1024 by omega) hok hT (fun d2 y12 y13 => ?_)
  refine qs_contentAt_2 (t := 2) (by omega) (show n < 84 by omega) (show m ≤ 1024 by omega) hok hT (fun d3 z12 z13 => ?_)
  dsimp only
  rw [at0, at1, at2]
  by_cases e0 : V 0 n = 0
  · by_cases e1 : V 1 n = 0
    · have hd : qs_d V n = 0 := by
        unfold qs_d
        rw [if_pos e0, if_pos e1]
      rw [hd] at H
      rw [e0, e1]
      exact br_t rfl (br_t rfl (H m c' d3 a1 a2 a3 a4 a6 a9 a10 a11 z12 z13 V (by omega) (by omega) hok qs_ext_r hT (fun _ _ _ => rfl) (fun _ _ => rfl) (by omega)))
    · have hd : qs_d V n = 1 := by
        unfold qs_d
        rw [if_pos e0, if_neg e1]
      rw [hd] at H
      rw [e0]
      have K : wX_stepPath_73 post (nI n) (nI 0) (nI (V 1 n)) (nI 0) (nI m) (-1) pl (nI c) (nI c') 84 st d3 a1 a2 a3 a4 a5 a6 a7 a8 a9 a10 a11 z12 z13 :=
        br_t rfl (qs_act (t := 0) hok hm hT (by omega) hn l1 q1 hac (fun m' d b1 b2 b3 b4 b6 b9 b10 b12 b13 k1 k2 k3 k4 k5 k6 => H m' c' d b1 b2 b3 b4 b6 b9 b10 a11 b12 b13 _ k1 k2 k3 k4 k5 (far V 0 (V 1 n)) k6 (by omega)))
      exact br_f (fun z => e1 ((nI_eq (by omega) (by omega)).mp z).symm) ⟨pk_in 0 1024 (by omega), br_f (by rw [z1]; exact n2) K⟩
  · by_cases e1 : V 1 n = 0
    · have hd : qs_d V n = 1 := by
        unfold qs_d
        rw [if_neg e0, if_pos e1]
      rw [hd] at H
      rw [e1]
      have K : wX_stepPath_73 post (nI n) (nI (V 0 n)) (nI 0) (nI 0) (nI m) (-1) pl (nI c) (nI c') 84 st d3 a1 a2 a3 a4 a5 a6 a7 a8 a9 a10 a11 z12 z13 :=
        br_f (fun z => e0 ((nI_eq (by omega) (by omega)).mp z)) (br_t rfl (qs_act (t := 1) hok hm hT (by omega) hn l0 q0 hac (fun m' d b1 b2 b3 b4 b6 b9 b10 b12 b13 k1 k2 k3 k4 k5 k6 => H m' c' d b1 b2 b3 b4 b6 b9 b10 a11 b12 b13 _ k1 k2 k3 k4 k5 (far V 1 (V 0 n)) k6 (by omega))))
      exact br_f (fun z => e0 ((nI_eq (by omega) (by omega)).mp z)) ⟨pk_in (V 0 n) 1024 (by omega), br_c (fun _ => ⟨pk_in 0 1024 (by omega), br_f (by rw [z1]; exact n2) K⟩) (fun _ => K)⟩
    · have hd : qs_d V n = 0 := by
        unfold qs_d
        rw [if_neg e0, if_neg e1]
      rw [hd] at H
      obtain ⟨ne, nk⟩ := hc e0 e1
      have M : wpX_meetConflict post (nI m, -1, pl, nI c, nI c', 84, st, d3, a1, a2, a3, a4, a5, a6, a7, a8, a9, a10, a11, z12, z13) (nI n) (nI (V 0 n)) (nI (V 1 n)) := by
        unfold wpX_meetConflict
        dsimp only
        exact ⟨pk_in c' 84 hcc, nm_e (nm_r (nI_1 c') (br_f (by decide) (br_f (by decide) (H m (c' + 1) d3 a1 a2 a3 a4 a6 a9 a10 _ z12 z13 V (by omega) (by omega) hok qs_ext_r hT (fun _ _ _ => rfl) (fun _ _ => rfl) (by omega)))))⟩
      have K : wX_stepPath_73 post (nI n) (nI (V 0 n)) (nI (V 1 n)) (nI 0) (nI m) (-1) pl (nI c) (nI c') 84 st d3 a1 a2 a3 a4 a5 a6 a7 a8 a9 a10 a11 z12 z13 :=
        br_f (fun z => e0 ((nI_eq (by omega) (by omega)).mp z)) (br_f (fun z => e1 ((nI_eq (by omega) (by omega)).mp z)) M)
      exact br_f (fun z => ne ((nI_eq (by omega) (by omega)).mp z)) ⟨pk_in (V 0 n) 1024 (by omega), br_c (fun y0 => ⟨pk_in (V 1 n) 1024 (by omega), br_f (fun y1 => nk ⟨by rw [cl0] at y0; exact y0, by rw [cl1] at y1; exact y1⟩) K⟩) (fun _ => K)⟩
theorem qs_loop {post : St2 → Prop} {m0 : Nat} {V0 : Nat → Nat → Nat} {o1 o2 o3 o6 : Nat → Int32}
    (pile : ∀ j, j < 4 → a8 j = nI (3 - j)) (bd : ∀ t n, t < 2 → n < 4 → V0 t n < m0)
    (hc : ∀ n, n < 4 → V0 0 n ≠ 0 → V0 1 n ≠ 0 → V0 0 n ≠ V0 1 n ∧ ¬ (o1 (V0 0 n) = 2 ∧ o1 (V0 1 n) = 2))
    (H : ∀ (m' c2 : Nat) (d : Int32) (b1 b2 b3 b4 b6 b9 b10 b11 b12 b13 : Nat → Int32), m0 ≤ m' → m' + 16 ≤ 1024 → qs_ok m' b1 b3 b4 → qs_ext m0 o1 o2 o3 b1 b2 b3 → (∀ j, 3 ≤ j → b6 j = o6 j) → post (nI m', -1, nI 0, nI (qs_cnt V0 4), nI c2, 84, 0, d, b1, b2, b3, b4, a5, b6, a7, a8, b9, b10, b11, b12, b13)) :
    ∀ (k i m c' : Nat) (V : Nat → Nat → Nat) (dp : Int32) (a1 a2 a3 a4 a6 a9 a10 a11 a12 a13 : Nat → Int32), i + k = 4 → m0 ≤ m → m + 2 * k + 16 ≤ 1024 → qs_ok m a1 a3 a4 → qs_ext m0 o1 o2 o3 a1 a2 a3 → qs_T m a3 a6 V → (∀ n, i ≤ n → V 0 n = V0 0 n ∧ V 1 n = V0 1 n ∧ (n < 4 → V 2 n = 0)) → c' ≤ i → (∀ j, 3 ≤ j → a6 j = o6 j) →
      wX_stepAll_59 post (k + 1) (nI i) (nI m) (-1) (nI k) (nI (qs_cnt V0 i)) (nI c') 84 0 dp a1 a2 a3 a4 a5 a6 a7 a8 a9 a10 a11 a12 a13 := by
  intro k
  induction k with
  | zero =>
    intro i m c' V dp a1 a2 a3 a4 a6 a9 a10 a11 a12 a13 hi h0 hm hok hx hT hv h' h6
    have e : i = 4 := by omega
    subst e
    exact pk_le 84 4 (fun z => absurd z (by omega)) (fun _ => pk_le 0 0 (fun _ => H m c' dp a1 a2 a3 a4 a6 a9 a10 a11 a12 a13 h0 (by omega) hok hx h6) (fun z => absurd z (by omega)))
  | succ k ih =>
    intro i m c' V dp a1 a2 a3 a4 a6 a9 a10 a11 a12 a13 hi h0 hm hok hx hT hv h' h6
    obtain ⟨v0, v1, v2⟩ := hv i (Nat.le_refl i)
    have w0 := bd 0 i (by omega) (by omega)
    have w1 := bd 1 i (by omega) (by omega)
    have ep : a8 (nI k).toNatClampNeg = nI i := by
      rw [nI_clamp (by omega), pile k (by omega)]
      congr 1
      omega
    have hcl := qs_cnt_le V0 i
    have ed : qs_d V i = qs_d V0 i := by
      unfold qs_d
      rw [v0, v1]
    refine pk_le 84 i (fun z => absurd z (by omega)) (fun _ => pk_le (k + 1) 0 (fun z => absurd z (by omega)) (fun _ => br_t rfl (qs_room (n := 16) (by omega) (nm_r (nI_pred k) ⟨pk_in k 90 (by omega), ?_⟩))))
    dsimp only
    rw [ep]
    refine qs_stepPath (by omega) hok (by omega) hT (v2 (by omega)) ?_ (by omega) (by omega) (fun m' c2 d b1 b2 b3 b4 b6 b9 b10 b11 b12 b13 V' k1 k2 k3 k4 k5 k6 k7 k8 => ?_)
    · rw [v0, v1, (hx.1 _ w0).1, (hx.1 _ w1).1]
      exact hc i (by omega)
    · rw [ed]
      exact nm_r (nI_1 i) (ih (i + 1) m' c2 V' d b1 b2 b3 b4 b6 b9 b10 b11 b12 b13 (by omega) (by omega) (by omega) k3 (qs_ext_t hx k4 h0) k5 (fun n hn => by
        rw [k6 0 n (by omega), k6 1 n (by omega), k6 2 n (by omega)]
        exact hv n (by omega)) (by omega) (fun j hj => (k7 j hj).trans (h6 j hj)))
theorem qs_27s {post : St2 → Prop} {x j fu : Nat} (hj : j < 90) (hx : x < 4) (H : wX_stepAll_27 post mk pf ac cc al st dp fu (nI x) (nI (j + 1)) a1 a2 a3 a4 a5 a6 a7 (upd a8 j (nI (x + 1))) a9 a10 a11 a12 a13) :
    wX_stepAll_27 post mk pf ac cc al st dp (fu + 1) (nI (x + 1)) (nI j) a1 a2 a3 a4 a5 a6 a7 a8 a9 a10 a11 a12 a13 :=
  pk_lt (x + 1) 0 (fun z => absurd z (by omega)) (fun _ => ⟨pk_in j 90 hj, nm_r (e' := upd a8 j (nI (x + 1))) (by rw [nI_clamp (by omega)]) (nm_r (nI_1 j) (nm_r (pk_m1 x) H))⟩)
theorem qs_27l {post : St2 → Prop} {j fu : Nat} (hj : j < 90) (H : ∃ n, wX_stepAll_59 post n (nI 0) mk pf (nI (j + 1)) ac cc al st dp a1 a2 a3 a4 a5 a6 a7 (upd a8 j (nI 0)) a9 a10 a11 a12 a13) :
    wX_stepAll_27 post mk pf ac cc al st dp (fu + 2) (nI 0) (nI j) a1 a2 a3 a4 a5 a6 a7 a8 a9 a10 a11 a12 a13 :=
  pk_lt 0 0 (fun z => absurd z (by omega)) (fun _ => ⟨pk_in j 90 hj, nm_r (e' := upd a8 j (nI 0)) (by rw [nI_clamp (by omega)]) (nm_r (nI_1 j) (nm_r (e' := -1) (by decide) (br_t (by decide) H)))⟩)
theorem qs_stepAll {post : St2 → Prop} {m : Nat} {V : Nat → Nat → Nat} (hok : qs_ok m a1 a3 a4) (hm : m + 24 ≤ 1024) (hT : qs_T m a3 a6 V) (h2 : ∀ n, n < 4 → V 2 n = 0)
    (hc : ∀ n, n < 4 → V 0 n ≠ 0 → V 1 n ≠ 0 → V 0 n ≠ V 1 n ∧ ¬ (a1 (V 0 n) = 2 ∧ a1 (V 1 n) = 2))
    (H : ∀ (m' c2 : Nat) (d : Int32) (b1 b2 b3 b4 b6 b8 b9 b10 b11 b12 b13 : Nat → Int32), m ≤ m' → m' + 16 ≤ 1024 → qs_ok m' b1 b3 b4 → qs_ext m a1 a2 a3 b1 b2 b3 → (∀ j, 3 ≤ j → b6 j = a6 j) → post (nI m', -1, nI 0, nI (qs_cnt V 4), nI c2, 84, 0, d, b1, b2, b3, b4, a5, b6, a7, b8, b9, b10, b11, b12, b13)) :
    wpX_stepAll post (nI m, -1, pl, ac, cc, al, st, dp, a1, a2, a3, a4, a5, a6, a7, a8, a9, a10, a11, a12, a13) 84 := by
  unfold wpX_stepAll
  dsimp only
  refine ⟨5, qs_27s (x := 2) (j := 0) (by omega) (by omega) (qs_27s (by omega) (by omega) (qs_27s (by omega) (by omega) (qs_27l (by omega) ⟨5, ?_⟩)))⟩
  refine qs_loop (m0 := m) (V0 := V) (o1 := a1) (o2 := a2) (o3 := a3) (o6 := a6) ?_ ?_ hc (fun m' c2 d b1 b2 b3 b4 b6 b9 b10 b11 b12 b13 k1 k2 k3 k4 k5 => H m' c2 d b1 b2 b3 b4 b6 _ b9 b10 b11 b12 b13 k1 k2 k3 k4 k5) 4 0 m 0 V dp a1 a2 a3 a4 a6 a9 a10 a11 a12 a13 (by omega) (by omega) (by omega) hok qs_ext_r hT (fun n _ => ⟨rfl, rfl, fun h => h2 n h⟩) (by omega) (fun _ _ => rfl)
  · intro j hj
    have hh : j = 0 ∨ j = 1 ∨ j = 2 ∨ j = 3 := by omega
    rcases hh with rfl | rfl | rfl | rfl <;> rfl
  · intro t n ht hn
    obtain ⟨R, _, hf⟩ := hT t (by omega)
    exact (hf.2 n hn).1
theorem qs_36s {post : St2 → Prop} {x fu : Nat} (hx : x < 3) (H : wX_tryStep_36 post mk pf pl ac cc al st dp fu (nI (x + 1)) a1 a2 a3 a4 a5 (upd a6 x (a6 (6 + x))) a7 a8 a9 a10 a11 a12 a13) : wX_tryStep_36 post mk pf pl ac cc al st dp (fu + 1) (nI x) a1 a2 a3 a4 a5 a6 a7 a8 a9 a10 a11 a12 a13 :=
  pk_le 3 x (fun z => absurd z (by omega)) (fun _ => ⟨pk_in (6 + x) 9 (by omega) (nI_add 6 x), pk_in x 9 (by omega), nm_r (e' := upd a6 x (a6 (6 + x))) (by rw [nI_clamp (by omega), show (6 : Int32) + nI x = nI (6 + x) from nI_add 6 x, nI_clamp (by omega)]) (nm_r (nI_1 x) H)⟩)
theorem qs_2s {post : St2 → Prop} {x fu : Nat} (hx : x < 3) (H : wX_tryStep_2 post mk pf pl ac cc al st dp fu (nI (x + 1)) a1 a2 a3 a4 a5 (upd a6 (6 + x) (a6 x)) a7 a8 a9 a10 a11 a12 a13) : wX_tryStep_2 post mk pf pl ac cc al st dp (fu + 1) (nI x) a1 a2 a3 a4 a5 a6 a7 a8 a9 a10 a11 a12 a13 :=
  pk_le 3 x (fun z => absurd z (by omega)) (fun _ => ⟨pk_in x 9 (by omega), pk_in (6 + x) 9 (by omega) (nI_add 6 x), nm_r (e' := upd a6 (6 + x) (a6 x)) (by rw [nI_clamp (by omega), show (6 : Int32) + nI x = nI (6 + x) from nI_add 6 x, nI_clamp (by omega)]) (nm_r (nI_1 x) H)⟩)
theorem qs_actions {post : Int32 → St2 → Prop} {m : Nat} {V : Nat → Nat → Nat} (hok : qs_ok m a1 a3 a4) (hm : m + 24 ≤ 1024) (hT : qs_T m a3 a6 V) (h2 : ∀ n, n < 4 → V 2 n = 0)
    (hc : ∀ n, n < 4 → V 0 n ≠ 0 → V 1 n ≠ 0 → V 0 n ≠ V 1 n ∧ ¬ (a1 (V 0 n) = 2 ∧ a1 (V 1 n) = 2))
    (H : ∀ (m' : Nat) (p l c2 s d : Int32) (b1 b2 b3 b4 b6 b8 b9 b10 b11 b12 b13 : Nat → Int32), m' + 16 ≤ 1024 → qs_ok m' b1 b3 b4 → qs_T m' b3 b6 V → post (nI (qs_cnt V 4)) (nI m', -1, p, nI (qs_cnt V 4), c2, l, s, d, b1, b2, b3, b4, a5, b6, a7, b8, b9, b10, b11, b12, b13)) :
    wpX_actions post (nI m, -1, pl, ac, cc, al, st, dp, a1, a2, a3, a4, a5, a6, a7, a8, a9, a10, a11, a12, a13) := by
  unfold wpX_actions
  dsimp only
  unfold wpX_tryStep
  dsimp only
  refine ⟨4, qs_2s (x := 0) (by omega) (qs_2s (by omega) (qs_2s (by omega) (pk_le 3 3 (fun _ => ?_) (fun z => absurd z (by omega)))))⟩
  refine qs_stepAll hok hm ?_ h2 hc (fun m' c2 d b1 b2 b3 b4 b6 b8 b9 b10 b11 b12 b13 k1 k2 k3 k4 k5 => ?_)
  · intro t ht
    rw [pk_un (by omega), pk_un (by omega), pk_un (by omega)]
    exact hT t ht
  · refine ⟨4, qs_36s (x := 0) (by omega) (qs_36s (by omega) (qs_36s (by omega) (pk_le 3 3 (fun _ => H m' _ _ _ _ d b1 b2 b3 b4 _ b8 b9 b10 b11 b12 b13 k2 k3 (fun t ht => ?_)) (fun z => absurd z (by omega)))))⟩
    obtain ⟨R, g1, g2⟩ := hT t ht
    refine ⟨R, ?_, qs_flat_e g2 k4 k1⟩
    have hh : t = 0 ∨ t = 1 ∨ t = 2 := by omega
    rcases hh with rfl | rfl | rfl
    · have e := k5 6 (by omega)
      exact e.trans g1
    · have e := k5 7 (by omega)
      exact e.trans g1
    · have e := k5 8 (by omega)
      exact e.trans g1
end
end
section
/-- the law's own words, as the bytecode asks them -/
def qs_fS (s : Int32) : Int32 := if s = 0 then 1 else if s = 1 then 1 else 0
def qs_fP (p : Int32) : Int32 := if p < 0 then 0 else if 83 < p then 0 else 1
def qs_fW (sd p : Int32) : Int32 := if sd = 0 then 0 else if p < 0 then 0 else if 4 ≤ p then 0 else 1
def qs_fT (w s p q r : Int32) : Int32 := if w = 0 then 0 else if r = s then (if q = p then 1 else 0) else 0
def qs_fF (b ot kn q th : Int32) : Int32 := if ot = 0 then b else if kn = 0 then b else if q ≤ 3 then (if th = 0 then 0 else b - 2) else b - 1
def qs_fB (w f : Int32) : Int32 := if w = 0 then 0 else if f = 0 then 1 else 0
def qs_fD (w f bo p q : Int32) : Int32 := ((if w = 0 then 0 else 1) + (if f = 0 then 1 else 0)) - (if bo = 0 then 0 else if p = q then 2 else 0)
def qs_ePut (b sd pa w : Int32) : Int32 := if sd = 0 then b else if pa = 0 then b else if w = 0 then b - 1 else 0
def qs_eNum (b sd kn w q p x : Int32) : Int32 := if sd = 0 then b else if kn = 0 then b else if w = 0 then b - 3 else if q = p then x else b - 3
def qs_eRem (b sd pa w f r s q p : Int32) : Int32 := if sd = 0 then b else if pa = 0 then b else if w = 0 then (if f = 0 then (if r = s then (if q = p then 1 else b - 3) else b - 3) else b - 3) else 1
def qs_ePref (b x : Int32) : Int32 := if x < -1 then b else if 1 < x then b else 0
section
variable {post : Int32 → St0 → Prop} {mc ms kc ks : Nat} {x0 x1 x2 x3 x4 x6 x7 x8 x9 x10 x11 x12 x13 x14 x15 x16 x17 x19 x20 x21 z0 z1 : Int32}
theorem qs_L411 (H : post 1 ()) (h11 : x11 = qs_ePref x12 x2) (h : z1 = z0) : wL_lawOf_411 post mc ms x2 x11 x12 z0 z1 kc ks := by
  unfold wL_lawOf_411 wL_lawOf_430 wL_lawOf_432
  unfold qs_ePref at h11
  refine br_t h (br_c (fun c => ?_) (fun c => br_c (fun c' => ?_) (fun c' => ?_)))
  · rw [if_pos c] at h11
    exact br_t h11 H
  · rw [if_neg c, if_pos c'] at h11
    exact br_t h11 H
  · rw [if_neg c, if_neg c'] at h11
    exact br_t h11 H
theorem qs_L344 (H : post 1 ()) (h11 : x11 = qs_ePref x12 x2) (h10 : x10 = qs_eRem x12 x13 x15 x17 x19 x4 x0 x3 x1) (h9 : x9 = x21) (h8 : x8 = x19) (h : z1 = z0) :
    wL_lawOf_344 post mc ms x0 x1 x2 x3 x4 x8 x9 x10 x11 x12 x13 x15 x17 x19 x21 z0 z1 kc ks := by
  unfold wL_lawOf_344 wL_lawOf_373 wL_lawOf_407
  unfold qs_eRem at h10
  refine br_t h (br_t h8 (br_t h9 (br_c (fun c1 => ?_) (fun c1 => br_c (fun c2 => ?_) (fun c2 => br_c (fun c3 => br_c (fun c4 => br_c (fun c5 => br_c (fun c6 => ?_) (fun c6 => ?_)) (fun c5 => ?_)) (fun c4 => ?_)) (fun c3 => ?_))))))
  · rw [if_pos c1] at h10
    exact qs_L411 H h11 h10
  · rw [if_neg c1, if_pos c2] at h10
    exact qs_L411 H h11 h10
  · rw [if_neg c1, if_neg c2, if_pos c3, if_pos c4, if_pos c5, if_pos c6] at h10
    exact qs_L411 H h11 h10
  · rw [if_neg c1, if_neg c2, if_pos c3, if_pos c4, if_pos c5, if_neg c6] at h10
    exact qs_L411 H h11 h10
  · rw [if_neg c1, if_neg c2, if_pos c3, if_pos c4, if_neg c5] at h10
    exact qs_L411 H h11 h10
  · rw [if_neg c1, if_neg c2, if_pos c3, if_neg c4] at h10
    exact qs_L411 H h11 h10
  · rw [if_neg c1, if_neg c2, if_neg c3] at h10
    exact qs_L411 H h11 h10
theorem qs_L306 (H : post 1 ()) (h11 : x11 = qs_ePref x12 x2) (h10 : x10 = qs_eRem x12 x13 x15 x17 x19 x4 x0 x3 x1) (h9 : x9 = x21) (h8 : x8 = x19) (h7 : x7 = qs_eNum x12 x13 x16 x17 x3 x1 x2) (h : z1 = z0) :
    wL_lawOf_306 post mc ms x0 x1 x2 x3 x4 x7 x8 x9 x10 x11 x12 x13 x15 x16 x17 x19 x21 z0 z1 kc ks := by
  unfold wL_lawOf_306 wL_lawOf_321 wL_lawOf_340
  unfold qs_eNum at h7
  refine br_t h (br_c (fun c1 => ?_) (fun c1 => br_c (fun c2 => ?_) (fun c2 => br_c (fun c3 => ?_) (fun c3 => br_c (fun c4 => ?_) (fun c4 => ?_)))))
  · rw [if_pos c1] at h7
    exact qs_L344 H h11 h10 h9 h8 h7
  · rw [if_neg c1, if_pos c2] at h7
    exact qs_L344 H h11 h10 h9 h8 h7
  · rw [if_neg c1, if_neg c2, if_pos c3] at h7
    exact qs_L344 H h11 h10 h9 h8 h7
  · rw [if_neg c1, if_neg c2, if_neg c3, if_pos c4] at h7
    exact qs_L344 H h11 h10 h9 h8 h7
  · rw [if_neg c1, if_neg c2, if_neg c3, if_neg c4] at h7
    exact qs_L344 H h11 h10 h9 h8 h7
theorem qs_L273 (H : post 1 ()) (h11 : x11 = qs_ePref x12 x2) (h10 : x10 = qs_eRem x12 x13 x15 x17 x19 x4 x0 x3 x1) (h9 : x9 = z1 - z0) (h8 : x8 = x19) (h7 : x7 = qs_eNum x12 x13 x16 x17 x3 x1 x2) (h6 : x6 = qs_ePut x12 x13 x15 x17) :
    wL_lawOf_273 post mc ms x0 x1 x2 x3 x4 x6 x7 x8 x9 x10 x11 x12 x13 x15 x16 x17 x19 z0 z1 kc ks := by
  unfold wL_lawOf_273 wL_lawOf_288
  unfold qs_ePut at h6
  refine nm_e (br_c (fun c1 => ?_) (fun c1 => br_c (fun c2 => ?_) (fun c2 => br_c (fun c3 => ?_) (fun c3 => ?_))))
  · rw [if_pos c1] at h6
    exact qs_L306 H h11 h10 h9 h8 h7 h6
  · rw [if_neg c1, if_pos c2] at h6
    exact qs_L306 H h11 h10 h9 h8 h7 h6
  · rw [if_neg c1, if_neg c2, if_pos c3] at h6
    exact qs_L306 H h11 h10 h9 h8 h7 h6
  · rw [if_neg c1, if_neg c2, if_neg c3] at h6
    exact qs_L306 H h11 h10 h9 h8 h7 h6
theorem qs_L257 (H : post 1 ()) (h11 : x11 = qs_ePref x12 x2) (h10 : x10 = qs_eRem x12 x13 x15 x17 x19 x4 x0 x3 x1) (h9 : x9 = (z1 + z0) - (if x20 = 0 then 0 else if x1 = x3 then 2 else 0)) (h8 : x8 = x19) (h7 : x7 = qs_eNum x12 x13 x16 x17 x3 x1 x2) (h6 : x6 = qs_ePut x12 x13 x15 x17) :
    wL_lawOf_257 post mc ms x0 x1 x2 x3 x4 x6 x7 x8 x9 x10 x11 x12 x13 x15 x16 x17 x19 x20 z0 z1 kc ks := by
  unfold wL_lawOf_257 wL_lawOf_272
  refine br_c (fun c1 => ?_) (fun c1 => br_c (fun c2 => ?_) (fun c2 => ?_))
  · rw [if_pos c1] at h9
    exact qs_L273 H h11 h10 h9 h8 h7 h6
  · rw [if_neg c1, if_pos c2] at h9
    exact qs_L273 H h11 h10 h9 h8 h7 h6
  · rw [if_neg c1, if_neg c2] at h9
    exact qs_L273 H h11 h10 h9 h8 h7 h6
theorem qs_L235 (H : post 1 ()) (h11 : x11 = qs_ePref x12 x2) (h10 : x10 = qs_eRem x12 x13 x15 x17 x19 x4 x0 x3 x1) (h9 : x9 = qs_fD x17 x19 x20 x1 x3) (h8 : x8 = x19) (h7 : x7 = qs_eNum x12 x13 x16 x17 x3 x1 x2) (h6 : x6 = qs_ePut x12 x13 x15 x17) :
    wL_lawOf_235 post mc ms x0 x1 x2 x3 x4 x6 x7 x8 x9 x10 x11 x12 x13 x15 x16 x17 x19 x20 kc ks := by
  unfold wL_lawOf_235 wL_lawOf_247
  unfold qs_fD at h9
  refine br_c (fun c1 => br_c (fun c2 => ?_) (fun c2 => ?_)) (fun c1 => br_c (fun c2 => ?_) (fun c2 => ?_))
  · rw [if_pos c1, if_pos c2] at h9
    exact qs_L257 H h11 h10 h9 h8 h7 h6
  · rw [if_pos c1, if_neg c2] at h9
    exact qs_L257 H h11 h10 h9 h8 h7 h6
  · rw [if_neg c1, if_pos c2] at h9
    exact qs_L257 H h11 h10 h9 h8 h7 h6
  · rw [if_neg c1, if_neg c2] at h9
    exact qs_L257 H h11 h10 h9 h8 h7 h6
theorem qs_L218 (H : wL_lawOf_235 post mc ms x0 x1 x2 x3 x4 x6 x7 x8 x9 x10 x11 x12 x13 x15 x16 x17 x19 (qs_fB x17 x19) kc ks) : wL_lawOf_218 post mc ms x0 x1 x2 x3 x4 x6 x7 x8 x9 x10 x11 x12 x13 x15 x16 x17 x19 kc ks := by
  unfold wL_lawOf_218 wL_lawOf_234
  unfold qs_fB at H
  refine br_c (fun c1 => ?_) (fun c1 => br_c (fun c2 => ?_) (fun c2 => ?_))
  · rw [if_pos c1] at H
    exact H
  · rw [if_neg c1, if_pos c2] at H
    exact H
  · rw [if_neg c1, if_neg c2] at H
    exact H
theorem qs_L176 (H : wL_lawOf_218 post mc ms x0 x1 x2 x3 x4 x6 x7 x8 x9 x10 x11 x12 x13 x15 x16 x17 (qs_fF x12 x14 x16 x3 z0) kc ks) : wL_lawOf_176 post mc ms x0 x1 x2 x3 x4 x6 x7 x8 x9 x10 x11 x12 x13 x14 x15 x16 x17 z0 kc ks := by
  unfold wL_lawOf_176 wL_lawOf_188
  unfold qs_fF at H
  refine br_c (fun c1 => ?_) (fun c1 => br_c (fun c2 => ?_) (fun c2 => br_c (fun c3 => br_c (fun c4 => ?_) (fun c4 => ?_)) (fun c3 => ?_)))
  · rw [if_pos c1] at H
    exact H
  · rw [if_neg c1, if_pos c2] at H
    exact H
  · rw [if_neg c1, if_neg c2, if_pos c3, if_pos c4] at H
    exact H
  · rw [if_neg c1, if_neg c2, if_pos c3, if_neg c4] at H
    exact H
  · rw [if_neg c1, if_neg c2, if_neg c3] at H
    exact H
theorem qs_L153 (H : wL_lawOf_176 post mc ms x0 x1 x2 x3 x4 x6 x7 x8 x9 x10 x11 x12 x13 x14 x15 x16 x17 (qs_fT x17 x0 x1 x3 x4) kc ks) : wL_lawOf_153 post mc ms x0 x1 x2 x3 x4 x6 x7 x8 x9 x10 x11 x12 x13 x14 x15 x16 x17 kc ks := by
  unfold wL_lawOf_153 wL_lawOf_175
  unfold qs_fT at H
  refine br_c (fun c1 => ?_) (fun c1 => br_c (fun c2 => br_c (fun c3 => ?_) (fun c3 => ?_)) (fun c2 => ?_))
  · rw [if_pos c1] at H
    exact H
  · rw [if_neg c1, if_pos c2, if_pos c3] at H
    exact H
  · rw [if_neg c1, if_pos c2, if_neg c3] at H
    exact H
  · rw [if_neg c1, if_neg c2] at H
    exact H
theorem qs_L132 (H : wL_lawOf_153 post mc ms x0 x1 x2 x3 x4 x6 x7 x8 x9 x10 x11 x12 x13 x14 x15 x16 (qs_fW x13 x1) kc ks) : wL_lawOf_132 post mc ms x0 x1 x2 x3 x4 x6 x7 x8 x9 x10 x11 x12 x13 x14 x15 x16 kc ks := by
  unfold wL_lawOf_132 wL_lawOf_152
  unfold qs_fW at H
  refine br_c (fun c1 => ?_) (fun c1 => br_c (fun c2 => ?_) (fun c2 => br_c (fun c3 => ?_) (fun c3 => ?_)))
  · rw [if_pos c1] at H
    exact H
  · rw [if_neg c1, if_pos c2] at H
    exact H
  · rw [if_neg c1, if_neg c2, if_pos c3] at H
    exact H
  · rw [if_neg c1, if_neg c2, if_neg c3] at H
    exact H
theorem qs_L115 (H : wL_lawOf_132 post mc ms x0 x1 x2 x3 x4 x6 x7 x8 x9 x10 x11 x12 x13 x14 x15 (qs_fP x3) kc ks) : wL_lawOf_115 post mc ms x0 x1 x2 x3 x4 x6 x7 x8 x9 x10 x11 x12 x13 x14 x15 kc ks := by
  unfold wL_lawOf_115 wL_lawOf_131
  unfold qs_fP at H
  refine br_c (fun c1 => ?_) (fun c1 => br_c (fun c2 => ?_) (fun c2 => ?_))
  · rw [if_pos c1] at H
    exact H
  · rw [if_neg c1, if_pos c2] at H
    exact H
  · rw [if_neg c1, if_neg c2] at H
    exact H
theorem qs_L98 (H : wL_lawOf_115 post mc ms x0 x1 x2 x3 x4 x6 x7 x8 x9 x10 x11 x12 x13 x14 (qs_fP x1) kc ks) : wL_lawOf_98 post mc ms x0 x1 x2 x3 x4 x6 x7 x8 x9 x10 x11 x12 x13 x14 kc ks := by
  unfold wL_lawOf_98 wL_lawOf_114
  unfold qs_fP at H
  refine br_c (fun c1 => ?_) (fun c1 => br_c (fun c2 => ?_) (fun c2 => ?_))
  · rw [if_pos c1] at H
    exact H
  · rw [if_neg c1, if_pos c2] at H
    exact H
  · rw [if_neg c1, if_neg c2] at H
    exact H
theorem qs_L80 (H : wL_lawOf_98 post mc ms x0 x1 x2 x3 x4 x6 x7 x8 x9 x10 x11 x12 x13 (qs_fS x4) kc ks) : wL_lawOf_80 post mc ms x0 x1 x2 x3 x4 x6 x7 x8 x9 x10 x11 x12 x13 kc ks := by
  unfold wL_lawOf_80 wL_lawOf_93
  unfold qs_fS at H
  refine br_c (fun c1 => ?_) (fun c1 => br_c (fun c2 => ?_) (fun c2 => ?_))
  · rw [if_pos c1] at H
    exact H
  · rw [if_neg c1, if_pos c2] at H
    exact H
  · rw [if_neg c1, if_neg c2] at H
    exact H
theorem qs_L0 (H : wL_lawOf_80 post mc ms x0 x1 x2 x3 x4 x6 x7 x8 x9 x10 x11 x12 (qs_fS x0) kc ks) :
    ((x0 = 0 → (wL_lawOf_75 post mc ms x0 x1 x2 x3 x4 x6 x7 x8 x9 x10 x11 x12 kc ks)) ∧ (¬ x0 = 0 → (((x0 = 1 → (wL_lawOf_75 post mc ms x0 x1 x2 x3 x4 x6 x7 x8 x9 x10 x11 x12 kc ks)) ∧ (¬ x0 = 1 → (wL_lawOf_80 post mc ms x0 x1 x2 x3 x4 x6 x7 x8 x9 x10 x11 x12 0 kc ks)))))) := by
  unfold wL_lawOf_75
  unfold qs_fS at H
  refine br_c (fun c1 => ?_) (fun c1 => br_c (fun c2 => ?_) (fun c2 => ?_))
  · rw [if_pos c1] at H
    exact H
  · rw [if_neg c1, if_pos c2] at H
    exact H
  · rw [if_neg c1, if_neg c2] at H
    exact H
end
/-- written; what the law says of folder -/
def qs_W (s p : Int32) : Int32 := qs_fW (qs_fS s) p
def qs_F (s p q r : Int32) : Int32 := qs_fF (-1000000001) (qs_fS r) (qs_fP q) q (qs_fT (qs_W s p) s p q r)
theorem qs_tail {post : Int32 → St0 → Prop} {mc ms kc ks : Nat} {s p x q r y6 y7 y8 y9 y10 y11 : Int32} (H : post 1 ())
    (h6 : y6 = qs_ePut (-1000000001) (qs_fS s) (qs_fP p) (qs_W s p))
    (h7 : y7 = qs_eNum (-1000000001) (qs_fS s) (qs_fP q) (qs_W s p) q p x)
    (h8 : y8 = qs_F s p q r)
    (h9 : y9 = qs_fD (qs_W s p) (qs_F s p q r) (qs_fB (qs_W s p) (qs_F s p q r)) p q)
    (h10 : y10 = qs_eRem (-1000000001) (qs_fS s) (qs_fP p) (qs_W s p) (qs_F s p q r) r s q p)
    (h11 : y11 = qs_ePref (-1000000001) x) :
    ((s = 0 → (wL_lawOf_75 post mc ms s p x q r y6 y7 y8 y9 y10 y11 (-1000000001) kc ks)) ∧ (¬ s = 0 → (((s = 1 → (wL_lawOf_75 post mc ms s p x q r y6 y7 y8 y9 y10 y11 (-1000000001) kc ks)) ∧ (¬ s = 1 → (wL_lawOf_80 post mc ms s p x q r y6 y7 y8 y9 y10 y11 (-1000000001) 0 kc ks)))))) :=
  qs_L0 (qs_L80 (qs_L98 (qs_L115 (qs_L132 (qs_L153 (qs_L176 (qs_L218 (qs_L235 H h11 h10 h9 h8 h7 h6))))))))
end
section
theorem qs_fS1 {S : Nat} (h : S < 2) : qs_fS (nI S) = 1 := by
  have hh : S = 0 ∨ S = 1 := by omega
  rcases hh with rfl | rfl <;> decide
theorem qs_fS0 {s : Int32} (h : qs_bS s) : qs_fS s = 0 := by
  unfold qs_fS
  rw [if_neg (fun e => by rw [e] at h; exact absurd h (by unfold qs_bS; decide)), if_neg (fun e => by rw [e] at h; exact absurd h (by unfold qs_bS; decide))]
theorem qs_fP1 {P : Nat} (h : P < 84) : qs_fP (nI P) = 1 := by
  unfold qs_fP
  rw [if_neg (nI_pos (by omega)), if_neg (show ¬ (83 : Int32) < nI P from nI_nlt (a := 83) (b := P) (by omega) (by omega))]
theorem qs_ge {p k : Int32} {n : Nat} (hk : k.toInt = n) {j : Int32} (hj : j.toInt = (n : Int) - 1) (h : ¬ p < k) : j < p := by
  rw [Int32.lt_iff_toInt_lt] at h ⊢
  omega
theorem qs_fP0 {p : Int32} (h : qs_bP p) : qs_fP p = 0 := by
  unfold qs_fP
  by_cases e : p < 0
  · rw [if_pos e]
  · rw [if_neg e, if_pos (qs_ge (n := 84) (by decide) (by decide) (h.resolve_left e))]
theorem qs_W1 {S P : Nat} (h : S < 2) (hP : P < 4) : qs_W (nI S) (nI P) = 1 := by
  unfold qs_W qs_fW
  rw [qs_fS1 h, if_neg (by decide), if_neg (nI_pos (by omega)), if_neg (show ¬ (4 : Int32) ≤ nI P from nI_ge (b := 4) hP (by decide))]
theorem qs_W0s {s p : Int32} (h : qs_bS s) : qs_W s p = 0 := by
  unfold qs_W qs_fW
  rw [qs_fS0 h, if_pos rfl]
theorem qs_W0p {s p : Int32} (h : qs_bP p) : qs_W s p = 0 := by
  unfold qs_W qs_fW
  by_cases e0 : qs_fS s = 0
  · rw [if_pos e0]
  · rw [if_neg e0]
    by_cases e : p < 0
    · rw [if_pos e]
    · have z := h.resolve_left e
      have z4 : 4 ≤ p := by
        rw [Int32.lt_iff_toInt_lt] at z
        rw [Int32.le_iff_toInt_le]
        have y1 : (84 : Int32).toInt = 84 := by decide
        have y2 : (4 : Int32).toInt = 4 := by decide
        omega
      rw [if_neg e, if_pos z4]
theorem qs_W0 {s : Int32} {P : Nat} (h4 : 4 ≤ P) (h : P < 84) : qs_W s (nI P) = 0 := by
  unfold qs_W qs_fW
  by_cases e0 : qs_fS s = 0
  · rw [if_pos e0]
  · rw [if_neg e0, if_neg (nI_pos (by omega)), if_pos (show (4 : Int32) ≤ nI P from nI_le (a := 4) h4 (by omega))]
/-- what the sides hold: k where it was written, e where a folder was made -/
def qs_V (w g : Bool) (S P k R Q e : Nat) : Nat → Nat → Nat := fun t n => if (w = true ∧ t = S ∧ n = P) then k else if (g = true ∧ t = R ∧ n = Q) then e else 0
/-- w: written, at S, P -/
def qs_Pw (w : Bool) (s p : Int32) (S P : Nat) : Prop := S < 2 ∧ P < 4 ∧ (w = true → s = nI S ∧ p = nI P ∧ qs_W s p = 1) ∧ (w = false → qs_W s p = 0)
/-- g: a folder was made, at R, Q -/
def qs_Pg (w g : Bool) (s p q r : Int32) (S P R Q : Nat) : Prop := R < 2 ∧ Q < 4 ∧ (g = true → r = nI R ∧ q = nI Q ∧ qs_F s p q r = 0 ∧ ¬ (w = true ∧ S = R ∧ P = Q)) ∧ (g = false → ¬ qs_F s p q r = 0)
section
variable {mk pf pl ac cc al st dp : Int32} {a1 a2 a3 a4 a5 a6 a7 a8 a9 a10 a11 a12 a13 : Nat → Int32}
theorem qs_s1 {post : Int32 → St2 → Prop} {m : Nat} {s p x : Int32} (hok : qs_ok m a1 a3 a4) (hm : m + 8 ≤ 1024) (hT : qs_T m a3 a6 (fun _ _ => 0))
    (H : ∀ (w : Bool) (S P k m' : Nat) (d : Int32) (b1 b2 b3 b4 b6 b12 b13 : Nat → Int32), qs_Pw w s p S P → m' ≤ m + 2 → 1 ≤ k → (w = true → k < m' ∧ b1 k = 1 ∧ b2 k = x) → qs_ok m' b1 b3 b4 → qs_T m' b3 b6 (qs_V w false S P k 0 0 0) → post (qs_ePut (-1000000001) (qs_fS s) (qs_fP p) (qs_W s p)) (nI m', pf, pl, ac, cc, al, st, d, b1, b2, b3, b4, a5, b6, a7, a8, a9, a10, a11, b12, b13)) :
    wpX_write post (nI m, pf, pl, ac, cc, al, st, dp, a1, a2, a3, a4, a5, a6, a7, a8, a9, a10, a11, a12, a13) s p x := by
  have hT' : qs_T m a3 a6 (qs_V false false 0 0 1 0 0 0) := qs_T_c hT (fun t n _ _ => by
    unfold qs_V
    rw [if_neg (fun z => absurd z.1 (by decide)), if_neg (fun z => absurd z.1 (by decide))])
  have n0 : ¬ (0 : Int32) = 2 := by decide
  have n1 : ¬ (1 : Int32) = 0 := by decide
  by_cases hs : qs_bS s
  · refine qs_writeB (Or.inl hs) ?_
    have z := H false 0 0 1 m dp a1 a2 a3 a4 a6 a12 a13 ⟨by omega, by omega, fun e => absurd e (by decide), fun _ => qs_W0s hs⟩ (by omega) (by omega) (fun e => absurd e (by decide)) hok hT'
    unfold qs_ePut at z
    rw [qs_fS0 hs, if_pos rfl] at z
    exact z
  · obtain ⟨S, hS, rfl⟩ := qs_gS hs
    by_cases hp : qs_bP p
    · refine qs_writeB (Or.inr hp) ?_
      have z := H false 0 0 1 m dp a1 a2 a3 a4 a6 a12 a13 ⟨by omega, by omega, fun e => absurd e (by decide), fun _ => qs_W0p hp⟩ (by omega) (by omega) (fun e => absurd e (by decide)) hok hT'
      unfold qs_ePut at z
      rw [qs_fS1 hS, if_neg n1, qs_fP0 hp, if_pos rfl] at z
      exact z
    · obtain ⟨P, hP, rfl⟩ := qs_gP hp
      refine qs_write hS hP hm hok hT (fun n _ => by rw [hok.2.1]; exact n0) (fun h4 d b12 b13 => ?_) (fun h4 k m' d b1 b2 b3 b4 b6 b12 b13 k1 k2 k3 k4 k5 k6 k7 k8 => ?_)
      · have z := H false 0 0 1 m d a1 a2 a3 a4 a6 b12 b13 ⟨by omega, by omega, fun e => absurd e (by decide), fun _ => qs_W0 h4 hP⟩ (by omega) (by omega) (fun e => absurd e (by decide)) hok hT'
        unfold qs_ePut at z
        rw [qs_fS1 hS, if_neg n1, qs_fP1 hP, if_neg n1, qs_W0 h4 hP, if_pos rfl] at z
        exact z
      · have z := H true S P k m' d b1 b2 b3 b4 b6 b12 b13 ⟨hS, h4, fun _ => ⟨rfl, rfl, qs_W1 hS h4⟩, fun e => absurd e (by decide)⟩ k2 k3 (fun _ => ⟨k4, k7, k8⟩) k5 (qs_T_c k6 (fun t n _ _ => by
          unfold qs_V qs_set2
          by_cases e1 : t = S
          · by_cases e2 : n = P
            · rw [if_pos ⟨rfl, e1, e2⟩, if_pos e1, if_pos e2]
            · rw [if_neg (fun z => e2 z.2.2), if_pos e1, if_neg e2, if_neg (fun z => absurd z.1 (by decide))]
          · rw [if_neg (fun z => e1 z.2.1), if_neg e1, if_neg (fun z => absurd z.1 (by decide))]))
        unfold qs_ePut at z
        rw [qs_fS1 hS, if_neg n1, qs_fP1 hP, if_neg n1, qs_W1 hS h4, if_neg n1] at z
        rw [hok.2.1]
        exact z
theorem qs_Vw {w : Bool} {S P k R Q e : Nat} (h : w = true) : qs_V w false S P k R Q e S P = k := if_pos ⟨h, rfl, rfl⟩
theorem qs_V0 {w g : Bool} {S P k R Q e t n : Nat} (h : ¬ (w = true ∧ t = S ∧ n = P)) (h' : ¬ (g = true ∧ t = R ∧ n = Q)) : qs_V w g S P k R Q e t n = 0 := by
  unfold qs_V
  rw [if_neg h, if_neg h']
theorem qs_nf0 {P : Prop} : ¬ (false = true ∧ P) := fun z => absurd z.1 (by decide)
theorem qs_s2 {post : Int32 → St2 → Prop} {m S P k : Nat} {w : Bool} {s p q x : Int32} (hw : qs_Pw w s p S P) (hok : qs_ok m a1 a3 a4) (hm : m ≤ 1024) (hk : w = true → k < m ∧ a1 k = 1 ∧ a2 k = x) (hT : qs_T m a3 a6 (qs_V w false S P k 0 0 0))
    (H : ∀ (d : Int32) (b12 b13 : Nat → Int32), post (qs_eNum (-1000000001) (qs_fS s) (qs_fP q) (qs_W s p) q p x) (mk, pf, pl, ac, cc, al, st, d, a1, a2, a3, a4, a5, a6, a7, a8, a9, a10, a11, b12, b13)) :
    wpX_number post (mk, pf, pl, ac, cc, al, st, dp, a1, a2, a3, a4, a5, a6, a7, a8, a9, a10, a11, a12, a13) s q := by
  have n1 : ¬ (1 : Int32) = 0 := by decide
  unfold qs_eNum at H
  by_cases hs : qs_bS s
  · rw [qs_fS0 hs, if_pos rfl] at H
    exact qs_numberB (Or.inl hs) (H dp a12 a13)
  · obtain ⟨S', hS', es⟩ := qs_gS hs
    by_cases hq : qs_bP q
    · rw [es, qs_fS1 hS', if_neg n1, qs_fP0 hq, if_pos rfl] at H
      exact qs_numberB (Or.inr hq) (H dp a12 a13)
    · obtain ⟨Q, hQ, eq⟩ := qs_gP hq
      rw [es, eq, qs_fS1 hS', if_neg n1, qs_fP1 hQ, if_neg n1, ← es] at H
      rw [es, eq]
      obtain ⟨w1, w2, w3, w4⟩ := hw
      cases w with
      | false =>
        rw [w4 rfl, if_pos rfl] at H
        have e0 : qs_at (qs_V false false S P k 0 0 0 S') Q = 0 := by
          unfold qs_at
          split
          · exact qs_V0 qs_nf0 qs_nf0
          · rfl
        refine qs_number hS' hQ hm hok hT (fun e => ?_) (fun _ => H)
        rw [e0, hok.2.1] at e
        exact absurd e (by decide)
      | true =>
        obtain ⟨u1, u2, u3⟩ := w3 rfl
        obtain ⟨v1, v2, v3⟩ := hk rfl
        have eS : S' = S := (nI_eq (by omega) (by omega)).mp (es.symm.trans u1)
        subst eS
        rw [u3, if_neg n1, u2] at H
        by_cases eQ : Q = P
        · subst eQ
          rw [if_pos rfl] at H
          have e0 : qs_at (qs_V true false S' Q k 0 0 0 S') Q = k := (if_pos w2).trans (qs_Vw rfl)
          refine qs_number hS' hQ hm hok hT (fun _ => ?_) (fun e => ?_)
          · rw [e0, v3]
            exact H
          · rw [e0] at e
            exact absurd v2 e
        · rw [if_neg (fun z => eQ ((nI_eq (by omega) (by omega)).mp z))] at H
          have e0 : qs_at (qs_V true false S' P k 0 0 0 S') Q = 0 := by
            unfold qs_at
            split
            · exact qs_V0 (fun z => eQ z.2.2) qs_nf0
            · rfl
          refine qs_number hS' hQ hm hok hT (fun e => ?_) (fun _ => H)
          rw [e0, hok.2.1] at e
          exact absurd e (by decide)
end
end
section
theorem qs_Vf {w : Bool} {S P k R Q e t n : Nat} : qs_V w false S P k R Q e t n = qs_V w false S P k 0 0 0 t n := by
  unfold qs_V
  rw [if_neg (c := false = true ∧ t = R ∧ n = Q) qs_nf0, if_neg (c := false = true ∧ t = 0 ∧ n = 0) qs_nf0]
/-- how many actions there are to do -/
def qs_due (w g : Bool) (P Q : Nat) : Nat := if w = true then (if g = true then (if P = Q then 0 else 2) else 1) else (if g = true then 1 else 0)
theorem qs_dueF : ∀ (w g : Bool) (S : Fin 2) (P : Fin 4) (R : Fin 2) (Q : Fin 4), ¬ (w = true ∧ g = true ∧ S.val = R.val ∧ P.val = Q.val) → qs_cnt (qs_V w g S.val P.val 1 R.val Q.val 1) 4 = qs_due w g P.val Q.val := by
  intro w g
  cases w <;> cases g <;> decide +kernel
theorem qs_dueT (w g : Bool) (S : Nat) (hS : S < 2) (P : Nat) (hP : P < 4) (R : Nat) (hR : R < 2) (Q : Nat) (hQ : Q < 4) (h : ¬ (w = true ∧ g = true ∧ S = R ∧ P = Q)) : qs_cnt (qs_V w g S P 1 R Q 1) 4 = qs_due w g P Q :=
  qs_dueF w g ⟨S, hS⟩ ⟨P, hP⟩ ⟨R, hR⟩ ⟨Q, hQ⟩ h
theorem qs_z1 {w g : Bool} {S P k R Q e t n : Nat} (hk : 1 ≤ k) (he : 1 ≤ e) : (qs_V w g S P k R Q e t n = 0) = (qs_V w g S P 1 R Q 1 t n = 0) := by
  unfold qs_V
  split
  · exact propext ⟨fun h => absurd h (by omega), fun h => absurd h (by omega)⟩
  · split
    · exact propext ⟨fun h => absurd h (by omega), fun h => absurd h (by omega)⟩
    · rfl
theorem qs_d1 {w g : Bool} {S P k R Q e n : Nat} (hk : 1 ≤ k) (he : 1 ≤ e) : qs_d (qs_V w g S P k R Q e) n = qs_d (qs_V w g S P 1 R Q 1) n := by
  have h0 := qs_z1 (w := w) (g := g) (S := S) (P := P) (R := R) (Q := Q) (t := 0) (n := n) hk he
  have h1 := qs_z1 (w := w) (g := g) (S := S) (P := P) (R := R) (Q := Q) (t := 1) (n := n) hk he
  unfold qs_d
  simp only [h0, h1]
theorem qs_cntV {w g : Bool} {S P k R Q e : Nat} (hS : S < 2) (hP : P < 4) (hR : R < 2) (hQ : Q < 4) (hk : 1 ≤ k) (he : 1 ≤ e) (hn : ¬ (w = true ∧ g = true ∧ S = R ∧ P = Q)) : qs_cnt (qs_V w g S P k R Q e) 4 = qs_due w g P Q := by
  rw [← qs_dueT w g S hS P hP R hR Q hQ hn]
  show 0 + qs_d _ 0 + qs_d _ 1 + qs_d _ 2 + qs_d _ 3 = 0 + qs_d _ 0 + qs_d _ 1 + qs_d _ 2 + qs_d _ 3
  rw [qs_d1 hk he, qs_d1 hk he, qs_d1 hk he, qs_d1 hk he]
theorem qs_dueL {w g : Bool} {s p q r : Int32} {S P R Q : Nat} (hw : qs_Pw w s p S P) (hg : qs_Pg w g s p q r S P R Q) : nI (qs_due w g P Q) = qs_fD (qs_W s p) (qs_F s p q r) (qs_fB (qs_W s p) (qs_F s p q r)) p q := by
  obtain ⟨w1, w2, w3, w4⟩ := hw
  obtain ⟨g1, g2, g3, g4⟩ := hg
  have n1 : ¬ (1 : Int32) = 0 := by decide
  unfold qs_due qs_fD qs_fB
  cases w with
  | true =>
    obtain ⟨u1, u2, u3⟩ := w3 rfl
    rw [u3, if_neg n1, if_neg n1, if_pos rfl]
    cases g with
    | true =>
      obtain ⟨v1, v2, v3, v4⟩ := g3 rfl
      rw [v3, if_pos rfl, if_pos rfl, if_neg n1, u2, v2]
      by_cases e : P = Q
      · rw [if_pos e, if_pos (by rw [e])]
        decide
      · rw [if_neg e, if_neg (fun z => e ((nI_eq (by omega) (by omega)).mp z))]
        decide
    | false =>
      rw [if_neg (g4 rfl), if_pos rfl, if_neg (by decide)]
      decide
  | false =>
    rw [w4 rfl, if_pos rfl, if_pos rfl, if_pos rfl, if_neg (by decide)]
    cases g with
    | true =>
      rw [(g3 rfl).2.2.1, if_pos rfl, if_pos rfl]
      decide
    | false =>
      rw [if_neg (g4 rfl), if_neg (by decide)]
      decide
theorem qs_pref {x : Int32} : (if x = -1 then (0 : Int32) else if x < 0 then -1000000001 else if x ≤ 1 then 0 else -1000000001) = qs_ePref (-1000000001) x := by
  have m1 : (-1 : Int32).toInt = -1 := by decide
  have m0 : (0 : Int32).toInt = 0 := by decide
  have o1 : (1 : Int32).toInt = 1 := by decide
  have e1 : x = -1 ↔ x.toInt = -1 := by rw [← Int32.toInt_inj, m1]
  have e2 : x < 0 ↔ x.toInt < 0 := by rw [Int32.lt_iff_toInt_lt, m0]
  have e3 : x ≤ 1 ↔ x.toInt ≤ 1 := by rw [Int32.le_iff_toInt_le, o1]
  have e4 : x < -1 ↔ x.toInt < -1 := by rw [Int32.lt_iff_toInt_lt, m1]
  have e5 : 1 < x ↔ 1 < x.toInt := by rw [Int32.lt_iff_toInt_lt, o1]
  unfold qs_ePref
  by_cases c1 : x = -1
  · have y := e1.mp c1
    rw [if_pos c1, if_neg (fun z => by have := e4.mp z; omega), if_neg (fun z => by have := e5.mp z; omega)]
  · have y : ¬ x.toInt = -1 := fun z => c1 (e1.mpr z)
    rw [if_neg c1]
    by_cases c2 : x < 0
    · have y2 := e2.mp c2
      rw [if_pos c2, if_pos (e4.mpr (by omega))]
    · have y2 : ¬ x.toInt < 0 := fun z => c2 (e2.mpr z)
      rw [if_neg c2, if_neg (c := x < -1) (fun z => by have := e4.mp z; omega)]
      by_cases c3 : x ≤ 1
      · have y3 := e3.mp c3
        rw [if_pos c3, if_neg (fun z => by have := e5.mp z; omega)]
      · have y3 : ¬ x.toInt ≤ 1 := fun z => c3 (e3.mpr z)
        rw [if_neg c3, if_pos (e5.mpr (by omega))]
section
variable {mk pf pl ac cc al st dp : Int32} {a1 a2 a3 a4 a5 a6 a7 a8 a9 a10 a11 a12 a13 : Nat → Int32}
theorem qs_s3 {post : Int32 → St2 → Prop} {m S P k : Nat} {w : Bool} {s p q r x : Int32} (hw : qs_Pw w s p S P) (hok : qs_ok m a1 a3 a4) (hm : m + 8 ≤ 1024) (hk1 : 1 ≤ k) (hk : w = true → k < m ∧ a1 k = 1 ∧ a2 k = x) (hT : qs_T m a3 a6 (qs_V w false S P k 0 0 0))
    (H : ∀ (g : Bool) (R Q e m' : Nat) (d : Int32) (b1 b2 b3 b4 b6 b12 b13 : Nat → Int32), qs_Pg w g s p q r S P R Q → m' ≤ m + 2 → 1 ≤ e → (g = true → b1 e = 2) → (w = true → b1 k = 1) → qs_ok m' b1 b3 b4 → qs_T m' b3 b6 (qs_V w g S P k R Q e) → post (qs_F s p q r) (nI m', pf, pl, ac, cc, al, st, d, b1, b2, b3, b4, a5, b6, a7, a8, a9, a10, a11, b12, b13)) :
    wpX_folder post (nI m, pf, pl, ac, cc, al, st, dp, a1, a2, a3, a4, a5, a6, a7, a8, a9, a10, a11, a12, a13) r q := by
  have n1 : ¬ (1 : Int32) = 0 := by decide
  have hT' : qs_T m a3 a6 (qs_V w false S P k 0 0 1) := qs_T_c hT (fun t n _ _ => qs_Vf)
  have bad : ∀ (y : Int32), qs_F s p q r = y → ¬ y = 0 → ∀ (d : Int32) (b12 b13 : Nat → Int32), post y (nI m, pf, pl, ac, cc, al, st, d, a1, a2, a3, a4, a5, a6, a7, a8, a9, a10, a11, b12, b13) := by
    intro y e hy d b12 b13
    have z := H false 0 0 1 m d a1 a2 a3 a4 a6 b12 b13 ⟨by omega, by omega, fun e => absurd e (by decide), fun _ => by rw [e]; exact hy⟩ (by omega) (by omega) (fun e => absurd e (by decide)) (fun e => (hk e).2.1) hok hT'
    rw [e] at z
    exact z
  by_cases hr : qs_bS r
  · refine qs_folderB (Or.inl hr) (bad _ ?_ (by decide) dp a12 a13)
    unfold qs_F qs_fF
    rw [qs_fS0 hr, if_pos rfl]
  · obtain ⟨R, hR, er⟩ := qs_gS hr
    by_cases hq : qs_bP q
    · refine qs_folderB (Or.inr hq) (bad _ ?_ (by decide) dp a12 a13)
      unfold qs_F qs_fF
      rw [er, qs_fS1 hR, if_neg n1, qs_fP0 hq, if_pos rfl]
    · obtain ⟨Q, hQ, eq⟩ := qs_gP hq
      have nf : ∀ n, n < 4 → ¬ a1 (qs_V w false S P k 0 0 0 R n) = 2 := by
        intro n hn
        by_cases c : w = true ∧ R = S ∧ n = P
        · rw [show qs_V w false S P k 0 0 0 R n = k from if_pos c, (hk c.1).2.1]
          decide
        · rw [qs_V0 c qs_nf0, hok.2.1]
          decide
      have eF : qs_F s p q r = if q ≤ 3 then (if qs_fT (qs_W s p) s p q r = 0 then 0 else -1000000001 - 2) else -1000000001 - 1 := by
        unfold qs_F qs_fF
        rw [er, qs_fS1 hR, if_neg n1, eq, qs_fP1 hQ, if_neg n1]
      obtain ⟨w1, w2, w3, w4⟩ := hw
      rw [er, eq]
      refine qs_folder hR hQ hm hok hT nf (fun h4 => bad _ ?_ (by decide)) (fun h4 hne => bad _ ?_ (by decide)) (fun h4 h0 e m' d b1 b2 b3 b4 b6 b12 b13 k1 k2 k3 k4 k5 k6 k7 k8 => ?_)
      · rw [eF, if_neg (by rw [eq]; exact nI_ge (a := 3) (b := Q) (by omega) (by omega))]
        decide
      · have c : w = true ∧ R = S ∧ Q = P := Classical.byContradiction (fun c => hne (qs_V0 c qs_nf0))
        obtain ⟨u1, u2, u3⟩ := w3 c.1
        have eT : qs_fT (qs_W s p) s p q r = 1 := by
          unfold qs_fT
          rw [u3, if_neg n1, if_pos (by rw [er, u1, c.2.1]), if_pos (by rw [eq, u2, c.2.2])]
        rw [eF, if_pos (by rw [eq]; exact nI_le (a := Q) (b := 3) (by omega) (by omega)), eT, if_neg n1]
        decide
      · have c : ¬ (w = true ∧ R = S ∧ Q = P) := by
          intro c
          rw [show qs_V w false S P k 0 0 0 R Q = k from if_pos c] at h0
          omega
        have eT : qs_fT (qs_W s p) s p q r = 0 := by
          unfold qs_fT
          cases w with
          | false => rw [w4 rfl, if_pos rfl]
          | true =>
            obtain ⟨u1, u2, u3⟩ := w3 rfl
            rw [u3, if_neg n1]
            by_cases c1 : r = s
            · rw [if_pos c1, if_neg]
              intro c2
              refine c ⟨rfl, ?_, ?_⟩
              · exact (nI_eq (by omega) (by omega)).mp (er.symm.trans (c1.trans u1))
              · exact (nI_eq (by omega) (by omega)).mp (eq.symm.trans (c2.trans u2))
            · rw [if_neg c1]
        have eF0 : qs_F s p q r = 0 := by
          rw [eF, if_pos (by rw [eq]; exact nI_le (a := Q) (b := 3) (by omega) (by omega)), eT, if_pos rfl]
        have z := H true R Q e m' d b1 b2 b3 b4 b6 b12 b13 ⟨hR, h4, fun _ => ⟨er, eq, eF0, fun y => c ⟨y.1, y.2.1.symm, y.2.2.symm⟩⟩, fun y => absurd y (by decide)⟩ k2 k3 (fun _ => k8) (fun y => ((k6.1 k (hk y).1).1).trans (hk y).2.1) k5 (qs_T_c k7 (fun t n _ _ => by
          unfold qs_set2
          by_cases d1 : t = R
          · by_cases d2 : n = Q
            · rw [if_pos d1, if_pos d2]
              unfold qs_V
              rw [if_neg (by rw [d1, d2]; exact c), if_pos ⟨rfl, d1, d2⟩]
            · rw [if_pos d1, if_neg d2]
              unfold qs_V
              rw [if_neg (c := true = true ∧ t = R ∧ n = Q) (fun y => d2 y.2.2), if_neg (c := false = true ∧ t = 0 ∧ n = 0) qs_nf0]
          · rw [if_neg d1]
            unfold qs_V
            rw [if_neg (c := true = true ∧ t = R ∧ n = Q) (fun y => d1 y.2.1), if_neg (c := false = true ∧ t = 0 ∧ n = 0) qs_nf0]))
        rw [eF0] at z
        exact z
theorem qs_s4 {post : Int32 → St2 → Prop} {m S P k R Q e : Nat} {w g : Bool} {s p q r : Int32} (hw : qs_Pw w s p S P) (hg : qs_Pg w g s p q r S P R Q) (hok : qs_ok m a1 a3 a4) (hm : m + 24 ≤ 1024) (hk1 : 1 ≤ k) (he1 : 1 ≤ e) (hk : w = true → a1 k = 1) (he : g = true → a1 e = 2) (hT : qs_T m a3 a6 (qs_V w g S P k R Q e))
    (H : ∀ (m' : Nat) (f l c2 v d : Int32) (c : Nat) (b1 b2 b3 b4 b6 b8 b9 b10 b11 b12 b13 : Nat → Int32), m' + 16 ≤ 1024 → qs_ok m' b1 b3 b4 → qs_T m' b3 b6 (qs_V w g S P k R Q e) → post (qs_fD (qs_W s p) (qs_F s p q r) (qs_fB (qs_W s p) (qs_F s p q r)) p q) (nI m', -1, f, nI c, c2, l, v, d, b1, b2, b3, b4, a5, b6, a7, b8, b9, b10, b11, b12, b13)) :
    wpX_actions post (nI m, -1, pl, ac, cc, al, st, dp, a1, a2, a3, a4, a5, a6, a7, a8, a9, a10, a11, a12, a13) := by
  have hS := hw.1
  have hR := hg.1
  have hd : nI (qs_cnt (qs_V w g S P k R Q e) 4) = qs_fD (qs_W s p) (qs_F s p q r) (qs_fB (qs_W s p) (qs_F s p q r)) p q := by
    rw [qs_cntV hS hw.2.1 hR hg.2.1 hk1 he1 (fun z => (hg.2.2.1 z.2.1).2.2.2 ⟨z.1, z.2.2⟩)]
    exact qs_dueL hw hg
  refine qs_actions hok hm hT (fun n _ => ?_) (fun n hn h0 h1 => ?_) (fun m' f l c2 v d b1 b2 b3 b4 b6 b8 b9 b10 b11 b12 b13 k1 k2 k3 => ?_)
  · exact qs_V0 (fun z => by have := z.2.1; omega) (fun z => by have := z.2.1; omega)
  · unfold qs_V at h0 h1 ⊢
    have d12 : ¬ (1 : Int32) = 2 := by decide
    by_cases c0 : w = true ∧ 0 = S ∧ n = P
    · have c1 : ¬ (w = true ∧ 1 = S ∧ n = P) := fun z => by have := z.2.1; have := c0.2.1; omega
      rw [if_neg c1] at h1 ⊢
      by_cases c2 : g = true ∧ 1 = R ∧ n = Q
      · rw [if_pos c2, if_pos c0]
        refine ⟨fun z => ?_, fun z => ?_⟩
        · have y := hk c0.1
          rw [z, he c2.1] at y
          exact absurd y (by decide)
        · have y := z.1
          rw [hk c0.1] at y
          exact absurd y d12
      · rw [if_neg c2] at h1
        exact absurd rfl h1
    · rw [if_neg c0] at h0 ⊢
      by_cases c1 : g = true ∧ 0 = R ∧ n = Q
      · have c2 : ¬ (g = true ∧ 1 = R ∧ n = Q) := fun z => by have := z.2.1; have := c1.2.1; omega
        rw [if_neg c2] at h1 ⊢
        by_cases c3 : w = true ∧ 1 = S ∧ n = P
        · rw [if_pos c1, if_pos c3]
          refine ⟨fun z => ?_, fun z => ?_⟩
          · have y := hk c3.1
            rw [← z, he c1.1] at y
            exact absurd y (by decide)
          · have y := z.2
            rw [hk c3.1] at y
            exact absurd y d12
        · rw [if_neg c3] at h1
          exact absurd rfl h1
      · rw [if_neg c1] at h0
        exact absurd rfl h0
  · rw [hd]
    have z := H m' f l c2 v d (qs_cnt (qs_V w g S P k R Q e) 4) b1 b2 b3 b4 b6 b8 b9 b10 b11 b12 b13 k1 k2 k3
    rw [hd] at z
    exact z
theorem qs_s5 {post : Int32 → St2 → Prop} {m S P k R Q e : Nat} {w g : Bool} {s p q r : Int32} (hw : qs_Pw w s p S P) (hg : qs_Pg w g s p q r S P R Q) (hok : qs_ok m a1 a3 a4) (hm : m + 8 ≤ 1024) (hk1 : 1 ≤ k) (hT : qs_T m a3 a6 (qs_V w g S P k R Q e))
    (H : ∀ (m' d : Int32) (b1 b2 b3 b4 b6 b12 b13 : Nat → Int32), post (qs_eRem (-1000000001) (qs_fS s) (qs_fP p) (qs_W s p) (qs_F s p q r) r s q p) (m', pf, pl, ac, cc, al, st, d, b1, b2, b3, b4, a5, b6, a7, a8, a9, a10, a11, b12, b13)) :
    wpX_remove post (nI m, pf, pl, ac, cc, al, st, dp, a1, a2, a3, a4, a5, a6, a7, a8, a9, a10, a11, a12, a13) s p := by
  have n1 : ¬ (1 : Int32) = 0 := by decide
  unfold qs_eRem at H
  by_cases hs : qs_bS s
  · rw [qs_fS0 hs, if_pos rfl] at H
    exact qs_removeB (Or.inl hs) (H _ dp a1 a2 a3 a4 a6 a12 a13)
  · obtain ⟨S', hS', es⟩ := qs_gS hs
    have fs : qs_fS s = 1 := by rw [es]; exact qs_fS1 hS'
    by_cases hp : qs_bP p
    · rw [fs, if_neg n1, qs_fP0 hp, if_pos rfl] at H
      exact qs_removeB (Or.inr hp) (H _ dp a1 a2 a3 a4 a6 a12 a13)
    · obtain ⟨P', hP', ep⟩ := qs_gP hp
      have fp : qs_fP p = 1 := by rw [ep]; exact qs_fP1 hP'
      rw [fs, if_neg n1, fp, if_neg n1] at H
      obtain ⟨w1, w2, w3, w4⟩ := hw
      cases w with
      | true =>
        obtain ⟨u1, u2, u3⟩ := w3 rfl
        rw [u3, if_neg n1] at H
        have eS : S' = S := (nI_eq (by omega) (by omega)).mp (es.symm.trans u1)
        have eP : P' = P := (nI_eq (by omega) (by omega)).mp (ep.symm.trans u2)
        have e0 : qs_at (qs_V true g S P k R Q e S) P = k := (if_pos w2).trans (if_pos ⟨rfl, rfl, rfl⟩)
        rw [u1, u2]
        refine qs_remove w1 (by omega) hm hok hT (fun z => ?_) (fun _ m' d b1 b2 b3 b4 b6 b12 b13 => H _ d b1 b2 b3 b4 b6 b12 b13)
        rw [e0] at z
        omega
      | false =>
        rw [w4 rfl, if_pos rfl] at H
        have h4 : 4 ≤ P' := by
          rcases Nat.lt_or_ge P' 4 with z | z
          · have y := w4 rfl
            rw [es, ep, qs_W1 hS' z] at y
            exact absurd y n1
          · exact z
        have e3 : (if qs_F s p q r = 0 then (if r = s then (if q = p then (1 : Int32) else -1000000001 - 3) else -1000000001 - 3) else -1000000001 - 3) = -1000000004 := by
          by_cases c : qs_F s p q r = 0
          · have hq : ¬ q = p := by
              intro y
              cases g with
              | true =>
                have y2 := (hg.2.2.1 rfl).2.1
                have y3 := hg.2.1
                have y4 : Q = P' := (nI_eq (by omega) (by omega)).mp (y2.symm.trans (y.trans ep))
                omega
              | false => exact hg.2.2.2 rfl c
            rw [if_pos c, if_neg hq]
            by_cases c1 : r = s
            · rw [if_pos c1]
              decide
            · rw [if_neg c1]
              decide
          · rw [if_neg c]
            decide
        rw [e3] at H
        rw [es, ep]
        have e0 : qs_at (qs_V false g S P k R Q e S') P' = 0 := if_neg (by omega)
        exact qs_remove hS' hP' hm hok hT (fun _ d b12 b13 => H _ d a1 a2 a3 a4 a6 b12 b13) (fun z => absurd e0 z)
end
end
section
section
variable {mk pf pl ac cc al st dp : Int32} {a1 a2 a3 a4 a5 a6 a7 a8 a9 a10 a11 a12 a13 : Nat → Int32}
theorem qs_start {post : St2 → Prop} (z1 : a1 0 = 0) (z3 : ∀ n, n < 4 → a3 n = 0)
    (H : ∀ (m' : Nat) (b1 b2 b3 b4 b6 : Nat → Int32), m' ≤ 2 → qs_ok m' b1 b3 b4 → qs_T m' b3 b6 (fun _ _ => 0) → post (nI m', pf, pl, ac, cc, al, st, dp, b1, b2, b3, b4, a5, b6, a7, a8, a9, a10, a11, a12, a13)) :
    wpX_start post (mk, pf, pl, ac, cc, al, st, dp, a1, a2, a3, a4, a5, a6, a7, a8, a9, a10, a11, a12, a13) := by
  unfold wpX_start
  dsimp only
  refine pk_loop (fun n i s => wX_start_7 post (nI 1) pf pl ac cc al st dp n (nI i) a1 a2 a3 s a5 a6 a7 a8 a9 a10 a11 a12 a13) (fun i s => ∀ j, j < i → s j = -1) 2048 0 a4 (by omega) (fun j hj => absurd hj (by omega)) (fun n b4 h => ?_) (fun n i b4 hi h hw => ?_)
  · refine pk_le 2048 2048 (fun _ => ?_) (fun z => absurd z (by omega))
    refine qs_content (m := 1) ⟨by omega, z1, z3, fun i hi => Or.inl (h i hi)⟩ (by omega) (fun k m' b1 b2 b3 b4 k1 k2 k3 k4 k5 k6 k7 => ?_)
    refine pk_loop (fun n i s => wX_start_40 post (nI k) (nI m') pf pl ac cc al st dp n (nI i) b1 b2 b3 b4 a5 s a7 a8 a9 a10 a11 a12 a13) (fun i s => ∀ j, j < i → s j = nI k) 9 0 a6 (by omega) (fun j hj => absurd hj (by omega)) (fun n b6 h6 => ?_) (fun n i b6 hi h6 hw => ?_)
    · refine pk_le 9 9 (fun _ => H m' b1 b2 b3 b4 b6 (by omega) k5 (fun t ht => ⟨k, h6 t (by omega), k4, fun n hn => ⟨show 0 < m' by omega, qs_leaf k7 n hn, fun i hi => ?_⟩⟩)) (fun z => absurd z (by omega))
      show b3 (4 * 0 + i) = 0
      rw [Nat.mul_zero, Nat.zero_add]
      exact k5.2.2.1 i hi
    · refine pk_le 9 i (fun z => absurd z (by omega)) (fun _ => ⟨pk_in i 9 hi, nm_r (e' := upd b6 i (nI k)) (by rw [nI_clamp (by omega)]) (nm_r (nI_1 i) (hw _ (fun j hj => ?_)))⟩)
      by_cases e : j = i
      · rw [e, pk_us]
      · rw [pk_un e]
        exact h6 j (by omega)
  · refine pk_le 2048 i (fun z => absurd z (by omega)) (fun _ => ⟨pk_in i 2048 hi, nm_r (e' := upd b4 i (-1)) (by rw [nI_clamp (by omega)]) (nm_r (nI_1 i) (hw _ (fun j hj => ?_)))⟩)
    by_cases e : j = i
    · rw [e, pk_us]
    · rw [pk_un e]
      exact h j (by omega)
theorem qs_lawOf {s p x q r : Int32} : wpL_lawOf (fun r _ => r = 1) 14 9598 () s p x q r := by
  unfold wpL_lawOf
  refine ⟨by omega, by omega, 13, 9577, by omega, by omega, ?_⟩
  unfold wpX_init
  dsimp only
  refine ⟨by omega, by omega, by omega, by omega, by omega, by omega, by omega, by omega, by omega, by omega, by omega, by omega, by omega, by omega, by omega, by omega, by omega, by omega, by omega, by omega, by omega, by omega, by omega, by omega, by omega, by omega, ?_⟩
  refine qs_start rfl (fun _ _ => rfl) (fun m b1 b2 b3 b4 b6 h1 h2 h3 => ?_)
  refine qs_s1 h2 (by omega) h3 (fun w S P k m1 d c1 c2 c3 c4 c6 c12 c13 i1 i2 i3 i4 i5 i6 => ?_)
  refine qs_s2 (x := x) i1 i5 (by omega) i4 i6 (fun d' b12 b13 => ?_)
  refine qs_s3 (x := x) i1 i5 (by omega) i3 i4 i6 (fun g R Q e m2 d2 e1 e2 e3 e4 e6 e12 e13 j1 j2 j3 j4 j5 j6 j7 => ?_)
  refine qs_s4 i1 j1 j6 (by omega) i3 j3 j5 j4 j7 (fun m3 f l cc v d3 c f1 f2 f3 f4 f6 f8 f9 f10 f11 f12 f13 l1 l2 l3 => ?_)
  refine qs_s5 i1 j1 l2 (by omega) i3 l3 (fun m4 d4 g1 g2 g3 g4 g6 g12 g13 => ?_)
  refine qs_prefer (fun f => ?_)
  exact qs_tail rfl rfl rfl rfl rfl rfl qs_pref
theorem qs_cell {post : Int32 → Prop} {L i : Nat} {xs : Nat → Int32} (hL : L ≤ 5) (hi : i < 5) (H : ∀ v, post v) : wpL_cellAt post L xs () (nI i) := by
  unfold wpL_cellAt
  exact pk_le L i (fun _ => H 0) (fun h => ⟨pk_in i L h, H _⟩)
end
theorem i_vc (xs : Nat → Int32) (L : Nat) (hL : L ≤ 5) : wpL_law (fun r => r = 1) L xs := by
  unfold wpL_law
  exact qs_cell (i := 0) hL (by omega) (fun _ => qs_cell (i := 1) hL (by omega) (fun _ => qs_cell (i := 2) hL (by omega) (fun _ => qs_cell (i := 3) hL (by omega) (fun _ => qs_cell (i := 4) hL (by omega) (fun _ => ⟨14, 9598, by omega, by omega, qs_lawOf⟩)))))
end
