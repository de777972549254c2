/-! ===== Throwable's two statics, as values .float 51 and .float 52 ===== -/
set_option maxRecDepth 100000
def xThr (E : xE) : Prop := (va_Z "java/lang/Throwable" "UNASSIGNED_STACK" "[Ljava/lang/StackTraceElement;" .null (fun q => E.2.1.heap.size ≤ q) E.2.1 E.2.1.heap ∨ va_Z "java/lang/Throwable" "UNASSIGNED_STACK" "[Ljava/lang/StackTraceElement;" (.ref (E.2.2.2.2.2 51)) (fun q => E.2.1.heap.size ≤ q) E.2.1 E.2.1.heap) ∧ (va_Z "java/lang/Throwable" "SUPPRESSED_SENTINEL" "Ljava/util/List;" .null (fun q => E.2.1.heap.size ≤ q) E.2.1 E.2.1.heap ∨ va_Z "java/lang/Throwable" "SUPPRESSED_SENTINEL" "Ljava/util/List;" (.ref (E.2.2.2.2.2 52)) (fun q => E.2.1.heap.size ≤ q) E.2.1 E.2.1.heap)
section X31
variable {E : xE} {I : xI} {R : Room} {Φ : xOut → xH → Prop} {nc ns pc : Nat} {lv : List (Option Value)} {st : List Value} {G : xH}
theorem xj_gsU {idx : Nat} (hthr : xThr E) (hd : decode I.2.1 pc = .ok (.getstatic idx, 3)) (hw1 : Cond.fieldLink I.1.cls idx "java/lang/Throwable" "UNASSIGNED_STACK" "[Ljava/lang/StackTraceElement;" ∈ lw_all) (kk : ∀ v : Value, xrf v = true → xJ E I R Φ nc ns (pc + 3) lv (v :: st) G) : xJ E I R Φ nc ns pc lv st G := by
  intro p e s m args below meth c H locs cells slots ls B
  have hW := B.2.1.2.2.2.2.2.2.1
  rcases hthr.1 with hz | hz
  · obtain ⟨cf, kf, fi, f, a, cell, h1, h2, h3, h4, h5, h6, h7, h8⟩ := (va_Z.moved hW.alike hz).kept (fun a _ h2 => B.2.2.1.2.1 a (Nat.lt_of_not_le h2))
    exact W.gets B.2.1.1 B.2.1.2.1 B.2.1.2.2.2.2.2.1 (B.1.word hW hw1 args) h1 h2 h3 h4 h5 (fun e => by rw [e] at h6; cases h6) h7 rfl hd (kk .null rfl p e s m args below meth c H locs cells slots ls B)
  · obtain ⟨cf, kf, fi, f, a, cell, h1, h2, h3, h4, h5, h6, h7, h8⟩ := (va_Z.moved hW.alike hz).kept (fun a _ h2 => B.2.2.1.2.1 a (Nat.lt_of_not_le h2))
    exact W.gets B.2.1.1 B.2.1.2.1 B.2.1.2.2.2.2.2.1 (B.1.word hW hw1 args) h1 h2 h3 h4 h5 (fun e => by rw [e] at h6; cases h6) h7 rfl hd (kk (.float 51) rfl p e s m args below meth c H locs cells slots ls B)
theorem xj_gsN {idx : Nat} (hthr : xThr E) (hd : decode I.2.1 pc = .ok (.getstatic idx, 3)) (hw1 : Cond.fieldLink I.1.cls idx "java/lang/Throwable" "SUPPRESSED_SENTINEL" "Ljava/util/List;" ∈ lw_all) (kk : ∀ v : Value, xrf v = true → xJ E I R Φ nc ns (pc + 3) lv (v :: st) G) : xJ E I R Φ nc ns pc lv st G := by
  intro p e s m args below meth c H locs cells slots ls B
  have hW := B.2.1.2.2.2.2.2.2.1
  rcases hthr.2 with hz | hz
  · obtain ⟨cf, kf, fi, f, a, cell, h1, h2, h3, h4, h5, h6, h7, h8⟩ := (va_Z.moved hW.alike hz).kept (fun a _ h2 => B.2.2.1.2.1 a (Nat.lt_of_not_le h2))
    exact W.gets B.2.1.1 B.2.1.2.1 B.2.1.2.2.2.2.2.1 (B.1.word hW hw1 args) h1 h2 h3 h4 h5 (fun e => by rw [e] at h6; cases h6) h7 rfl hd (kk .null rfl p e s m args below meth c H locs cells slots ls B)
  · obtain ⟨cf, kf, fi, f, a, cell, h1, h2, h3, h4, h5, h6, h7, h8⟩ := (va_Z.moved hW.alike hz).kept (fun a _ h2 => B.2.2.1.2.1 a (Nat.lt_of_not_le h2))
    exact W.gets B.2.1.1 B.2.1.2.1 B.2.1.2.2.2.2.2.1 (B.1.word hW hw1 args) h1 h2 h3 h4 h5 (fun e => by rw [e] at h6; cases h6) h7 rfl hd (kk (.float 52) rfl p e s m args below meth c H locs cells slots ls B)
end X31
