set_option maxRecDepth 100000
/-! an office of the model, in the world W -/
section MW
variable {G : zG} {d C Sl : Nat} {I W : zI} {L : zL} {P : zR} {S : zT} {Q : zQ}
theorem c_isOpenW (hM : mOk P S) (hW : wld I = W) {o h : Nat} (ho : o < 6) (kt : opn W o h = true → Q (.inl (some (.int (nI 1)))) I L P S) (kf : opn W o h = false → Q (.inl (some (.int (nI 0)))) I L P S) : Zm G mX5_isOpen 2 C Sl [.ref 0, .int (nI o), .int (nI h)] I L P S Q := by
  subst hW
  exact c_X5_isOpen hM ho kt kf
theorem c_overlapOfW (hM : mOk P S) (hW : wld I = W) {a b h : Nat} (ha : a < 6) (hb : b < 6) (hh : h < 2 ^ 30) (k : Q (.inl (some (.int (nI (ovl W a b h))))) I L P S) : Zm G mX5_overlapOf 3 C Sl [.ref 0, .int (nI a), .int (nI b), .int (nI h)] I L P S Q := by
  subst hW
  exact c_X5_overlapOf hM ha hb hh k
theorem c_lostOfW (hM : mOk P S) (hW : wld I = W) {a b h : Nat} (ha : a < 6) (hb : b < 6) (hh : h < 2 ^ 30) (k : Q (.inl (some (.int (lst W a b h)))) I L P S) : Zm G mX5_lostOf 4 C Sl [.ref 0, .int (nI a), .int (nI b), .int (nI h)] I L P S Q := by
  subst hW
  exact c_X5_lostOf hM ha hb hh k
end MW
