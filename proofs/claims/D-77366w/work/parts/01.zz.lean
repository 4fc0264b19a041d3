theorem zz_trivial : True := trivial
